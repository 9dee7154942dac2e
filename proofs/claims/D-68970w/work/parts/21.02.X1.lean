section RulesX1
set_option maxRecDepth 100000
theorem rX1_check {d n : Nat} {w : bW} {Q : Int → bW → Prop} {X : String → bW → Prop} (hn : 143 ≤ n) (h : b_K d mX1_reads [(2, 0)] n w (fun r1 w2 => if r1 ≠ 0 then (b_K d mX22_mark [(2, 102)] n w2 (fun r3 w4 => b_K d mX16_type [(2, 65), (0, 0)] n w4 (fun r5 w6 => if r5 < 0 then (b_K d mX22_drop [(2, 102)] n w6 (fun r7 w8 => Q 2 (b_up w8 102 15 (w8 65 15))) X) else (b_K d mX22_drop [(2, 102)] n w6 (fun r9 w10 => Q 0 w10) X)) X) X) else (Q 1 (b_up w2 102 15 (w2 6 13)))) X) : b_K (d + 1) mX1_check [(2, 0)] n w Q X := by
  have i0 := iz0 (Nat.le_trans (Nat.le_of_ble_eq_true rfl) hn)
  have i6 := iz6 (Nat.le_trans (Nat.le_of_ble_eq_true rfl) hn)
  have i65 := iz65 (Nat.le_trans (Nat.le_of_ble_eq_true rfl) hn)
  have i102 := iz102 (Nat.le_trans (Nat.le_of_ble_eq_true rfl) hn)
  refine k_of (by decide) rfl rfl rfl (ls := [(2, 0), (9, 0)]) rfl ?_
  refine x_aload_n 0 dX1_check_0 rfl rfl rfl rfl rfl ?_
  refine y_Vi 195 (M := mX1_reads) (As := []) (st := []) dX1_check_1 i0 rfl q1671 q1673 qs4 q358 q1674 rfl hmX1_reads rfl rfl rfl rfl rfl rfl rfl rfl (k_mono h (fun r1 w2 h => ?_))
  refine x_if_ne (t := 23) 19 dX1_check_4 rfl rfl (b_ite h (fun hc h => ?_) (fun hc h => ?_))
  · refine x_aload_n 0 dX1_check_23 rfl rfl rfl rfl rfl ?_
    refine y_getF 146 18 (c := 0) (z := 102) dX1_check_24 i0 rfl in_X1 q1585 rfl rfl rfl fn_0_18 (Nat.le_trans (Nat.le_of_ble_eq_true rfl) hn) rfl ?_
    refine y_Vv 205 (M := mX22_mark) (As := []) (st := []) dX1_check_27 i102 rfl q1809 q1810 q1811 q389 q1812 rfl hmX22_mark rfl rfl rfl rfl rfl rfl rfl (k_mono h (fun r3 w4 h => ?_))
    refine x_aload_n 0 dX1_check_30 rfl rfl rfl rfl rfl ?_
    refine y_getF 114 14 (c := 0) (z := 65) dX1_check_31 i0 rfl in_X1 q1581 rfl rfl rfl fn_0_14 (Nat.le_trans (Nat.le_of_ble_eq_true rfl) hn) rfl ?_
    refine x_iconst 0 (z := 0) dX1_check_34 rfl (by decide) rfl ?_
    refine y_Vi 208 (M := mX16_type) (As := [(0, 0)]) (st := []) dX1_check_35 i65 rfl q1817 q1818 q1819 q383 q1820 rfl hmX16_type rfl rfl rfl rfl rfl rfl rfl rfl (k_mono h (fun r5 w6 h => ?_))
    refine x_if_lt (t := 45) 7 dX1_check_38 rfl rfl (b_ite h (fun hc h => ?_) (fun hc h => ?_))
    · refine x_iconst 0 (z := 0) dX1_check_45 rfl (by decide) rfl ?_
      refine x_istore_n 1 (ls' := [(2, 0), (0, 0)]) dX1_check_46 rfl rfl rfl rfl ?_
      refine x_aload_n 0 dX1_check_47 rfl rfl rfl rfl rfl ?_
      refine y_getF 146 18 (c := 0) (z := 102) dX1_check_48 i0 rfl in_X1 q1585 rfl rfl rfl fn_0_18 (Nat.le_trans (Nat.le_of_ble_eq_true rfl) hn) rfl ?_
      refine y_Vv 212 (M := mX22_drop) (As := []) (st := []) dX1_check_51 i102 rfl q2310 q2311 q2312 q389 q2313 rfl hmX22_drop rfl rfl rfl rfl rfl rfl rfl (k_mono h (fun r7 w8 h => ?_))
      refine x_iload_n 1 dX1_check_54 rfl rfl rfl ?_
      refine x_if_ne (t := 72) 17 dX1_check_55 rfl rfl (b_ifF (by decide) ?_)
      refine x_aload_n 0 dX1_check_58 rfl rfl rfl rfl rfl ?_
      refine y_getF 146 18 (c := 0) (z := 102) dX1_check_59 i0 rfl in_X1 q1585 rfl rfl rfl fn_0_18 (Nat.le_trans (Nat.le_of_ble_eq_true rfl) hn) rfl ?_
      refine x_aload_n 0 dX1_check_62 rfl rfl rfl rfl rfl ?_
      refine y_getF 114 14 (c := 0) (z := 65) dX1_check_63 i0 rfl in_X1 q1581 rfl rfl rfl fn_0_14 (Nat.le_trans (Nat.le_of_ble_eq_true rfl) hn) rfl ?_
      refine y_get 215 15 (c := 15) (z := w8 65 15) dX1_check_66 i65 rfl in_X16 q1115 rfl rfl rfl rfl rfl ?_
      refine x_put 202 15 (c := 20) dX1_check_69 i102 rfl in_X22 tyX22_ok nmX22 q1423 rfl rfl rfl (Or.inl rfl) (Or.inl ⟨rfl, rfl⟩) rfl ?_
      refine x_iload_n 1 dX1_check_72 rfl rfl rfl ?_
      refine x_if_eq (t := 80) 7 dX1_check_73 rfl rfl (b_ifT (by decide) ?_)
      refine x_iconst 2 (z := 2) dX1_check_80 rfl (by decide) rfl ?_
      exact y_iret dX1_check_81 rfl h
    · refine x_iconst 1 (z := 1) dX1_check_41 rfl (by decide) rfl ?_
      refine x_goto 4 (q := 46) dX1_check_42 rfl ?_
      refine x_istore_n 1 (ls' := [(2, 0), (0, 1)]) dX1_check_46 rfl rfl rfl rfl ?_
      refine x_aload_n 0 dX1_check_47 rfl rfl rfl rfl rfl ?_
      refine y_getF 146 18 (c := 0) (z := 102) dX1_check_48 i0 rfl in_X1 q1585 rfl rfl rfl fn_0_18 (Nat.le_trans (Nat.le_of_ble_eq_true rfl) hn) rfl ?_
      refine y_Vv 212 (M := mX22_drop) (As := []) (st := []) dX1_check_51 i102 rfl q2310 q2311 q2312 q389 q2313 rfl hmX22_drop rfl rfl rfl rfl rfl rfl rfl (k_mono h (fun r9 w10 h => ?_))
      refine x_iload_n 1 dX1_check_54 rfl rfl rfl ?_
      refine x_if_ne (t := 72) 17 dX1_check_55 rfl rfl (b_ifT (by decide) ?_)
      refine x_iload_n 1 dX1_check_72 rfl rfl rfl ?_
      refine x_if_eq (t := 80) 7 dX1_check_73 rfl rfl (b_ifF (by decide) ?_)
      refine x_iconst 0 (z := 0) dX1_check_76 rfl (by decide) rfl ?_
      refine x_goto 4 (q := 81) dX1_check_77 rfl ?_
      exact y_iret dX1_check_81 rfl h
  · refine x_aload_n 0 dX1_check_7 rfl rfl rfl rfl rfl ?_
    refine y_getF 146 18 (c := 0) (z := 102) dX1_check_8 i0 rfl in_X1 q1585 rfl rfl rfl fn_0_18 (Nat.le_trans (Nat.le_of_ble_eq_true rfl) hn) rfl ?_
    refine x_aload_n 0 dX1_check_11 rfl rfl rfl rfl rfl ?_
    refine y_getF 32 4 (c := 0) (z := 6) dX1_check_12 i0 rfl in_X1 q1571 rfl rfl rfl fn_0_4 (Nat.le_trans (Nat.le_of_ble_eq_true rfl) hn) rfl ?_
    refine y_get 199 13 (c := 3) (z := w2 6 13) dX1_check_15 i6 rfl in_X4 q689 rfl rfl rfl rfl rfl ?_
    refine x_put 202 15 (c := 20) dX1_check_18 i102 rfl in_X22 tyX22_ok nmX22 q1423 rfl rfl rfl (Or.inl rfl) (Or.inl ⟨rfl, rfl⟩) rfl ?_
    refine x_iconst 1 (z := 1) dX1_check_21 rfl (by decide) rfl ?_
    exact y_iret dX1_check_22 rfl h
theorem rX1_reads {d n : Nat} {w : bW} {Q : Int → bW → Prop} {X : String → bW → Prop} (hn : 143 ≤ n) (h : b_K d mX4_read [(2, 6), (2, 1), (0, w 0 1)] n w (fun r1 w2 => (r1 = 0 ∨ r1 = 1) ∧ Q r1 (b_up w2 0 1 0)) X) : b_K (d + 1) mX1_reads [(2, 0)] n w Q X := by
  have i0 := iz0 (Nat.le_trans (Nat.le_of_ble_eq_true rfl) hn)
  have i6 := iz6 (Nat.le_trans (Nat.le_of_ble_eq_true rfl) hn)
  refine k_of (by decide) rfl rfl rfl (ls := [(2, 0), (9, 0)]) rfl ?_
  refine x_aload_n 0 dX1_reads_0 rfl rfl rfl rfl rfl ?_
  refine y_getF 32 4 (c := 0) (z := 6) dX1_reads_1 i0 rfl in_X1 q1571 rfl rfl rfl fn_0_4 (Nat.le_trans (Nat.le_of_ble_eq_true rfl) hn) rfl ?_
  refine x_aload_n 0 dX1_reads_4 rfl rfl rfl rfl rfl ?_
  refine y_getF 7 0 (c := 0) (z := 1) dX1_reads_5 i0 rfl in_X1 q1567 rfl rfl rfl fn_0_0 (Nat.le_trans (Nat.le_of_ble_eq_true rfl) hn) rfl ?_
  refine x_aload_n 0 dX1_reads_8 rfl rfl rfl rfl rfl ?_
  refine y_get 171 1 (c := 0) (z := w 0 1) dX1_reads_9 i0 rfl in_X1 q1568 rfl rfl rfl rfl rfl ?_
  refine y_Vi 191 (M := mX4_read) (As := [(2, 1), (0, w 0 1)]) (st := []) dX1_reads_12 i6 rfl q1675 q1676 q1677 q371 q1678 rfl hmX4_read rfl rfl rfl rfl rfl rfl rfl rfl (k_mono h (fun r1 w2 h => ?_))
  refine x_istore_n 1 (ls' := [(2, 0), (0, r1)]) dX1_reads_15 rfl rfl rfl rfl ?_
  refine x_aload_n 0 dX1_reads_16 rfl rfl rfl rfl rfl ?_
  refine x_iconst 0 (z := 0) dX1_reads_17 rfl (by decide) rfl ?_
  refine x_put 171 1 (c := 0) dX1_reads_18 i0 rfl in_X1 tyX1_ok nmX1 q1568 rfl rfl rfl (Or.inl rfl) (Or.inl ⟨rfl, rfl⟩) rfl ?_
  refine x_iload_n 1 dX1_reads_21 rfl rfl rfl ?_
  exact y_zret dX1_reads_22 rfl h.1 h.2
theorem rX1_place {d n : Nat} {w : bW} {Q : Int → bW → Prop} {X : String → bW → Prop} (hn : 143 ≤ n) (h : Q (w 102 15) w) : b_K (d + 1) mX1_place [(2, 0)] n w Q X := by
  have i0 := iz0 (Nat.le_trans (Nat.le_of_ble_eq_true rfl) hn)
  have i102 := iz102 (Nat.le_trans (Nat.le_of_ble_eq_true rfl) hn)
  refine k_of (by decide) rfl rfl rfl (ls := [(2, 0)]) rfl ?_
  refine x_aload_n 0 dX1_place_0 rfl rfl rfl rfl rfl ?_
  refine y_getF 146 18 (c := 0) (z := 102) dX1_place_1 i0 rfl in_X1 q1585 rfl rfl rfl fn_0_18 (Nat.le_trans (Nat.le_of_ble_eq_true rfl) hn) rfl ?_
  refine y_get 202 15 (c := 20) (z := w 102 15) dX1_place_4 i102 rfl in_X22 q1423 rfl rfl rfl rfl rfl ?_
  exact y_iret dX1_place_7 rfl h
abbrev LX1_form_89 (d n : Nat) (Q : Int → bW → Prop) (X : String → bW → Prop) (a1 : Int) (s0 : Int) (w : bW) : Prop := b_Y (d + 1) mX1_form n Q X 89 [(2, 0), (0, a1), (9, 0), (9, 0)] [(0, s0)] w
theorem rX1_form {d n : Nat} {w : bW} {Q : Int → bW → Prop} {X : String → bW → Prop} (hn : 143 ≤ n) (h : b_K d mX1_reads [(2, 0)] n w (fun r1 w2 => if r1 = 0 then (Q (-1) w2) else (b_K d mX4_isSequence [(2, 6), (0, 0)] n w2 (fun r3 w4 => if r3 = 0 then (Q (-1) w4) else (if w4 18 0 = 2 then (b_K d mX22_tidy [(2, 102)] n w4 (fun r5 w6 => b_K d mX22_mark [(2, 102)] n w6 (fun r7 w8 => b_K d mX4_child [(2, 6), (0, 0), (0, 0)] n w8 (fun r9 w10 => b_K d mX7_of [(2, 19), (2, 6), (0, r9)] n w10 (fun r11 w12 => if r11 < 0 then (LX1_form_89 d n Q X r11 0 w12) else (b_K d mX7_is [(2, 19), (0, r11), (0, 2)] n w12 (fun r13 w14 => if r13 = 0 then (LX1_form_89 d n Q X r11 0 w14) else (LX1_form_89 d n Q X r11 1 w14)) X)) X) X) X) X) else (Q (-1) w4))) X)) X) : b_K (d + 1) mX1_form [(2, 0)] n w Q X := by
  have i0 := iz0 (Nat.le_trans (Nat.le_of_ble_eq_true rfl) hn)
  have i6 := iz6 (Nat.le_trans (Nat.le_of_ble_eq_true rfl) hn)
  have i18 := iz18 (Nat.le_trans (Nat.le_of_ble_eq_true rfl) hn)
  have i19 := iz19 (Nat.le_trans (Nat.le_of_ble_eq_true rfl) hn)
  have i102 := iz102 (Nat.le_trans (Nat.le_of_ble_eq_true rfl) hn)
  refine k_of (by decide) rfl rfl rfl (ls := [(2, 0), (9, 0), (9, 0), (9, 0)]) rfl ?_
  refine x_aload_n 0 dX1_form_0 rfl rfl rfl rfl rfl ?_
  refine y_Vi 195 (M := mX1_reads) (As := []) (st := []) dX1_form_1 i0 rfl q1671 q1673 qs4 q358 q1674 rfl hmX1_reads rfl rfl rfl rfl rfl rfl rfl rfl (k_mono h (fun r1 w2 h => ?_))
  refine x_if_eq (t := 31) 27 dX1_form_4 rfl rfl (b_ite h (fun hc h => ?_) (fun hc h => ?_))
  · refine x_iconst (-1) (z := (-1)) dX1_form_31 rfl (by decide) rfl ?_
    exact y_iret dX1_form_32 rfl h
  · refine x_aload_n 0 dX1_form_7 rfl rfl rfl rfl rfl ?_
    refine y_getF 32 4 (c := 0) (z := 6) dX1_form_8 i0 rfl in_X1 q1571 rfl rfl rfl fn_0_4 (Nat.le_trans (Nat.le_of_ble_eq_true rfl) hn) rfl ?_
    refine x_iconst 0 (z := 0) dX1_form_11 rfl (by decide) rfl ?_
    refine y_Vi 216 (M := mX4_isSequence) (As := [(0, 0)]) (st := []) dX1_form_12 i6 rfl q2334 q1826 q1827 q371 q1828 rfl hmX4_isSequence rfl rfl rfl rfl rfl rfl rfl rfl (k_mono h (fun r3 w4 h => ?_))
    refine x_if_eq (t := 31) 16 dX1_form_15 rfl rfl (b_ite h (fun hc h => ?_) (fun hc h => ?_))
    · refine x_iconst (-1) (z := (-1)) dX1_form_31 rfl (by decide) rfl ?_
      exact y_iret dX1_form_32 rfl h
    · refine x_aload_n 0 dX1_form_18 rfl rfl rfl rfl rfl ?_
      refine y_getF 32 4 (c := 0) (z := 6) dX1_form_19 i0 rfl in_X1 q1571 rfl rfl rfl fn_0_4 (Nat.le_trans (Nat.le_of_ble_eq_true rfl) hn) rfl ?_
      refine y_getF 220 11 (c := 3) (z := 18) dX1_form_22 i6 rfl in_X4 q683 rfl rfl rfl fn_6_11 (Nat.le_trans (Nat.le_of_ble_eq_true rfl) hn) rfl ?_
      refine x_iconst 0 (z := 0) dX1_form_25 rfl (by decide) rfl ?_
      refine y_iald (z := w4 18 0) dX1_form_26 ⟨4096, i18, by decide⟩ rfl rfl ?_
      refine x_iconst 2 (z := 2) dX1_form_27 rfl (by decide) rfl ?_
      refine x_icmp_eq (t := 33) 5 dX1_form_28 rfl rfl (b_ite h (fun hc h => ?_) (fun hc h => ?_))
      · refine x_aload_n 0 dX1_form_33 rfl rfl rfl rfl rfl ?_
        refine y_getF 146 18 (c := 0) (z := 102) dX1_form_34 i0 rfl in_X1 q1585 rfl rfl rfl fn_0_18 (Nat.le_trans (Nat.le_of_ble_eq_true rfl) hn) rfl ?_
        refine y_Vv 224 (M := mX22_tidy) (As := []) (st := []) dX1_form_37 i102 rfl q2335 q2336 q2337 q389 q2338 rfl hmX22_tidy rfl rfl rfl rfl rfl rfl rfl (k_mono h (fun r5 w6 h => ?_))
        refine x_aload_n 0 dX1_form_40 rfl rfl rfl rfl rfl ?_
        refine y_getF 146 18 (c := 0) (z := 102) dX1_form_41 i0 rfl in_X1 q1585 rfl rfl rfl fn_0_18 (Nat.le_trans (Nat.le_of_ble_eq_true rfl) hn) rfl ?_
        refine y_Vv 205 (M := mX22_mark) (As := []) (st := []) dX1_form_44 i102 rfl q1809 q1810 q1811 q389 q1812 rfl hmX22_mark rfl rfl rfl rfl rfl rfl rfl (k_mono h (fun r7 w8 h => ?_))
        refine x_aload_n 0 dX1_form_47 rfl rfl rfl rfl rfl ?_
        refine y_getF 39 5 (c := 0) (z := 19) dX1_form_48 i0 rfl in_X1 q1572 rfl rfl rfl fn_0_5 (Nat.le_trans (Nat.le_of_ble_eq_true rfl) hn) rfl ?_
        refine x_aload_n 0 dX1_form_51 rfl rfl rfl rfl rfl ?_
        refine y_getF 32 4 (c := 0) (z := 6) dX1_form_52 i0 rfl in_X1 q1571 rfl rfl rfl fn_0_4 (Nat.le_trans (Nat.le_of_ble_eq_true rfl) hn) rfl ?_
        refine x_aload_n 0 dX1_form_55 rfl rfl rfl rfl rfl ?_
        refine y_getF 32 4 (c := 0) (z := 6) dX1_form_56 i0 rfl in_X1 q1571 rfl rfl rfl fn_0_4 (Nat.le_trans (Nat.le_of_ble_eq_true rfl) hn) rfl ?_
        refine x_iconst 0 (z := 0) dX1_form_59 rfl (by decide) rfl ?_
        refine x_iconst 0 (z := 0) dX1_form_60 rfl (by decide) rfl ?_
        refine y_Vi 227 (M := mX4_child) (As := [(0, 0), (0, 0)]) (st := [(2, 6), (2, 19)]) dX1_form_61 i6 rfl q2374 q1830 q1831 q371 q1832 rfl hmX4_child rfl rfl rfl rfl rfl rfl rfl rfl (k_mono h (fun r9 w10 h => ?_))
        refine y_Vi 231 (M := mX7_of) (As := [(2, 6), (0, r9)]) (st := []) dX1_form_64 i19 rfl q2375 q1850 q1851 q374 q1852 rfl hmX7_of rfl rfl rfl rfl rfl rfl rfl rfl (k_mono h (fun r11 w12 h => ?_))
        refine x_istore_n 1 (ls' := [(2, 0), (0, r11), (9, 0), (9, 0)]) dX1_form_67 rfl rfl rfl rfl ?_
        refine x_iload_n 1 dX1_form_68 rfl rfl rfl ?_
        refine x_if_lt (t := 88) 19 dX1_form_69 rfl rfl (b_ite h (fun hc h => ?_) (fun hc h => ?_))
        · refine x_iconst 0 (z := 0) dX1_form_88 rfl (by decide) rfl ?_
          exact x_fg (fgk (fgk (fgk (fgk (fg0))))) h
        · refine x_aload_n 0 dX1_form_72 rfl rfl rfl rfl rfl ?_
          refine y_getF 39 5 (c := 0) (z := 19) dX1_form_73 i0 rfl in_X1 q1572 rfl rfl rfl fn_0_5 (Nat.le_trans (Nat.le_of_ble_eq_true rfl) hn) rfl ?_
          refine x_iload_n 1 dX1_form_76 rfl rfl rfl ?_
          refine x_iconst 2 (z := 2) dX1_form_77 rfl (by decide) rfl ?_
          refine y_Vi 235 (M := mX7_is) (As := [(0, r11), (0, 2)]) (st := []) dX1_form_78 i19 rfl q2376 q744 q745 q374 q746 rfl hmX7_is rfl rfl rfl rfl rfl rfl rfl rfl (k_mono h (fun r13 w14 h => ?_))
          refine x_if_eq (t := 88) 7 dX1_form_81 rfl rfl (b_ite h (fun hc h => ?_) (fun hc h => ?_))
          · refine x_iconst 0 (z := 0) dX1_form_88 rfl (by decide) rfl ?_
            exact x_fg (fgk (fgk (fgk (fgk (fg0))))) h
          · refine x_iconst 1 (z := 1) dX1_form_84 rfl (by decide) rfl ?_
            refine x_goto 4 (q := 89) dX1_form_85 rfl ?_
            exact x_fg (fgk (fgk (fgk (fgk (fg0))))) h
      · refine x_iconst (-1) (z := (-1)) dX1_form_31 rfl (by decide) rfl ?_
        exact y_iret dX1_form_32 rfl h
theorem sX1_form_89 {d n : Nat} {w : bW} {Q : Int → bW → Prop} {X : String → bW → Prop} (hn : 143 ≤ n) (a1 : Int) (s0 : Int) (h : if s0 = 0 then (b_K d mX22_drop [(2, 102)] n w (fun r1 w2 => Q (-1) w2) X) else (b_K d mX4_child [(2, 6), (0, 0), (0, 1)] n w (fun r3 w4 => b_K d mX12_read [(2, 41), (0, r3), (0, a1)] n w4 (fun r5 w6 => if r5 = 0 then (b_K d mX22_drop [(2, 102)] n w6 (fun r7 w8 => if r5 ≠ 0 then (Q (w8 0 20) w8) else (Q (-1) w8)) X) else (b_K d mX1_write [(2, 0), (0, r5), (0, a1)] n w6 (fun r9 w10 => b_K d mX22_drop [(2, 102)] n w10 (fun r11 w12 => if r5 ≠ 0 then (Q (w12 0 20) w12) else (Q (-1) w12)) X) X)) X) X)) : LX1_form_89 d n Q X a1 s0 w := by
  have i0 := iz0 (Nat.le_trans (Nat.le_of_ble_eq_true rfl) hn)
  have i6 := iz6 (Nat.le_trans (Nat.le_of_ble_eq_true rfl) hn)
  have i41 := iz41 (Nat.le_trans (Nat.le_of_ble_eq_true rfl) hn)
  have i102 := iz102 (Nat.le_trans (Nat.le_of_ble_eq_true rfl) hn)
  refine x_istore_n 2 (ls' := [(2, 0), (0, a1), (0, s0), (9, 0)]) dX1_form_89 rfl rfl rfl rfl ?_
  refine x_iload_n 2 dX1_form_90 rfl rfl rfl ?_
  refine x_if_eq (t := 114) 23 dX1_form_91 rfl rfl (b_ite h (fun hc h => ?_) (fun hc h => ?_))
  · refine x_iconst 0 (z := 0) dX1_form_114 rfl (by decide) rfl ?_
    refine x_istore_n 3 (ls' := [(2, 0), (0, a1), (0, s0), (0, 0)]) dX1_form_115 rfl rfl rfl rfl ?_
    refine x_iload_n 3 dX1_form_116 rfl rfl rfl ?_
    refine x_if_eq (t := 126) 9 dX1_form_117 rfl rfl (b_ifT (by decide) ?_)
    refine x_aload_n 0 dX1_form_126 rfl rfl rfl rfl rfl ?_
    refine y_getF 146 18 (c := 0) (z := 102) dX1_form_127 i0 rfl in_X1 q1585 rfl rfl rfl fn_0_18 (Nat.le_trans (Nat.le_of_ble_eq_true rfl) hn) rfl ?_
    refine y_Vv 212 (M := mX22_drop) (As := []) (st := []) dX1_form_130 i102 rfl q2310 q2311 q2312 q389 q2313 rfl hmX22_drop rfl rfl rfl rfl rfl rfl rfl (k_mono h (fun r1 w2 h => ?_))
    refine x_iload_n 3 dX1_form_133 rfl rfl rfl ?_
    refine x_if_ne (t := 141) 7 dX1_form_134 rfl rfl (b_ifF (by decide) ?_)
    refine x_iconst (-1) (z := (-1)) dX1_form_137 rfl (by decide) rfl ?_
    refine x_goto 7 (q := 145) dX1_form_138 rfl ?_
    exact y_iret dX1_form_145 rfl h
  · refine x_aload_n 0 dX1_form_94 rfl rfl rfl rfl rfl ?_
    refine y_getF 82 10 (c := 0) (z := 41) dX1_form_95 i0 rfl in_X1 q1577 rfl rfl rfl fn_0_10 (Nat.le_trans (Nat.le_of_ble_eq_true rfl) hn) rfl ?_
    refine x_aload_n 0 dX1_form_98 rfl rfl rfl rfl rfl ?_
    refine y_getF 32 4 (c := 0) (z := 6) dX1_form_99 i0 rfl in_X1 q1571 rfl rfl rfl fn_0_4 (Nat.le_trans (Nat.le_of_ble_eq_true rfl) hn) rfl ?_
    refine x_iconst 0 (z := 0) dX1_form_102 rfl (by decide) rfl ?_
    refine x_iconst 1 (z := 1) dX1_form_103 rfl (by decide) rfl ?_
    refine y_Vi 227 (M := mX4_child) (As := [(0, 0), (0, 1)]) (st := [(2, 41)]) dX1_form_104 i6 rfl q2374 q1830 q1831 q371 q1832 rfl hmX4_child rfl rfl rfl rfl rfl rfl rfl rfl (k_mono h (fun r3 w4 h => ?_))
    refine x_iload_n 1 dX1_form_107 rfl rfl rfl ?_
    refine y_Vi 239 (M := mX12_read) (As := [(0, r3), (0, a1)]) (st := []) dX1_form_108 i41 rfl q2377 q1937 q1938 q379 q1939 rfl hmX12_read rfl rfl rfl rfl rfl rfl rfl rfl (k_mono h (fun r5 w6 h => ?_))
    refine x_goto 4 (q := 115) dX1_form_111 rfl ?_
    refine x_istore_n 3 (ls' := [(2, 0), (0, a1), (0, s0), (0, r5)]) dX1_form_115 rfl rfl rfl rfl ?_
    refine x_iload_n 3 dX1_form_116 rfl rfl rfl ?_
    refine x_if_eq (t := 126) 9 dX1_form_117 rfl rfl (b_ite h (fun hc h => ?_) (fun hc h => ?_))
    · refine x_aload_n 0 dX1_form_126 rfl rfl rfl rfl rfl ?_
      refine y_getF 146 18 (c := 0) (z := 102) dX1_form_127 i0 rfl in_X1 q1585 rfl rfl rfl fn_0_18 (Nat.le_trans (Nat.le_of_ble_eq_true rfl) hn) rfl ?_
      refine y_Vv 212 (M := mX22_drop) (As := []) (st := []) dX1_form_130 i102 rfl q2310 q2311 q2312 q389 q2313 rfl hmX22_drop rfl rfl rfl rfl rfl rfl rfl (k_mono h (fun r7 w8 h => ?_))
      refine x_iload_n 3 dX1_form_133 rfl rfl rfl ?_
      refine x_if_ne (t := 141) 7 dX1_form_134 rfl rfl (b_ite h (fun hc h => ?_) (fun hc h => ?_))
      · refine x_aload_n 0 dX1_form_141 rfl rfl rfl rfl rfl ?_
        refine y_get 245 20 (c := 0) (z := w8 0 20) dX1_form_142 i0 rfl in_X1 q1587 rfl rfl rfl rfl rfl ?_
        exact y_iret dX1_form_145 rfl h
      · refine x_iconst (-1) (z := (-1)) dX1_form_137 rfl (by decide) rfl ?_
        refine x_goto 7 (q := 145) dX1_form_138 rfl ?_
        exact y_iret dX1_form_145 rfl h
    · refine x_aload_n 0 dX1_form_120 rfl rfl rfl rfl rfl ?_
      refine x_iload_n 3 dX1_form_121 rfl rfl rfl ?_
      refine x_iload_n 1 dX1_form_122 rfl rfl rfl ?_
      refine y_Vv 241 (M := mX1_write) (As := [(0, r5), (0, a1)]) (st := []) dX1_form_123 i0 rfl q2378 q2380 qs86 q358 q2381 rfl hmX1_write rfl rfl rfl rfl rfl rfl rfl (k_mono h (fun r9 w10 h => ?_))
      refine x_aload_n 0 dX1_form_126 rfl rfl rfl rfl rfl ?_
      refine y_getF 146 18 (c := 0) (z := 102) dX1_form_127 i0 rfl in_X1 q1585 rfl rfl rfl fn_0_18 (Nat.le_trans (Nat.le_of_ble_eq_true rfl) hn) rfl ?_
      refine y_Vv 212 (M := mX22_drop) (As := []) (st := []) dX1_form_130 i102 rfl q2310 q2311 q2312 q389 q2313 rfl hmX22_drop rfl rfl rfl rfl rfl rfl rfl (k_mono h (fun r11 w12 h => ?_))
      refine x_iload_n 3 dX1_form_133 rfl rfl rfl ?_
      refine x_if_ne (t := 141) 7 dX1_form_134 rfl rfl (b_ite h (fun hc h => ?_) (fun hc h => ?_))
      · refine x_aload_n 0 dX1_form_141 rfl rfl rfl rfl rfl ?_
        refine y_get 245 20 (c := 0) (z := w12 0 20) dX1_form_142 i0 rfl in_X1 q1587 rfl rfl rfl rfl rfl ?_
        exact y_iret dX1_form_145 rfl h
      · refine x_iconst (-1) (z := (-1)) dX1_form_137 rfl (by decide) rfl ?_
        refine x_goto 7 (q := 145) dX1_form_138 rfl ?_
        exact y_iret dX1_form_145 rfl h
theorem rX1_write {d n : Nat} {w : bW} {Q : Int → bW → Prop} {X : String → bW → Prop} (hn : 143 ≤ n) (a1 : Int) (a2 : Int) (h : b_K d mX13_write [(2, 46), (2, 107), (0, 0), (0, a1), (0, a2)] n w (fun r1 w2 => Q 0 (b_up w2 0 20 (w2 46 7))) X) : b_K (d + 1) mX1_write [(2, 0), (0, a1), (0, a2)] n w Q X := by
  have i0 := iz0 (Nat.le_trans (Nat.le_of_ble_eq_true rfl) hn)
  have i46 := iz46 (Nat.le_trans (Nat.le_of_ble_eq_true rfl) hn)
  refine k_of (by decide) rfl rfl rfl (ls := [(2, 0), (0, a1), (0, a2)]) rfl ?_
  refine x_aload_n 0 dX1_write_0 rfl rfl rfl rfl rfl ?_
  refine y_getF 91 11 (c := 0) (z := 46) dX1_write_1 i0 rfl in_X1 q1578 rfl rfl rfl fn_0_11 (Nat.le_trans (Nat.le_of_ble_eq_true rfl) hn) rfl ?_
  refine x_aload_n 0 dX1_write_4 rfl rfl rfl rfl rfl ?_
  refine y_getF 151 19 (c := 0) (z := 107) dX1_write_5 i0 rfl in_X1 q1586 rfl rfl rfl fn_0_19 (Nat.le_trans (Nat.le_of_ble_eq_true rfl) hn) rfl ?_
  refine x_iconst 0 (z := 0) dX1_write_8 rfl (by decide) rfl ?_
  refine x_iload_n 1 dX1_write_9 rfl rfl rfl ?_
  refine x_iload_n 2 dX1_write_10 rfl rfl rfl ?_
  refine y_Vv 248 (M := mX13_write) (As := [(2, 107), (0, 0), (0, a1), (0, a2)]) (st := []) dX1_write_11 i46 rfl q2382 q2383 q2384 q380 q2385 rfl hmX13_write rfl rfl rfl rfl rfl rfl rfl (k_mono h (fun r1 w2 h => ?_))
  refine x_aload_n 0 dX1_write_14 rfl rfl rfl rfl rfl ?_
  refine x_aload_n 0 dX1_write_15 rfl rfl rfl rfl rfl ?_
  refine y_getF 91 11 (c := 0) (z := 46) dX1_write_16 i0 rfl in_X1 q1578 rfl rfl rfl fn_0_11 (Nat.le_trans (Nat.le_of_ble_eq_true rfl) hn) rfl ?_
  refine y_get 251 7 (c := 12) (z := w2 46 7) dX1_write_19 i46 rfl in_X13 q938 rfl rfl rfl rfl rfl ?_
  refine x_put 245 20 (c := 0) dX1_write_22 i0 rfl in_X1 tyX1_ok nmX1 q1587 rfl rfl rfl (Or.inl rfl) (Or.inl ⟨rfl, rfl⟩) rfl ?_
  exact y_vret dX1_write_25 rfl h
theorem rX1_account {d n : Nat} {w : bW} {Q : Int → bW → Prop} {X : String → bW → Prop} (hn : 143 ≤ n) (a1 : Int) (h : if a1 < 0 then (Q (-1) w) else (if w 70 6 = 100 then (Q (-1) w) else (if a1 ≤ b_l (4611686018427387904 - (w 70 11)) then ((0 ≤ w 70 6 ∧ w 70 6 < 200) ∧ ((0 ≤ w 70 6 ∧ w 70 6 < 200) ∧ (Q (w 70 6) (b_up (b_up (b_up (b_up w 70 6 (b_i ((w 70 6) + 1))) 72 (w 70 6) 1) 71 (w 70 6) a1) 70 11 (b_l ((w 70 11) + a1)))))) else (Q (-1) w)))) : b_K (d + 1) mX1_account [(2, 0), (1, a1)] n w Q X := by
  have i0 := iz0 (Nat.le_trans (Nat.le_of_ble_eq_true rfl) hn)
  have i70 := iz70 (Nat.le_trans (Nat.le_of_ble_eq_true rfl) hn)
  have i71 := iz71 (Nat.le_trans (Nat.le_of_ble_eq_true rfl) hn)
  have i72 := iz72 (Nat.le_trans (Nat.le_of_ble_eq_true rfl) hn)
  refine k_of (by decide) rfl rfl rfl (ls := [(2, 0), (1, a1), (9, 0), (9, 0)]) rfl ?_
  refine x_lload_n 1 dX1_account_0 rfl rfl rfl ?_
  refine x_lconst 0 (z := 0) dX1_account_1 rfl (by decide) rfl ?_
  refine x_lc_lt (q := 6) (t := 34) 31 dX1_account_2 dX1_account_3 rfl rfl (b_ite h (fun hc h => ?_) (fun hc h => ?_))
  · refine x_iconst (-1) (z := (-1)) dX1_account_34 rfl (by decide) rfl ?_
    exact y_iret dX1_account_35 rfl h
  · refine x_aload_n 0 dX1_account_6 rfl rfl rfl rfl rfl ?_
    refine y_getF 121 15 (c := 0) (z := 70) dX1_account_7 i0 rfl in_X1 q1582 rfl rfl rfl fn_0_15 (Nat.le_trans (Nat.le_of_ble_eq_true rfl) hn) rfl ?_
    refine y_get 252 6 (c := 16) (z := w 70 6) dX1_account_10 i70 rfl in_X17 q1178 rfl rfl rfl rfl rfl ?_
    refine x_bipush 100 (z := 100) dX1_account_13 rfl (by decide) rfl ?_
    refine x_icmp_eq (t := 34) 19 dX1_account_15 rfl rfl (b_ite h (fun hc h => ?_) (fun hc h => ?_))
    · refine x_iconst (-1) (z := (-1)) dX1_account_34 rfl (by decide) rfl ?_
      exact y_iret dX1_account_35 rfl h
    · refine x_lload_n 1 dX1_account_18 rfl rfl rfl ?_
      refine x_ldc2 255 (x := 4611686018427387904) dX1_account_19 q2438 rfl (by decide) rfl ?_
      refine x_aload_n 0 dX1_account_22 rfl rfl rfl rfl rfl ?_
      refine y_getF 121 15 (c := 0) (z := 70) dX1_account_23 i0 rfl in_X1 q1582 rfl rfl rfl fn_0_15 (Nat.le_trans (Nat.le_of_ble_eq_true rfl) hn) rfl ?_
      refine y_get 257 11 (c := 16) (z := w 70 11) dX1_account_26 i70 rfl in_X17 q1190 rfl rfl rfl rfl rfl ?_
      refine x_lsub dX1_account_29 rfl ?_
      refine x_lc_le (q := 34) (t := 36) 5 dX1_account_30 dX1_account_31 rfl rfl (b_ite h (fun hc h => ?_) (fun hc h => ?_))
      · refine x_aload_n 0 dX1_account_36 rfl rfl rfl rfl rfl ?_
        refine y_getF 121 15 (c := 0) (z := 70) dX1_account_37 i0 rfl in_X1 q1582 rfl rfl rfl fn_0_15 (Nat.le_trans (Nat.le_of_ble_eq_true rfl) hn) rfl ?_
        refine x_dup dX1_account_40 rfl rfl ?_
        refine y_get 252 6 (c := 16) (z := w 70 6) dX1_account_41 i70 rfl in_X17 q1178 rfl rfl rfl rfl rfl ?_
        refine x_dup_x1 dX1_account_44 rfl rfl rfl ?_
        refine x_iconst 1 (z := 1) dX1_account_45 rfl (by decide) rfl ?_
        refine x_iadd dX1_account_46 rfl ?_
        refine x_put 252 6 (c := 16) dX1_account_47 i70 rfl in_X17 tyX17_ok nmX17 q1178 rfl rfl rfl (Or.inl rfl) (Or.inl ⟨rfl, rfl⟩) rfl ?_
        refine x_istore_n 3 (ls' := [(2, 0), (1, a1), (9, 0), (0, w 70 6)]) dX1_account_50 rfl rfl rfl rfl ?_
        refine x_aload_n 0 dX1_account_51 rfl rfl rfl rfl rfl ?_
        refine y_getF 121 15 (c := 0) (z := 70) dX1_account_52 i0 rfl in_X1 q1582 rfl rfl rfl fn_0_15 (Nat.le_trans (Nat.le_of_ble_eq_true rfl) hn) rfl ?_
        refine y_getF 261 1 (c := 16) (z := 72) dX1_account_55 i70 rfl in_X17 q1164 rfl rfl rfl fn_70_1 (Nat.le_trans (Nat.le_of_ble_eq_true rfl) hn) rfl ?_
        refine x_iload_n 3 dX1_account_58 rfl rfl rfl ?_
        refine x_iconst 1 (z := 1) dX1_account_59 rfl (by decide) rfl ?_
        obtain ⟨e1, h⟩ := h
        refine y_zast (x' := 1) dX1_account_60 ⟨200, i72, e1⟩ (by decide) rfl ?_
        refine x_aload_n 0 dX1_account_61 rfl rfl rfl rfl rfl ?_
        refine y_getF 121 15 (c := 0) (z := 70) dX1_account_62 i0 rfl in_X1 q1582 rfl rfl rfl fn_0_15 (Nat.le_trans (Nat.le_of_ble_eq_true rfl) hn) rfl ?_
        refine y_getF 265 0 (c := 16) (z := 71) dX1_account_65 i70 rfl in_X17 q1161 rfl rfl rfl fn_70_0 (Nat.le_trans (Nat.le_of_ble_eq_true rfl) hn) rfl ?_
        refine x_iload_n 3 dX1_account_68 rfl rfl rfl ?_
        refine x_lload_n 1 dX1_account_69 rfl rfl rfl ?_
        obtain ⟨e2, h⟩ := h
        refine y_last (x' := a1) dX1_account_70 ⟨200, i71, e2⟩ rfl rfl ?_
        refine x_aload_n 0 dX1_account_71 rfl rfl rfl rfl rfl ?_
        refine y_getF 121 15 (c := 0) (z := 70) dX1_account_72 i0 rfl in_X1 q1582 rfl rfl rfl fn_0_15 (Nat.le_trans (Nat.le_of_ble_eq_true rfl) hn) rfl ?_
        refine x_dup dX1_account_75 rfl rfl ?_
        refine y_get 257 11 (c := 16) (z := w 70 11) dX1_account_76 i70 rfl in_X17 q1190 rfl rfl rfl rfl rfl ?_
        refine x_lload_n 1 dX1_account_79 rfl rfl rfl ?_
        refine x_ladd dX1_account_80 rfl ?_
        refine x_put 257 11 (c := 16) dX1_account_81 i70 rfl in_X17 tyX17_ok nmX17 q1190 rfl rfl rfl (Or.inl rfl) (Or.inr (Or.inr (Or.inl ⟨rfl, rfl⟩))) rfl ?_
        refine x_iload_n 3 dX1_account_84 rfl rfl rfl ?_
        exact y_iret dX1_account_85 rfl h
      · refine x_iconst (-1) (z := (-1)) dX1_account_34 rfl (by decide) rfl ?_
        exact y_iret dX1_account_35 rfl h
theorem rX1_now {d n : Nat} {w : bW} {Q : Int → bW → Prop} {X : String → bW → Prop} (hn : 143 ≤ n) (a1 : Int) (a3 : Int) (h : if a1 < (-1152921504606846976) then (Q 0 w) else (if 1152921504606846976 < a1 then (Q 0 w) else (if a3 < 0 then (Q 0 w) else (if a3 ≤ 1073741824 then (Q 1 (b_up (b_up w 70 12 a1) 70 13 a3)) else (Q 0 w))))) : b_K (d + 1) mX1_now [(2, 0), (1, a1), (0, a3)] n w Q X := by
  have i0 := iz0 (Nat.le_trans (Nat.le_of_ble_eq_true rfl) hn)
  have i70 := iz70 (Nat.le_trans (Nat.le_of_ble_eq_true rfl) hn)
  refine k_of (by decide) rfl rfl rfl (ls := [(2, 0), (1, a1), (9, 0), (0, a3)]) rfl ?_
  refine x_lload_n 1 dX1_now_0 rfl rfl rfl ?_
  refine x_ldc2 269 (x := (-1152921504606846976)) dX1_now_1 q2443 rfl (by decide) rfl ?_
  refine x_lc_lt (q := 8) (t := 27) 22 dX1_now_4 dX1_now_5 rfl rfl (b_ite h (fun hc h => ?_) (fun hc h => ?_))
  · refine x_iconst 0 (z := 0) dX1_now_27 rfl (by decide) rfl ?_
    exact y_zret dX1_now_28 rfl (by decide) h
  · refine x_lload_n 1 dX1_now_8 rfl rfl rfl ?_
    refine x_ldc2 271 (x := 1152921504606846976) dX1_now_9 q2444 rfl (by decide) rfl ?_
    refine x_lc_gt (q := 16) (t := 27) 14 dX1_now_12 dX1_now_13 rfl rfl (b_ite h (fun hc h => ?_) (fun hc h => ?_))
    · refine x_iconst 0 (z := 0) dX1_now_27 rfl (by decide) rfl ?_
      exact y_zret dX1_now_28 rfl (by decide) h
    · refine x_iload_n 3 dX1_now_16 rfl rfl rfl ?_
      refine x_if_lt (t := 27) 10 dX1_now_17 rfl rfl (b_ite h (fun hc h => ?_) (fun hc h => ?_))
      · refine x_iconst 0 (z := 0) dX1_now_27 rfl (by decide) rfl ?_
        exact y_zret dX1_now_28 rfl (by decide) h
      · refine x_iload_n 3 dX1_now_20 rfl rfl rfl ?_
        refine x_ldcw 273 (x := 1073741824) dX1_now_21 q2445 rfl (by decide) rfl ?_
        refine x_icmp_le (t := 29) 5 dX1_now_24 rfl rfl (b_ite h (fun hc h => ?_) (fun hc h => ?_))
        · refine x_aload_n 0 dX1_now_29 rfl rfl rfl rfl rfl ?_
          refine y_getF 121 15 (c := 0) (z := 70) dX1_now_30 i0 rfl in_X1 q1582 rfl rfl rfl fn_0_15 (Nat.le_trans (Nat.le_of_ble_eq_true rfl) hn) rfl ?_
          refine x_lload_n 1 dX1_now_33 rfl rfl rfl ?_
          refine x_put 274 12 (c := 16) dX1_now_34 i70 rfl in_X17 tyX17_ok nmX17 q1191 rfl rfl rfl (Or.inl rfl) (Or.inr (Or.inr (Or.inl ⟨rfl, rfl⟩))) rfl ?_
          refine x_aload_n 0 dX1_now_37 rfl rfl rfl rfl rfl ?_
          refine y_getF 121 15 (c := 0) (z := 70) dX1_now_38 i0 rfl in_X1 q1582 rfl rfl rfl fn_0_15 (Nat.le_trans (Nat.le_of_ble_eq_true rfl) hn) rfl ?_
          refine x_iload_n 3 dX1_now_41 rfl rfl rfl ?_
          refine x_put 277 13 (c := 16) dX1_now_42 i70 rfl in_X17 tyX17_ok nmX17 q1193 rfl rfl rfl (Or.inl rfl) (Or.inl ⟨rfl, rfl⟩) rfl ?_
          refine x_iconst 1 (z := 1) dX1_now_45 rfl (by decide) rfl ?_
          exact y_zret dX1_now_46 rfl (by decide) h
        · refine x_iconst 0 (z := 0) dX1_now_27 rfl (by decide) rfl ?_
          exact y_zret dX1_now_28 rfl (by decide) h
theorem rX1_batch {d n : Nat} {w : bW} {Q : Int → bW → Prop} {X : String → bW → Prop} (hn : 1 ≤ n) (a1 : Int) (a2 : Int) (h : b_K d mX1_isAccount [(2, 0), (0, a1)] n w (fun r1 w2 => if r1 ≠ 0 then (Q 1 (b_up (b_up (b_up (b_up (b_up (b_up (b_up (b_up w2 0 21 1) 0 22 a1) 0 23 a2) 0 24 0) 0 25 0) 0 26 0) 0 28 0) 0 30 0)) else (Q 0 w2)) X) : b_K (d + 1) mX1_batch [(2, 0), (0, a1), (0, a2)] n w Q X := by
  have i0 := iz0 (Nat.le_trans (Nat.le_of_ble_eq_true rfl) hn)
  refine k_of (by decide) rfl rfl rfl (ls := [(2, 0), (0, a1), (0, a2)]) rfl ?_
  refine x_aload_n 0 dX1_batch_0 rfl rfl rfl rfl rfl ?_
  refine x_iload_n 1 dX1_batch_1 rfl rfl rfl ?_
  refine y_Vi 280 (M := mX1_isAccount) (As := [(0, a1)]) (st := []) dX1_batch_2 i0 rfl q2450 q2452 qs97 q358 q2453 rfl hmX1_isAccount rfl rfl rfl rfl rfl rfl rfl rfl (k_mono h (fun r1 w2 h => ?_))
  refine x_if_ne (t := 10) 5 dX1_batch_5 rfl rfl (b_ite h (fun hc h => ?_) (fun hc h => ?_))
  · refine x_aload_n 0 dX1_batch_10 rfl rfl rfl rfl rfl ?_
    refine x_iconst 1 (z := 1) dX1_batch_11 rfl (by decide) rfl ?_
    refine x_put 283 21 (c := 0) dX1_batch_12 i0 rfl in_X1 tyX1_ok nmX1 q1588 rfl rfl rfl (Or.inl rfl) (Or.inr (Or.inl ⟨rfl, rfl, by decide⟩)) rfl ?_
    refine x_aload_n 0 dX1_batch_15 rfl rfl rfl rfl rfl ?_
    refine x_iload_n 1 dX1_batch_16 rfl rfl rfl ?_
    refine x_put 287 22 (c := 0) dX1_batch_17 i0 rfl in_X1 tyX1_ok nmX1 q1589 rfl rfl rfl (Or.inl rfl) (Or.inl ⟨rfl, rfl⟩) rfl ?_
    refine x_aload_n 0 dX1_batch_20 rfl rfl rfl rfl rfl ?_
    refine x_iload_n 2 dX1_batch_21 rfl rfl rfl ?_
    refine x_put 290 23 (c := 0) dX1_batch_22 i0 rfl in_X1 tyX1_ok nmX1 q1590 rfl rfl rfl (Or.inl rfl) (Or.inl ⟨rfl, rfl⟩) rfl ?_
    refine x_aload_n 0 dX1_batch_25 rfl rfl rfl rfl rfl ?_
    refine x_lconst 0 (z := 0) dX1_batch_26 rfl (by decide) rfl ?_
    refine x_put 293 24 (c := 0) dX1_batch_27 i0 rfl in_X1 tyX1_ok nmX1 q1591 rfl rfl rfl (Or.inl rfl) (Or.inr (Or.inr (Or.inl ⟨rfl, rfl⟩))) rfl ?_
    refine x_aload_n 0 dX1_batch_30 rfl rfl rfl rfl rfl ?_
    refine x_iconst 0 (z := 0) dX1_batch_31 rfl (by decide) rfl ?_
    refine x_put 296 25 (c := 0) dX1_batch_32 i0 rfl in_X1 tyX1_ok nmX1 q1592 rfl rfl rfl (Or.inl rfl) (Or.inl ⟨rfl, rfl⟩) rfl ?_
    refine x_aload_n 0 dX1_batch_35 rfl rfl rfl rfl rfl ?_
    refine x_iconst 0 (z := 0) dX1_batch_36 rfl (by decide) rfl ?_
    refine x_put 299 26 (c := 0) dX1_batch_37 i0 rfl in_X1 tyX1_ok nmX1 q1593 rfl rfl rfl (Or.inl rfl) (Or.inl ⟨rfl, rfl⟩) rfl ?_
    refine x_aload_n 0 dX1_batch_40 rfl rfl rfl rfl rfl ?_
    refine x_iconst 0 (z := 0) dX1_batch_41 rfl (by decide) rfl ?_
    refine x_put 302 28 (c := 0) dX1_batch_42 i0 rfl in_X1 tyX1_ok nmX1 q1595 rfl rfl rfl (Or.inl rfl) (Or.inl ⟨rfl, rfl⟩) rfl ?_
    refine x_aload_n 0 dX1_batch_45 rfl rfl rfl rfl rfl ?_
    refine x_iconst 0 (z := 0) dX1_batch_46 rfl (by decide) rfl ?_
    refine x_put 305 30 (c := 0) dX1_batch_47 i0 rfl in_X1 tyX1_ok nmX1 q1597 rfl rfl rfl (Or.inl rfl) (Or.inl ⟨rfl, rfl⟩) rfl ?_
    refine x_iconst 1 (z := 1) dX1_batch_50 rfl (by decide) rfl ?_
    exact y_zret dX1_batch_51 rfl (by decide) h
  · refine x_iconst 0 (z := 0) dX1_batch_8 rfl (by decide) rfl ?_
    exact y_zret dX1_batch_9 rfl (by decide) h
theorem rX1_isAccount {d n : Nat} {w : bW} {Q : Int → bW → Prop} {X : String → bW → Prop} (hn : 143 ≤ n) (a1 : Int) (h : if a1 < 0 then (Q 0 w) else (if w 70 6 ≤ a1 then (Q 0 w) else (Q 1 w))) : b_K (d + 1) mX1_isAccount [(2, 0), (0, a1)] n w Q X := by
  have i0 := iz0 (Nat.le_trans (Nat.le_of_ble_eq_true rfl) hn)
  have i70 := iz70 (Nat.le_trans (Nat.le_of_ble_eq_true rfl) hn)
  refine k_of (by decide) rfl rfl rfl (ls := [(2, 0), (0, a1)]) rfl ?_
  refine x_iload_n 1 dX1_isAccount_0 rfl rfl rfl ?_
  refine x_if_lt (t := 19) 18 dX1_isAccount_1 rfl rfl (b_ite h (fun hc h => ?_) (fun hc h => ?_))
  · refine x_iconst 0 (z := 0) dX1_isAccount_19 rfl (by decide) rfl ?_
    exact y_zret dX1_isAccount_20 rfl (by decide) h
  · refine x_iload_n 1 dX1_isAccount_4 rfl rfl rfl ?_
    refine x_aload_n 0 dX1_isAccount_5 rfl rfl rfl rfl rfl ?_
    refine y_getF 121 15 (c := 0) (z := 70) dX1_isAccount_6 i0 rfl in_X1 q1582 rfl rfl rfl fn_0_15 (Nat.le_trans (Nat.le_of_ble_eq_true rfl) hn) rfl ?_
    refine y_get 252 6 (c := 16) (z := w 70 6) dX1_isAccount_9 i70 rfl in_X17 q1178 rfl rfl rfl rfl rfl ?_
    refine x_icmp_ge (t := 19) 7 dX1_isAccount_12 rfl rfl (b_ite h (fun hc h => ?_) (fun hc h => ?_))
    · refine x_iconst 0 (z := 0) dX1_isAccount_19 rfl (by decide) rfl ?_
      exact y_zret dX1_isAccount_20 rfl (by decide) h
    · refine x_iconst 1 (z := 1) dX1_isAccount_15 rfl (by decide) rfl ?_
      refine x_goto 4 (q := 20) dX1_isAccount_16 rfl ?_
      exact y_zret dX1_isAccount_20 rfl (by decide) h
theorem rX1_limits {d n : Nat} {w : bW} {Q : Int → bW → Prop} {X : String → bW → Prop} (hn : 1 ≤ n) (a1 : Int) (a3 : Int) (a4 : Int) (h : if w 0 21 = 0 then (Q 0 w) else (if a1 < 0 then (Q 0 w) else (if 1125899906842624 < a1 then (Q 0 w) else (if a3 < 0 then (Q 0 w) else (if 100000 < a3 then (Q 0 w) else (if a4 < 0 then (Q 0 w) else (if a4 ≤ 100000 then (Q 1 (b_up (b_up (b_up w 0 24 a1) 0 25 a3) 0 26 a4)) else (Q 0 w)))))))) : b_K (d + 1) mX1_limits [(2, 0), (1, a1), (0, a3), (0, a4)] n w Q X := by
  have i0 := iz0 (Nat.le_trans (Nat.le_of_ble_eq_true rfl) hn)
  refine k_of (by decide) rfl rfl rfl (ls := [(2, 0), (1, a1), (9, 0), (0, a3), (0, a4)]) rfl ?_
  refine x_aload_n 0 dX1_limits_0 rfl rfl rfl rfl rfl ?_
  refine y_get 283 21 (c := 0) (z := w 0 21) dX1_limits_1 i0 rfl in_X1 q1588 rfl rfl rfl rfl rfl ?_
  refine x_if_eq (t := 45) 41 dX1_limits_4 rfl rfl (b_ite h (fun hc h => ?_) (fun hc h => ?_))
  · refine x_iconst 0 (z := 0) dX1_limits_45 rfl (by decide) rfl ?_
    exact y_zret dX1_limits_46 rfl (by decide) h
  · refine x_lload_n 1 dX1_limits_7 rfl rfl rfl ?_
    refine x_lconst 0 (z := 0) dX1_limits_8 rfl (by decide) rfl ?_
    refine x_lc_lt (q := 13) (t := 45) 35 dX1_limits_9 dX1_limits_10 rfl rfl (b_ite h (fun hc h => ?_) (fun hc h => ?_))
    · refine x_iconst 0 (z := 0) dX1_limits_45 rfl (by decide) rfl ?_
      exact y_zret dX1_limits_46 rfl (by decide) h
    · refine x_lload_n 1 dX1_limits_13 rfl rfl rfl ?_
      refine x_ldc2 308 (x := 1125899906842624) dX1_limits_14 q2458 rfl (by decide) rfl ?_
      refine x_lc_gt (q := 21) (t := 45) 27 dX1_limits_17 dX1_limits_18 rfl rfl (b_ite h (fun hc h => ?_) (fun hc h => ?_))
      · refine x_iconst 0 (z := 0) dX1_limits_45 rfl (by decide) rfl ?_
        exact y_zret dX1_limits_46 rfl (by decide) h
      · refine x_iload_n 3 dX1_limits_21 rfl rfl rfl ?_
        refine x_if_lt (t := 45) 23 dX1_limits_22 rfl rfl (b_ite h (fun hc h => ?_) (fun hc h => ?_))
        · refine x_iconst 0 (z := 0) dX1_limits_45 rfl (by decide) rfl ?_
          exact y_zret dX1_limits_46 rfl (by decide) h
        · refine x_iload_n 3 dX1_limits_25 rfl rfl rfl ?_
          refine x_ldcw 310 (x := 100000) dX1_limits_26 q2459 rfl (by decide) rfl ?_
          refine x_icmp_gt (t := 45) 16 dX1_limits_29 rfl rfl (b_ite h (fun hc h => ?_) (fun hc h => ?_))
          · refine x_iconst 0 (z := 0) dX1_limits_45 rfl (by decide) rfl ?_
            exact y_zret dX1_limits_46 rfl (by decide) h
          · refine x_iload 4 dX1_limits_32 rfl rfl ?_
            refine x_if_lt (t := 45) 11 dX1_limits_34 rfl rfl (b_ite h (fun hc h => ?_) (fun hc h => ?_))
            · refine x_iconst 0 (z := 0) dX1_limits_45 rfl (by decide) rfl ?_
              exact y_zret dX1_limits_46 rfl (by decide) h
            · refine x_iload 4 dX1_limits_37 rfl rfl ?_
              refine x_ldcw 310 (x := 100000) dX1_limits_39 q2459 rfl (by decide) rfl ?_
              refine x_icmp_le (t := 47) 5 dX1_limits_42 rfl rfl (b_ite h (fun hc h => ?_) (fun hc h => ?_))
              · refine x_aload_n 0 dX1_limits_47 rfl rfl rfl rfl rfl ?_
                refine x_lload_n 1 dX1_limits_48 rfl rfl rfl ?_
                refine x_put 293 24 (c := 0) dX1_limits_49 i0 rfl in_X1 tyX1_ok nmX1 q1591 rfl rfl rfl (Or.inl rfl) (Or.inr (Or.inr (Or.inl ⟨rfl, rfl⟩))) rfl ?_
                refine x_aload_n 0 dX1_limits_52 rfl rfl rfl rfl rfl ?_
                refine x_iload_n 3 dX1_limits_53 rfl rfl rfl ?_
                refine x_put 296 25 (c := 0) dX1_limits_54 i0 rfl in_X1 tyX1_ok nmX1 q1592 rfl rfl rfl (Or.inl rfl) (Or.inl ⟨rfl, rfl⟩) rfl ?_
                refine x_aload_n 0 dX1_limits_57 rfl rfl rfl rfl rfl ?_
                refine x_iload 4 dX1_limits_58 rfl rfl ?_
                refine x_put 299 26 (c := 0) dX1_limits_60 i0 rfl in_X1 tyX1_ok nmX1 q1593 rfl rfl rfl (Or.inl rfl) (Or.inl ⟨rfl, rfl⟩) rfl ?_
                refine x_iconst 1 (z := 1) dX1_limits_63 rfl (by decide) rfl ?_
                exact y_zret dX1_limits_64 rfl (by decide) h
              · refine x_iconst 0 (z := 0) dX1_limits_45 rfl (by decide) rfl ?_
                exact y_zret dX1_limits_46 rfl (by decide) h
theorem rX1_content {d n : Nat} {w : bW} {Q : Int → bW → Prop} {X : String → bW → Prop} (hn : 143 ≤ n) (a1 : Int) (a2 : Int) (h : if w 0 21 = 0 then (Q (-1) w) else (if w 0 28 = 16 then (Q (-1) w) else (if a2 < 0 then (Q (-1) w) else (if 4611686018427387904 < a2 then (Q (-1) w) else (if b_i ((w 0 30) + (w 0 1)) ≤ 16384 then ((0 ≤ w 0 28 ∧ w 0 28 < 16) ∧ ((a1 = 0 ∨ a1 = 1) ∧ (((0 : Int) ≤ 0 ∧ (0 : Int) ≤ (b_up (b_up (b_up (b_up (b_up (b_up (b_up w 0 28 (b_i ((w 0 28) + 1))) (111 + 2 * (w 0 28)) 0 a1) (111 + 2 * (w 0 28)) 1 ((b_up (b_up w 0 28 (b_i ((w 0 28) + 1))) (111 + 2 * (w 0 28)) 0 a1) 0 24)) (111 + 2 * (w 0 28)) 2 ((b_up (b_up (b_up w 0 28 (b_i ((w 0 28) + 1))) (111 + 2 * (w 0 28)) 0 a1) (111 + 2 * (w 0 28)) 1 ((b_up (b_up w 0 28 (b_i ((w 0 28) + 1))) (111 + 2 * (w 0 28)) 0 a1) 0 24)) 0 25)) (111 + 2 * (w 0 28)) 3 ((b_up (b_up (b_up (b_up w 0 28 (b_i ((w 0 28) + 1))) (111 + 2 * (w 0 28)) 0 a1) (111 + 2 * (w 0 28)) 1 ((b_up (b_up w 0 28 (b_i ((w 0 28) + 1))) (111 + 2 * (w 0 28)) 0 a1) 0 24)) (111 + 2 * (w 0 28)) 2 ((b_up (b_up (b_up w 0 28 (b_i ((w 0 28) + 1))) (111 + 2 * (w 0 28)) 0 a1) (111 + 2 * (w 0 28)) 1 ((b_up (b_up w 0 28 (b_i ((w 0 28) + 1))) (111 + 2 * (w 0 28)) 0 a1) 0 24)) 0 25)) 0 26)) (111 + 2 * (w 0 28)) 4 a2) (111 + 2 * (w 0 28)) 5 ((b_up (b_up (b_up (b_up (b_up (b_up w 0 28 (b_i ((w 0 28) + 1))) (111 + 2 * (w 0 28)) 0 a1) (111 + 2 * (w 0 28)) 1 ((b_up (b_up w 0 28 (b_i ((w 0 28) + 1))) (111 + 2 * (w 0 28)) 0 a1) 0 24)) (111 + 2 * (w 0 28)) 2 ((b_up (b_up (b_up w 0 28 (b_i ((w 0 28) + 1))) (111 + 2 * (w 0 28)) 0 a1) (111 + 2 * (w 0 28)) 1 ((b_up (b_up w 0 28 (b_i ((w 0 28) + 1))) (111 + 2 * (w 0 28)) 0 a1) 0 24)) 0 25)) (111 + 2 * (w 0 28)) 3 ((b_up (b_up (b_up (b_up w 0 28 (b_i ((w 0 28) + 1))) (111 + 2 * (w 0 28)) 0 a1) (111 + 2 * (w 0 28)) 1 ((b_up (b_up w 0 28 (b_i ((w 0 28) + 1))) (111 + 2 * (w 0 28)) 0 a1) 0 24)) (111 + 2 * (w 0 28)) 2 ((b_up (b_up (b_up w 0 28 (b_i ((w 0 28) + 1))) (111 + 2 * (w 0 28)) 0 a1) (111 + 2 * (w 0 28)) 1 ((b_up (b_up w 0 28 (b_i ((w 0 28) + 1))) (111 + 2 * (w 0 28)) 0 a1) 0 24)) 0 25)) 0 26)) (111 + 2 * (w 0 28)) 4 a2) 0 30)) 0 30 ∧ (0 : Int) ≤ (b_up (b_up (b_up (b_up (b_up (b_up (b_up w 0 28 (b_i ((w 0 28) + 1))) (111 + 2 * (w 0 28)) 0 a1) (111 + 2 * (w 0 28)) 1 ((b_up (b_up w 0 28 (b_i ((w 0 28) + 1))) (111 + 2 * (w 0 28)) 0 a1) 0 24)) (111 + 2 * (w 0 28)) 2 ((b_up (b_up (b_up w 0 28 (b_i ((w 0 28) + 1))) (111 + 2 * (w 0 28)) 0 a1) (111 + 2 * (w 0 28)) 1 ((b_up (b_up w 0 28 (b_i ((w 0 28) + 1))) (111 + 2 * (w 0 28)) 0 a1) 0 24)) 0 25)) (111 + 2 * (w 0 28)) 3 ((b_up (b_up (b_up (b_up w 0 28 (b_i ((w 0 28) + 1))) (111 + 2 * (w 0 28)) 0 a1) (111 + 2 * (w 0 28)) 1 ((b_up (b_up w 0 28 (b_i ((w 0 28) + 1))) (111 + 2 * (w 0 28)) 0 a1) 0 24)) (111 + 2 * (w 0 28)) 2 ((b_up (b_up (b_up w 0 28 (b_i ((w 0 28) + 1))) (111 + 2 * (w 0 28)) 0 a1) (111 + 2 * (w 0 28)) 1 ((b_up (b_up w 0 28 (b_i ((w 0 28) + 1))) (111 + 2 * (w 0 28)) 0 a1) 0 24)) 0 25)) 0 26)) (111 + 2 * (w 0 28)) 4 a2) (111 + 2 * (w 0 28)) 5 ((b_up (b_up (b_up (b_up (b_up (b_up w 0 28 (b_i ((w 0 28) + 1))) (111 + 2 * (w 0 28)) 0 a1) (111 + 2 * (w 0 28)) 1 ((b_up (b_up w 0 28 (b_i ((w 0 28) + 1))) (111 + 2 * (w 0 28)) 0 a1) 0 24)) (111 + 2 * (w 0 28)) 2 ((b_up (b_up (b_up w 0 28 (b_i ((w 0 28) + 1))) (111 + 2 * (w 0 28)) 0 a1) (111 + 2 * (w 0 28)) 1 ((b_up (b_up w 0 28 (b_i ((w 0 28) + 1))) (111 + 2 * (w 0 28)) 0 a1) 0 24)) 0 25)) (111 + 2 * (w 0 28)) 3 ((b_up (b_up (b_up (b_up w 0 28 (b_i ((w 0 28) + 1))) (111 + 2 * (w 0 28)) 0 a1) (111 + 2 * (w 0 28)) 1 ((b_up (b_up w 0 28 (b_i ((w 0 28) + 1))) (111 + 2 * (w 0 28)) 0 a1) 0 24)) (111 + 2 * (w 0 28)) 2 ((b_up (b_up (b_up w 0 28 (b_i ((w 0 28) + 1))) (111 + 2 * (w 0 28)) 0 a1) (111 + 2 * (w 0 28)) 1 ((b_up (b_up w 0 28 (b_i ((w 0 28) + 1))) (111 + 2 * (w 0 28)) 0 a1) 0 24)) 0 25)) 0 26)) (111 + 2 * (w 0 28)) 4 a2) 0 30)) 0 1 ∧ (0 : Int) + (b_up (b_up (b_up (b_up (b_up (b_up (b_up w 0 28 (b_i ((w 0 28) + 1))) (111 + 2 * (w 0 28)) 0 a1) (111 + 2 * (w 0 28)) 1 ((b_up (b_up w 0 28 (b_i ((w 0 28) + 1))) (111 + 2 * (w 0 28)) 0 a1) 0 24)) (111 + 2 * (w 0 28)) 2 ((b_up (b_up (b_up w 0 28 (b_i ((w 0 28) + 1))) (111 + 2 * (w 0 28)) 0 a1) (111 + 2 * (w 0 28)) 1 ((b_up (b_up w 0 28 (b_i ((w 0 28) + 1))) (111 + 2 * (w 0 28)) 0 a1) 0 24)) 0 25)) (111 + 2 * (w 0 28)) 3 ((b_up (b_up (b_up (b_up w 0 28 (b_i ((w 0 28) + 1))) (111 + 2 * (w 0 28)) 0 a1) (111 + 2 * (w 0 28)) 1 ((b_up (b_up w 0 28 (b_i ((w 0 28) + 1))) (111 + 2 * (w 0 28)) 0 a1) 0 24)) (111 + 2 * (w 0 28)) 2 ((b_up (b_up (b_up w 0 28 (b_i ((w 0 28) + 1))) (111 + 2 * (w 0 28)) 0 a1) (111 + 2 * (w 0 28)) 1 ((b_up (b_up w 0 28 (b_i ((w 0 28) + 1))) (111 + 2 * (w 0 28)) 0 a1) 0 24)) 0 25)) 0 26)) (111 + 2 * (w 0 28)) 4 a2) (111 + 2 * (w 0 28)) 5 ((b_up (b_up (b_up (b_up (b_up (b_up w 0 28 (b_i ((w 0 28) + 1))) (111 + 2 * (w 0 28)) 0 a1) (111 + 2 * (w 0 28)) 1 ((b_up (b_up w 0 28 (b_i ((w 0 28) + 1))) (111 + 2 * (w 0 28)) 0 a1) 0 24)) (111 + 2 * (w 0 28)) 2 ((b_up (b_up (b_up w 0 28 (b_i ((w 0 28) + 1))) (111 + 2 * (w 0 28)) 0 a1) (111 + 2 * (w 0 28)) 1 ((b_up (b_up w 0 28 (b_i ((w 0 28) + 1))) (111 + 2 * (w 0 28)) 0 a1) 0 24)) 0 25)) (111 + 2 * (w 0 28)) 3 ((b_up (b_up (b_up (b_up w 0 28 (b_i ((w 0 28) + 1))) (111 + 2 * (w 0 28)) 0 a1) (111 + 2 * (w 0 28)) 1 ((b_up (b_up w 0 28 (b_i ((w 0 28) + 1))) (111 + 2 * (w 0 28)) 0 a1) 0 24)) (111 + 2 * (w 0 28)) 2 ((b_up (b_up (b_up w 0 28 (b_i ((w 0 28) + 1))) (111 + 2 * (w 0 28)) 0 a1) (111 + 2 * (w 0 28)) 1 ((b_up (b_up w 0 28 (b_i ((w 0 28) + 1))) (111 + 2 * (w 0 28)) 0 a1) 0 24)) 0 25)) 0 26)) (111 + 2 * (w 0 28)) 4 a2) 0 30)) 0 1 ≤ 16384 ∧ ((b_up (b_up (b_up (b_up (b_up (b_up (b_up w 0 28 (b_i ((w 0 28) + 1))) (111 + 2 * (w 0 28)) 0 a1) (111 + 2 * (w 0 28)) 1 ((b_up (b_up w 0 28 (b_i ((w 0 28) + 1))) (111 + 2 * (w 0 28)) 0 a1) 0 24)) (111 + 2 * (w 0 28)) 2 ((b_up (b_up (b_up w 0 28 (b_i ((w 0 28) + 1))) (111 + 2 * (w 0 28)) 0 a1) (111 + 2 * (w 0 28)) 1 ((b_up (b_up w 0 28 (b_i ((w 0 28) + 1))) (111 + 2 * (w 0 28)) 0 a1) 0 24)) 0 25)) (111 + 2 * (w 0 28)) 3 ((b_up (b_up (b_up (b_up w 0 28 (b_i ((w 0 28) + 1))) (111 + 2 * (w 0 28)) 0 a1) (111 + 2 * (w 0 28)) 1 ((b_up (b_up w 0 28 (b_i ((w 0 28) + 1))) (111 + 2 * (w 0 28)) 0 a1) 0 24)) (111 + 2 * (w 0 28)) 2 ((b_up (b_up (b_up w 0 28 (b_i ((w 0 28) + 1))) (111 + 2 * (w 0 28)) 0 a1) (111 + 2 * (w 0 28)) 1 ((b_up (b_up w 0 28 (b_i ((w 0 28) + 1))) (111 + 2 * (w 0 28)) 0 a1) 0 24)) 0 25)) 0 26)) (111 + 2 * (w 0 28)) 4 a2) (111 + 2 * (w 0 28)) 5 ((b_up (b_up (b_up (b_up (b_up (b_up w 0 28 (b_i ((w 0 28) + 1))) (111 + 2 * (w 0 28)) 0 a1) (111 + 2 * (w 0 28)) 1 ((b_up (b_up w 0 28 (b_i ((w 0 28) + 1))) (111 + 2 * (w 0 28)) 0 a1) 0 24)) (111 + 2 * (w 0 28)) 2 ((b_up (b_up (b_up w 0 28 (b_i ((w 0 28) + 1))) (111 + 2 * (w 0 28)) 0 a1) (111 + 2 * (w 0 28)) 1 ((b_up (b_up w 0 28 (b_i ((w 0 28) + 1))) (111 + 2 * (w 0 28)) 0 a1) 0 24)) 0 25)) (111 + 2 * (w 0 28)) 3 ((b_up (b_up (b_up (b_up w 0 28 (b_i ((w 0 28) + 1))) (111 + 2 * (w 0 28)) 0 a1) (111 + 2 * (w 0 28)) 1 ((b_up (b_up w 0 28 (b_i ((w 0 28) + 1))) (111 + 2 * (w 0 28)) 0 a1) 0 24)) (111 + 2 * (w 0 28)) 2 ((b_up (b_up (b_up w 0 28 (b_i ((w 0 28) + 1))) (111 + 2 * (w 0 28)) 0 a1) (111 + 2 * (w 0 28)) 1 ((b_up (b_up w 0 28 (b_i ((w 0 28) + 1))) (111 + 2 * (w 0 28)) 0 a1) 0 24)) 0 25)) 0 26)) (111 + 2 * (w 0 28)) 4 a2) 0 30)) 0 30 : Int) + (b_up (b_up (b_up (b_up (b_up (b_up (b_up w 0 28 (b_i ((w 0 28) + 1))) (111 + 2 * (w 0 28)) 0 a1) (111 + 2 * (w 0 28)) 1 ((b_up (b_up w 0 28 (b_i ((w 0 28) + 1))) (111 + 2 * (w 0 28)) 0 a1) 0 24)) (111 + 2 * (w 0 28)) 2 ((b_up (b_up (b_up w 0 28 (b_i ((w 0 28) + 1))) (111 + 2 * (w 0 28)) 0 a1) (111 + 2 * (w 0 28)) 1 ((b_up (b_up w 0 28 (b_i ((w 0 28) + 1))) (111 + 2 * (w 0 28)) 0 a1) 0 24)) 0 25)) (111 + 2 * (w 0 28)) 3 ((b_up (b_up (b_up (b_up w 0 28 (b_i ((w 0 28) + 1))) (111 + 2 * (w 0 28)) 0 a1) (111 + 2 * (w 0 28)) 1 ((b_up (b_up w 0 28 (b_i ((w 0 28) + 1))) (111 + 2 * (w 0 28)) 0 a1) 0 24)) (111 + 2 * (w 0 28)) 2 ((b_up (b_up (b_up w 0 28 (b_i ((w 0 28) + 1))) (111 + 2 * (w 0 28)) 0 a1) (111 + 2 * (w 0 28)) 1 ((b_up (b_up w 0 28 (b_i ((w 0 28) + 1))) (111 + 2 * (w 0 28)) 0 a1) 0 24)) 0 25)) 0 26)) (111 + 2 * (w 0 28)) 4 a2) (111 + 2 * (w 0 28)) 5 ((b_up (b_up (b_up (b_up (b_up (b_up w 0 28 (b_i ((w 0 28) + 1))) (111 + 2 * (w 0 28)) 0 a1) (111 + 2 * (w 0 28)) 1 ((b_up (b_up w 0 28 (b_i ((w 0 28) + 1))) (111 + 2 * (w 0 28)) 0 a1) 0 24)) (111 + 2 * (w 0 28)) 2 ((b_up (b_up (b_up w 0 28 (b_i ((w 0 28) + 1))) (111 + 2 * (w 0 28)) 0 a1) (111 + 2 * (w 0 28)) 1 ((b_up (b_up w 0 28 (b_i ((w 0 28) + 1))) (111 + 2 * (w 0 28)) 0 a1) 0 24)) 0 25)) (111 + 2 * (w 0 28)) 3 ((b_up (b_up (b_up (b_up w 0 28 (b_i ((w 0 28) + 1))) (111 + 2 * (w 0 28)) 0 a1) (111 + 2 * (w 0 28)) 1 ((b_up (b_up w 0 28 (b_i ((w 0 28) + 1))) (111 + 2 * (w 0 28)) 0 a1) 0 24)) (111 + 2 * (w 0 28)) 2 ((b_up (b_up (b_up w 0 28 (b_i ((w 0 28) + 1))) (111 + 2 * (w 0 28)) 0 a1) (111 + 2 * (w 0 28)) 1 ((b_up (b_up w 0 28 (b_i ((w 0 28) + 1))) (111 + 2 * (w 0 28)) 0 a1) 0 24)) 0 25)) 0 26)) (111 + 2 * (w 0 28)) 4 a2) 0 30)) 0 1 ≤ 16384) ∧ (Q ((b_up (b_up (b_cp (b_up (b_up (b_up (b_up (b_up (b_up (b_up w 0 28 (b_i ((w 0 28) + 1))) (111 + 2 * (w 0 28)) 0 a1) (111 + 2 * (w 0 28)) 1 ((b_up (b_up w 0 28 (b_i ((w 0 28) + 1))) (111 + 2 * (w 0 28)) 0 a1) 0 24)) (111 + 2 * (w 0 28)) 2 ((b_up (b_up (b_up w 0 28 (b_i ((w 0 28) + 1))) (111 + 2 * (w 0 28)) 0 a1) (111 + 2 * (w 0 28)) 1 ((b_up (b_up w 0 28 (b_i ((w 0 28) + 1))) (111 + 2 * (w 0 28)) 0 a1) 0 24)) 0 25)) (111 + 2 * (w 0 28)) 3 ((b_up (b_up (b_up (b_up w 0 28 (b_i ((w 0 28) + 1))) (111 + 2 * (w 0 28)) 0 a1) (111 + 2 * (w 0 28)) 1 ((b_up (b_up w 0 28 (b_i ((w 0 28) + 1))) (111 + 2 * (w 0 28)) 0 a1) 0 24)) (111 + 2 * (w 0 28)) 2 ((b_up (b_up (b_up w 0 28 (b_i ((w 0 28) + 1))) (111 + 2 * (w 0 28)) 0 a1) (111 + 2 * (w 0 28)) 1 ((b_up (b_up w 0 28 (b_i ((w 0 28) + 1))) (111 + 2 * (w 0 28)) 0 a1) 0 24)) 0 25)) 0 26)) (111 + 2 * (w 0 28)) 4 a2) (111 + 2 * (w 0 28)) 5 ((b_up (b_up (b_up (b_up (b_up (b_up w 0 28 (b_i ((w 0 28) + 1))) (111 + 2 * (w 0 28)) 0 a1) (111 + 2 * (w 0 28)) 1 ((b_up (b_up w 0 28 (b_i ((w 0 28) + 1))) (111 + 2 * (w 0 28)) 0 a1) 0 24)) (111 + 2 * (w 0 28)) 2 ((b_up (b_up (b_up w 0 28 (b_i ((w 0 28) + 1))) (111 + 2 * (w 0 28)) 0 a1) (111 + 2 * (w 0 28)) 1 ((b_up (b_up w 0 28 (b_i ((w 0 28) + 1))) (111 + 2 * (w 0 28)) 0 a1) 0 24)) 0 25)) (111 + 2 * (w 0 28)) 3 ((b_up (b_up (b_up (b_up w 0 28 (b_i ((w 0 28) + 1))) (111 + 2 * (w 0 28)) 0 a1) (111 + 2 * (w 0 28)) 1 ((b_up (b_up w 0 28 (b_i ((w 0 28) + 1))) (111 + 2 * (w 0 28)) 0 a1) 0 24)) (111 + 2 * (w 0 28)) 2 ((b_up (b_up (b_up w 0 28 (b_i ((w 0 28) + 1))) (111 + 2 * (w 0 28)) 0 a1) (111 + 2 * (w 0 28)) 1 ((b_up (b_up w 0 28 (b_i ((w 0 28) + 1))) (111 + 2 * (w 0 28)) 0 a1) 0 24)) 0 25)) 0 26)) (111 + 2 * (w 0 28)) 4 a2) 0 30)) 1 0 109 ((b_up (b_up (b_up (b_up (b_up (b_up (b_up w 0 28 (b_i ((w 0 28) + 1))) (111 + 2 * (w 0 28)) 0 a1) (111 + 2 * (w 0 28)) 1 ((b_up (b_up w 0 28 (b_i ((w 0 28) + 1))) (111 + 2 * (w 0 28)) 0 a1) 0 24)) (111 + 2 * (w 0 28)) 2 ((b_up (b_up (b_up w 0 28 (b_i ((w 0 28) + 1))) (111 + 2 * (w 0 28)) 0 a1) (111 + 2 * (w 0 28)) 1 ((b_up (b_up w 0 28 (b_i ((w 0 28) + 1))) (111 + 2 * (w 0 28)) 0 a1) 0 24)) 0 25)) (111 + 2 * (w 0 28)) 3 ((b_up (b_up (b_up (b_up w 0 28 (b_i ((w 0 28) + 1))) (111 + 2 * (w 0 28)) 0 a1) (111 + 2 * (w 0 28)) 1 ((b_up (b_up w 0 28 (b_i ((w 0 28) + 1))) (111 + 2 * (w 0 28)) 0 a1) 0 24)) (111 + 2 * (w 0 28)) 2 ((b_up (b_up (b_up w 0 28 (b_i ((w 0 28) + 1))) (111 + 2 * (w 0 28)) 0 a1) (111 + 2 * (w 0 28)) 1 ((b_up (b_up w 0 28 (b_i ((w 0 28) + 1))) (111 + 2 * (w 0 28)) 0 a1) 0 24)) 0 25)) 0 26)) (111 + 2 * (w 0 28)) 4 a2) (111 + 2 * (w 0 28)) 5 ((b_up (b_up (b_up (b_up (b_up (b_up w 0 28 (b_i ((w 0 28) + 1))) (111 + 2 * (w 0 28)) 0 a1) (111 + 2 * (w 0 28)) 1 ((b_up (b_up w 0 28 (b_i ((w 0 28) + 1))) (111 + 2 * (w 0 28)) 0 a1) 0 24)) (111 + 2 * (w 0 28)) 2 ((b_up (b_up (b_up w 0 28 (b_i ((w 0 28) + 1))) (111 + 2 * (w 0 28)) 0 a1) (111 + 2 * (w 0 28)) 1 ((b_up (b_up w 0 28 (b_i ((w 0 28) + 1))) (111 + 2 * (w 0 28)) 0 a1) 0 24)) 0 25)) (111 + 2 * (w 0 28)) 3 ((b_up (b_up (b_up (b_up w 0 28 (b_i ((w 0 28) + 1))) (111 + 2 * (w 0 28)) 0 a1) (111 + 2 * (w 0 28)) 1 ((b_up (b_up w 0 28 (b_i ((w 0 28) + 1))) (111 + 2 * (w 0 28)) 0 a1) 0 24)) (111 + 2 * (w 0 28)) 2 ((b_up (b_up (b_up w 0 28 (b_i ((w 0 28) + 1))) (111 + 2 * (w 0 28)) 0 a1) (111 + 2 * (w 0 28)) 1 ((b_up (b_up w 0 28 (b_i ((w 0 28) + 1))) (111 + 2 * (w 0 28)) 0 a1) 0 24)) 0 25)) 0 26)) (111 + 2 * (w 0 28)) 4 a2) 0 30)) 0 30) ((b_up (b_up (b_up (b_up (b_up (b_up (b_up w 0 28 (b_i ((w 0 28) + 1))) (111 + 2 * (w 0 28)) 0 a1) (111 + 2 * (w 0 28)) 1 ((b_up (b_up w 0 28 (b_i ((w 0 28) + 1))) (111 + 2 * (w 0 28)) 0 a1) 0 24)) (111 + 2 * (w 0 28)) 2 ((b_up (b_up (b_up w 0 28 (b_i ((w 0 28) + 1))) (111 + 2 * (w 0 28)) 0 a1) (111 + 2 * (w 0 28)) 1 ((b_up (b_up w 0 28 (b_i ((w 0 28) + 1))) (111 + 2 * (w 0 28)) 0 a1) 0 24)) 0 25)) (111 + 2 * (w 0 28)) 3 ((b_up (b_up (b_up (b_up w 0 28 (b_i ((w 0 28) + 1))) (111 + 2 * (w 0 28)) 0 a1) (111 + 2 * (w 0 28)) 1 ((b_up (b_up w 0 28 (b_i ((w 0 28) + 1))) (111 + 2 * (w 0 28)) 0 a1) 0 24)) (111 + 2 * (w 0 28)) 2 ((b_up (b_up (b_up w 0 28 (b_i ((w 0 28) + 1))) (111 + 2 * (w 0 28)) 0 a1) (111 + 2 * (w 0 28)) 1 ((b_up (b_up w 0 28 (b_i ((w 0 28) + 1))) (111 + 2 * (w 0 28)) 0 a1) 0 24)) 0 25)) 0 26)) (111 + 2 * (w 0 28)) 4 a2) (111 + 2 * (w 0 28)) 5 ((b_up (b_up (b_up (b_up (b_up (b_up w 0 28 (b_i ((w 0 28) + 1))) (111 + 2 * (w 0 28)) 0 a1) (111 + 2 * (w 0 28)) 1 ((b_up (b_up w 0 28 (b_i ((w 0 28) + 1))) (111 + 2 * (w 0 28)) 0 a1) 0 24)) (111 + 2 * (w 0 28)) 2 ((b_up (b_up (b_up w 0 28 (b_i ((w 0 28) + 1))) (111 + 2 * (w 0 28)) 0 a1) (111 + 2 * (w 0 28)) 1 ((b_up (b_up w 0 28 (b_i ((w 0 28) + 1))) (111 + 2 * (w 0 28)) 0 a1) 0 24)) 0 25)) (111 + 2 * (w 0 28)) 3 ((b_up (b_up (b_up (b_up w 0 28 (b_i ((w 0 28) + 1))) (111 + 2 * (w 0 28)) 0 a1) (111 + 2 * (w 0 28)) 1 ((b_up (b_up w 0 28 (b_i ((w 0 28) + 1))) (111 + 2 * (w 0 28)) 0 a1) 0 24)) (111 + 2 * (w 0 28)) 2 ((b_up (b_up (b_up w 0 28 (b_i ((w 0 28) + 1))) (111 + 2 * (w 0 28)) 0 a1) (111 + 2 * (w 0 28)) 1 ((b_up (b_up w 0 28 (b_i ((w 0 28) + 1))) (111 + 2 * (w 0 28)) 0 a1) 0 24)) 0 25)) 0 26)) (111 + 2 * (w 0 28)) 4 a2) 0 30)) 0 1)) 0 30 (b_i (((b_up (b_up (b_up (b_up (b_up (b_up (b_up w 0 28 (b_i ((w 0 28) + 1))) (111 + 2 * (w 0 28)) 0 a1) (111 + 2 * (w 0 28)) 1 ((b_up (b_up w 0 28 (b_i ((w 0 28) + 1))) (111 + 2 * (w 0 28)) 0 a1) 0 24)) (111 + 2 * (w 0 28)) 2 ((b_up (b_up (b_up w 0 28 (b_i ((w 0 28) + 1))) (111 + 2 * (w 0 28)) 0 a1) (111 + 2 * (w 0 28)) 1 ((b_up (b_up w 0 28 (b_i ((w 0 28) + 1))) (111 + 2 * (w 0 28)) 0 a1) 0 24)) 0 25)) (111 + 2 * (w 0 28)) 3 ((b_up (b_up (b_up (b_up w 0 28 (b_i ((w 0 28) + 1))) (111 + 2 * (w 0 28)) 0 a1) (111 + 2 * (w 0 28)) 1 ((b_up (b_up w 0 28 (b_i ((w 0 28) + 1))) (111 + 2 * (w 0 28)) 0 a1) 0 24)) (111 + 2 * (w 0 28)) 2 ((b_up (b_up (b_up w 0 28 (b_i ((w 0 28) + 1))) (111 + 2 * (w 0 28)) 0 a1) (111 + 2 * (w 0 28)) 1 ((b_up (b_up w 0 28 (b_i ((w 0 28) + 1))) (111 + 2 * (w 0 28)) 0 a1) 0 24)) 0 25)) 0 26)) (111 + 2 * (w 0 28)) 4 a2) (111 + 2 * (w 0 28)) 5 ((b_up (b_up (b_up (b_up (b_up (b_up w 0 28 (b_i ((w 0 28) + 1))) (111 + 2 * (w 0 28)) 0 a1) (111 + 2 * (w 0 28)) 1 ((b_up (b_up w 0 28 (b_i ((w 0 28) + 1))) (111 + 2 * (w 0 28)) 0 a1) 0 24)) (111 + 2 * (w 0 28)) 2 ((b_up (b_up (b_up w 0 28 (b_i ((w 0 28) + 1))) (111 + 2 * (w 0 28)) 0 a1) (111 + 2 * (w 0 28)) 1 ((b_up (b_up w 0 28 (b_i ((w 0 28) + 1))) (111 + 2 * (w 0 28)) 0 a1) 0 24)) 0 25)) (111 + 2 * (w 0 28)) 3 ((b_up (b_up (b_up (b_up w 0 28 (b_i ((w 0 28) + 1))) (111 + 2 * (w 0 28)) 0 a1) (111 + 2 * (w 0 28)) 1 ((b_up (b_up w 0 28 (b_i ((w 0 28) + 1))) (111 + 2 * (w 0 28)) 0 a1) 0 24)) (111 + 2 * (w 0 28)) 2 ((b_up (b_up (b_up w 0 28 (b_i ((w 0 28) + 1))) (111 + 2 * (w 0 28)) 0 a1) (111 + 2 * (w 0 28)) 1 ((b_up (b_up w 0 28 (b_i ((w 0 28) + 1))) (111 + 2 * (w 0 28)) 0 a1) 0 24)) 0 25)) 0 26)) (111 + 2 * (w 0 28)) 4 a2) 0 30)) 0 30) + ((b_up (b_up (b_up (b_up (b_up (b_up (b_up w 0 28 (b_i ((w 0 28) + 1))) (111 + 2 * (w 0 28)) 0 a1) (111 + 2 * (w 0 28)) 1 ((b_up (b_up w 0 28 (b_i ((w 0 28) + 1))) (111 + 2 * (w 0 28)) 0 a1) 0 24)) (111 + 2 * (w 0 28)) 2 ((b_up (b_up (b_up w 0 28 (b_i ((w 0 28) + 1))) (111 + 2 * (w 0 28)) 0 a1) (111 + 2 * (w 0 28)) 1 ((b_up (b_up w 0 28 (b_i ((w 0 28) + 1))) (111 + 2 * (w 0 28)) 0 a1) 0 24)) 0 25)) (111 + 2 * (w 0 28)) 3 ((b_up (b_up (b_up (b_up w 0 28 (b_i ((w 0 28) + 1))) (111 + 2 * (w 0 28)) 0 a1) (111 + 2 * (w 0 28)) 1 ((b_up (b_up w 0 28 (b_i ((w 0 28) + 1))) (111 + 2 * (w 0 28)) 0 a1) 0 24)) (111 + 2 * (w 0 28)) 2 ((b_up (b_up (b_up w 0 28 (b_i ((w 0 28) + 1))) (111 + 2 * (w 0 28)) 0 a1) (111 + 2 * (w 0 28)) 1 ((b_up (b_up w 0 28 (b_i ((w 0 28) + 1))) (111 + 2 * (w 0 28)) 0 a1) 0 24)) 0 25)) 0 26)) (111 + 2 * (w 0 28)) 4 a2) (111 + 2 * (w 0 28)) 5 ((b_up (b_up (b_up (b_up (b_up (b_up w 0 28 (b_i ((w 0 28) + 1))) (111 + 2 * (w 0 28)) 0 a1) (111 + 2 * (w 0 28)) 1 ((b_up (b_up w 0 28 (b_i ((w 0 28) + 1))) (111 + 2 * (w 0 28)) 0 a1) 0 24)) (111 + 2 * (w 0 28)) 2 ((b_up (b_up (b_up w 0 28 (b_i ((w 0 28) + 1))) (111 + 2 * (w 0 28)) 0 a1) (111 + 2 * (w 0 28)) 1 ((b_up (b_up w 0 28 (b_i ((w 0 28) + 1))) (111 + 2 * (w 0 28)) 0 a1) 0 24)) 0 25)) (111 + 2 * (w 0 28)) 3 ((b_up (b_up (b_up (b_up w 0 28 (b_i ((w 0 28) + 1))) (111 + 2 * (w 0 28)) 0 a1) (111 + 2 * (w 0 28)) 1 ((b_up (b_up w 0 28 (b_i ((w 0 28) + 1))) (111 + 2 * (w 0 28)) 0 a1) 0 24)) (111 + 2 * (w 0 28)) 2 ((b_up (b_up (b_up w 0 28 (b_i ((w 0 28) + 1))) (111 + 2 * (w 0 28)) 0 a1) (111 + 2 * (w 0 28)) 1 ((b_up (b_up w 0 28 (b_i ((w 0 28) + 1))) (111 + 2 * (w 0 28)) 0 a1) 0 24)) 0 25)) 0 26)) (111 + 2 * (w 0 28)) 4 a2) 0 30)) 0 1)))) (111 + 2 * (w 0 28)) 6 (b_i (((b_up (b_up (b_up (b_up (b_up (b_up (b_up w 0 28 (b_i ((w 0 28) + 1))) (111 + 2 * (w 0 28)) 0 a1) (111 + 2 * (w 0 28)) 1 ((b_up (b_up w 0 28 (b_i ((w 0 28) + 1))) (111 + 2 * (w 0 28)) 0 a1) 0 24)) (111 + 2 * (w 0 28)) 2 ((b_up (b_up (b_up w 0 28 (b_i ((w 0 28) + 1))) (111 + 2 * (w 0 28)) 0 a1) (111 + 2 * (w 0 28)) 1 ((b_up (b_up w 0 28 (b_i ((w 0 28) + 1))) (111 + 2 * (w 0 28)) 0 a1) 0 24)) 0 25)) (111 + 2 * (w 0 28)) 3 ((b_up (b_up (b_up (b_up w 0 28 (b_i ((w 0 28) + 1))) (111 + 2 * (w 0 28)) 0 a1) (111 + 2 * (w 0 28)) 1 ((b_up (b_up w 0 28 (b_i ((w 0 28) + 1))) (111 + 2 * (w 0 28)) 0 a1) 0 24)) (111 + 2 * (w 0 28)) 2 ((b_up (b_up (b_up w 0 28 (b_i ((w 0 28) + 1))) (111 + 2 * (w 0 28)) 0 a1) (111 + 2 * (w 0 28)) 1 ((b_up (b_up w 0 28 (b_i ((w 0 28) + 1))) (111 + 2 * (w 0 28)) 0 a1) 0 24)) 0 25)) 0 26)) (111 + 2 * (w 0 28)) 4 a2) (111 + 2 * (w 0 28)) 5 ((b_up (b_up (b_up (b_up (b_up (b_up w 0 28 (b_i ((w 0 28) + 1))) (111 + 2 * (w 0 28)) 0 a1) (111 + 2 * (w 0 28)) 1 ((b_up (b_up w 0 28 (b_i ((w 0 28) + 1))) (111 + 2 * (w 0 28)) 0 a1) 0 24)) (111 + 2 * (w 0 28)) 2 ((b_up (b_up (b_up w 0 28 (b_i ((w 0 28) + 1))) (111 + 2 * (w 0 28)) 0 a1) (111 + 2 * (w 0 28)) 1 ((b_up (b_up w 0 28 (b_i ((w 0 28) + 1))) (111 + 2 * (w 0 28)) 0 a1) 0 24)) 0 25)) (111 + 2 * (w 0 28)) 3 ((b_up (b_up (b_up (b_up w 0 28 (b_i ((w 0 28) + 1))) (111 + 2 * (w 0 28)) 0 a1) (111 + 2 * (w 0 28)) 1 ((b_up (b_up w 0 28 (b_i ((w 0 28) + 1))) (111 + 2 * (w 0 28)) 0 a1) 0 24)) (111 + 2 * (w 0 28)) 2 ((b_up (b_up (b_up w 0 28 (b_i ((w 0 28) + 1))) (111 + 2 * (w 0 28)) 0 a1) (111 + 2 * (w 0 28)) 1 ((b_up (b_up w 0 28 (b_i ((w 0 28) + 1))) (111 + 2 * (w 0 28)) 0 a1) 0 24)) 0 25)) 0 26)) (111 + 2 * (w 0 28)) 4 a2) 0 30)) 0 30) + ((b_up (b_up (b_up (b_up (b_up (b_up (b_up w 0 28 (b_i ((w 0 28) + 1))) (111 + 2 * (w 0 28)) 0 a1) (111 + 2 * (w 0 28)) 1 ((b_up (b_up w 0 28 (b_i ((w 0 28) + 1))) (111 + 2 * (w 0 28)) 0 a1) 0 24)) (111 + 2 * (w 0 28)) 2 ((b_up (b_up (b_up w 0 28 (b_i ((w 0 28) + 1))) (111 + 2 * (w 0 28)) 0 a1) (111 + 2 * (w 0 28)) 1 ((b_up (b_up w 0 28 (b_i ((w 0 28) + 1))) (111 + 2 * (w 0 28)) 0 a1) 0 24)) 0 25)) (111 + 2 * (w 0 28)) 3 ((b_up (b_up (b_up (b_up w 0 28 (b_i ((w 0 28) + 1))) (111 + 2 * (w 0 28)) 0 a1) (111 + 2 * (w 0 28)) 1 ((b_up (b_up w 0 28 (b_i ((w 0 28) + 1))) (111 + 2 * (w 0 28)) 0 a1) 0 24)) (111 + 2 * (w 0 28)) 2 ((b_up (b_up (b_up w 0 28 (b_i ((w 0 28) + 1))) (111 + 2 * (w 0 28)) 0 a1) (111 + 2 * (w 0 28)) 1 ((b_up (b_up w 0 28 (b_i ((w 0 28) + 1))) (111 + 2 * (w 0 28)) 0 a1) 0 24)) 0 25)) 0 26)) (111 + 2 * (w 0 28)) 4 a2) (111 + 2 * (w 0 28)) 5 ((b_up (b_up (b_up (b_up (b_up (b_up w 0 28 (b_i ((w 0 28) + 1))) (111 + 2 * (w 0 28)) 0 a1) (111 + 2 * (w 0 28)) 1 ((b_up (b_up w 0 28 (b_i ((w 0 28) + 1))) (111 + 2 * (w 0 28)) 0 a1) 0 24)) (111 + 2 * (w 0 28)) 2 ((b_up (b_up (b_up w 0 28 (b_i ((w 0 28) + 1))) (111 + 2 * (w 0 28)) 0 a1) (111 + 2 * (w 0 28)) 1 ((b_up (b_up w 0 28 (b_i ((w 0 28) + 1))) (111 + 2 * (w 0 28)) 0 a1) 0 24)) 0 25)) (111 + 2 * (w 0 28)) 3 ((b_up (b_up (b_up (b_up w 0 28 (b_i ((w 0 28) + 1))) (111 + 2 * (w 0 28)) 0 a1) (111 + 2 * (w 0 28)) 1 ((b_up (b_up w 0 28 (b_i ((w 0 28) + 1))) (111 + 2 * (w 0 28)) 0 a1) 0 24)) (111 + 2 * (w 0 28)) 2 ((b_up (b_up (b_up w 0 28 (b_i ((w 0 28) + 1))) (111 + 2 * (w 0 28)) 0 a1) (111 + 2 * (w 0 28)) 1 ((b_up (b_up w 0 28 (b_i ((w 0 28) + 1))) (111 + 2 * (w 0 28)) 0 a1) 0 24)) 0 25)) 0 26)) (111 + 2 * (w 0 28)) 4 a2) 0 30)) 0 1)))) 0 28) (b_up (b_up (b_up (b_cp (b_up (b_up (b_up (b_up (b_up (b_up (b_up w 0 28 (b_i ((w 0 28) + 1))) (111 + 2 * (w 0 28)) 0 a1) (111 + 2 * (w 0 28)) 1 ((b_up (b_up w 0 28 (b_i ((w 0 28) + 1))) (111 + 2 * (w 0 28)) 0 a1) 0 24)) (111 + 2 * (w 0 28)) 2 ((b_up (b_up (b_up w 0 28 (b_i ((w 0 28) + 1))) (111 + 2 * (w 0 28)) 0 a1) (111 + 2 * (w 0 28)) 1 ((b_up (b_up w 0 28 (b_i ((w 0 28) + 1))) (111 + 2 * (w 0 28)) 0 a1) 0 24)) 0 25)) (111 + 2 * (w 0 28)) 3 ((b_up (b_up (b_up (b_up w 0 28 (b_i ((w 0 28) + 1))) (111 + 2 * (w 0 28)) 0 a1) (111 + 2 * (w 0 28)) 1 ((b_up (b_up w 0 28 (b_i ((w 0 28) + 1))) (111 + 2 * (w 0 28)) 0 a1) 0 24)) (111 + 2 * (w 0 28)) 2 ((b_up (b_up (b_up w 0 28 (b_i ((w 0 28) + 1))) (111 + 2 * (w 0 28)) 0 a1) (111 + 2 * (w 0 28)) 1 ((b_up (b_up w 0 28 (b_i ((w 0 28) + 1))) (111 + 2 * (w 0 28)) 0 a1) 0 24)) 0 25)) 0 26)) (111 + 2 * (w 0 28)) 4 a2) (111 + 2 * (w 0 28)) 5 ((b_up (b_up (b_up (b_up (b_up (b_up w 0 28 (b_i ((w 0 28) + 1))) (111 + 2 * (w 0 28)) 0 a1) (111 + 2 * (w 0 28)) 1 ((b_up (b_up w 0 28 (b_i ((w 0 28) + 1))) (111 + 2 * (w 0 28)) 0 a1) 0 24)) (111 + 2 * (w 0 28)) 2 ((b_up (b_up (b_up w 0 28 (b_i ((w 0 28) + 1))) (111 + 2 * (w 0 28)) 0 a1) (111 + 2 * (w 0 28)) 1 ((b_up (b_up w 0 28 (b_i ((w 0 28) + 1))) (111 + 2 * (w 0 28)) 0 a1) 0 24)) 0 25)) (111 + 2 * (w 0 28)) 3 ((b_up (b_up (b_up (b_up w 0 28 (b_i ((w 0 28) + 1))) (111 + 2 * (w 0 28)) 0 a1) (111 + 2 * (w 0 28)) 1 ((b_up (b_up w 0 28 (b_i ((w 0 28) + 1))) (111 + 2 * (w 0 28)) 0 a1) 0 24)) (111 + 2 * (w 0 28)) 2 ((b_up (b_up (b_up w 0 28 (b_i ((w 0 28) + 1))) (111 + 2 * (w 0 28)) 0 a1) (111 + 2 * (w 0 28)) 1 ((b_up (b_up w 0 28 (b_i ((w 0 28) + 1))) (111 + 2 * (w 0 28)) 0 a1) 0 24)) 0 25)) 0 26)) (111 + 2 * (w 0 28)) 4 a2) 0 30)) 1 0 109 ((b_up (b_up (b_up (b_up (b_up (b_up (b_up w 0 28 (b_i ((w 0 28) + 1))) (111 + 2 * (w 0 28)) 0 a1) (111 + 2 * (w 0 28)) 1 ((b_up (b_up w 0 28 (b_i ((w 0 28) + 1))) (111 + 2 * (w 0 28)) 0 a1) 0 24)) (111 + 2 * (w 0 28)) 2 ((b_up (b_up (b_up w 0 28 (b_i ((w 0 28) + 1))) (111 + 2 * (w 0 28)) 0 a1) (111 + 2 * (w 0 28)) 1 ((b_up (b_up w 0 28 (b_i ((w 0 28) + 1))) (111 + 2 * (w 0 28)) 0 a1) 0 24)) 0 25)) (111 + 2 * (w 0 28)) 3 ((b_up (b_up (b_up (b_up w 0 28 (b_i ((w 0 28) + 1))) (111 + 2 * (w 0 28)) 0 a1) (111 + 2 * (w 0 28)) 1 ((b_up (b_up w 0 28 (b_i ((w 0 28) + 1))) (111 + 2 * (w 0 28)) 0 a1) 0 24)) (111 + 2 * (w 0 28)) 2 ((b_up (b_up (b_up w 0 28 (b_i ((w 0 28) + 1))) (111 + 2 * (w 0 28)) 0 a1) (111 + 2 * (w 0 28)) 1 ((b_up (b_up w 0 28 (b_i ((w 0 28) + 1))) (111 + 2 * (w 0 28)) 0 a1) 0 24)) 0 25)) 0 26)) (111 + 2 * (w 0 28)) 4 a2) (111 + 2 * (w 0 28)) 5 ((b_up (b_up (b_up (b_up (b_up (b_up w 0 28 (b_i ((w 0 28) + 1))) (111 + 2 * (w 0 28)) 0 a1) (111 + 2 * (w 0 28)) 1 ((b_up (b_up w 0 28 (b_i ((w 0 28) + 1))) (111 + 2 * (w 0 28)) 0 a1) 0 24)) (111 + 2 * (w 0 28)) 2 ((b_up (b_up (b_up w 0 28 (b_i ((w 0 28) + 1))) (111 + 2 * (w 0 28)) 0 a1) (111 + 2 * (w 0 28)) 1 ((b_up (b_up w 0 28 (b_i ((w 0 28) + 1))) (111 + 2 * (w 0 28)) 0 a1) 0 24)) 0 25)) (111 + 2 * (w 0 28)) 3 ((b_up (b_up (b_up (b_up w 0 28 (b_i ((w 0 28) + 1))) (111 + 2 * (w 0 28)) 0 a1) (111 + 2 * (w 0 28)) 1 ((b_up (b_up w 0 28 (b_i ((w 0 28) + 1))) (111 + 2 * (w 0 28)) 0 a1) 0 24)) (111 + 2 * (w 0 28)) 2 ((b_up (b_up (b_up w 0 28 (b_i ((w 0 28) + 1))) (111 + 2 * (w 0 28)) 0 a1) (111 + 2 * (w 0 28)) 1 ((b_up (b_up w 0 28 (b_i ((w 0 28) + 1))) (111 + 2 * (w 0 28)) 0 a1) 0 24)) 0 25)) 0 26)) (111 + 2 * (w 0 28)) 4 a2) 0 30)) 0 30) ((b_up (b_up (b_up (b_up (b_up (b_up (b_up w 0 28 (b_i ((w 0 28) + 1))) (111 + 2 * (w 0 28)) 0 a1) (111 + 2 * (w 0 28)) 1 ((b_up (b_up w 0 28 (b_i ((w 0 28) + 1))) (111 + 2 * (w 0 28)) 0 a1) 0 24)) (111 + 2 * (w 0 28)) 2 ((b_up (b_up (b_up w 0 28 (b_i ((w 0 28) + 1))) (111 + 2 * (w 0 28)) 0 a1) (111 + 2 * (w 0 28)) 1 ((b_up (b_up w 0 28 (b_i ((w 0 28) + 1))) (111 + 2 * (w 0 28)) 0 a1) 0 24)) 0 25)) (111 + 2 * (w 0 28)) 3 ((b_up (b_up (b_up (b_up w 0 28 (b_i ((w 0 28) + 1))) (111 + 2 * (w 0 28)) 0 a1) (111 + 2 * (w 0 28)) 1 ((b_up (b_up w 0 28 (b_i ((w 0 28) + 1))) (111 + 2 * (w 0 28)) 0 a1) 0 24)) (111 + 2 * (w 0 28)) 2 ((b_up (b_up (b_up w 0 28 (b_i ((w 0 28) + 1))) (111 + 2 * (w 0 28)) 0 a1) (111 + 2 * (w 0 28)) 1 ((b_up (b_up w 0 28 (b_i ((w 0 28) + 1))) (111 + 2 * (w 0 28)) 0 a1) 0 24)) 0 25)) 0 26)) (111 + 2 * (w 0 28)) 4 a2) (111 + 2 * (w 0 28)) 5 ((b_up (b_up (b_up (b_up (b_up (b_up w 0 28 (b_i ((w 0 28) + 1))) (111 + 2 * (w 0 28)) 0 a1) (111 + 2 * (w 0 28)) 1 ((b_up (b_up w 0 28 (b_i ((w 0 28) + 1))) (111 + 2 * (w 0 28)) 0 a1) 0 24)) (111 + 2 * (w 0 28)) 2 ((b_up (b_up (b_up w 0 28 (b_i ((w 0 28) + 1))) (111 + 2 * (w 0 28)) 0 a1) (111 + 2 * (w 0 28)) 1 ((b_up (b_up w 0 28 (b_i ((w 0 28) + 1))) (111 + 2 * (w 0 28)) 0 a1) 0 24)) 0 25)) (111 + 2 * (w 0 28)) 3 ((b_up (b_up (b_up (b_up w 0 28 (b_i ((w 0 28) + 1))) (111 + 2 * (w 0 28)) 0 a1) (111 + 2 * (w 0 28)) 1 ((b_up (b_up w 0 28 (b_i ((w 0 28) + 1))) (111 + 2 * (w 0 28)) 0 a1) 0 24)) (111 + 2 * (w 0 28)) 2 ((b_up (b_up (b_up w 0 28 (b_i ((w 0 28) + 1))) (111 + 2 * (w 0 28)) 0 a1) (111 + 2 * (w 0 28)) 1 ((b_up (b_up w 0 28 (b_i ((w 0 28) + 1))) (111 + 2 * (w 0 28)) 0 a1) 0 24)) 0 25)) 0 26)) (111 + 2 * (w 0 28)) 4 a2) 0 30)) 0 1)) 0 30 (b_i (((b_up (b_up (b_up (b_up (b_up (b_up (b_up w 0 28 (b_i ((w 0 28) + 1))) (111 + 2 * (w 0 28)) 0 a1) (111 + 2 * (w 0 28)) 1 ((b_up (b_up w 0 28 (b_i ((w 0 28) + 1))) (111 + 2 * (w 0 28)) 0 a1) 0 24)) (111 + 2 * (w 0 28)) 2 ((b_up (b_up (b_up w 0 28 (b_i ((w 0 28) + 1))) (111 + 2 * (w 0 28)) 0 a1) (111 + 2 * (w 0 28)) 1 ((b_up (b_up w 0 28 (b_i ((w 0 28) + 1))) (111 + 2 * (w 0 28)) 0 a1) 0 24)) 0 25)) (111 + 2 * (w 0 28)) 3 ((b_up (b_up (b_up (b_up w 0 28 (b_i ((w 0 28) + 1))) (111 + 2 * (w 0 28)) 0 a1) (111 + 2 * (w 0 28)) 1 ((b_up (b_up w 0 28 (b_i ((w 0 28) + 1))) (111 + 2 * (w 0 28)) 0 a1) 0 24)) (111 + 2 * (w 0 28)) 2 ((b_up (b_up (b_up w 0 28 (b_i ((w 0 28) + 1))) (111 + 2 * (w 0 28)) 0 a1) (111 + 2 * (w 0 28)) 1 ((b_up (b_up w 0 28 (b_i ((w 0 28) + 1))) (111 + 2 * (w 0 28)) 0 a1) 0 24)) 0 25)) 0 26)) (111 + 2 * (w 0 28)) 4 a2) (111 + 2 * (w 0 28)) 5 ((b_up (b_up (b_up (b_up (b_up (b_up w 0 28 (b_i ((w 0 28) + 1))) (111 + 2 * (w 0 28)) 0 a1) (111 + 2 * (w 0 28)) 1 ((b_up (b_up w 0 28 (b_i ((w 0 28) + 1))) (111 + 2 * (w 0 28)) 0 a1) 0 24)) (111 + 2 * (w 0 28)) 2 ((b_up (b_up (b_up w 0 28 (b_i ((w 0 28) + 1))) (111 + 2 * (w 0 28)) 0 a1) (111 + 2 * (w 0 28)) 1 ((b_up (b_up w 0 28 (b_i ((w 0 28) + 1))) (111 + 2 * (w 0 28)) 0 a1) 0 24)) 0 25)) (111 + 2 * (w 0 28)) 3 ((b_up (b_up (b_up (b_up w 0 28 (b_i ((w 0 28) + 1))) (111 + 2 * (w 0 28)) 0 a1) (111 + 2 * (w 0 28)) 1 ((b_up (b_up w 0 28 (b_i ((w 0 28) + 1))) (111 + 2 * (w 0 28)) 0 a1) 0 24)) (111 + 2 * (w 0 28)) 2 ((b_up (b_up (b_up w 0 28 (b_i ((w 0 28) + 1))) (111 + 2 * (w 0 28)) 0 a1) (111 + 2 * (w 0 28)) 1 ((b_up (b_up w 0 28 (b_i ((w 0 28) + 1))) (111 + 2 * (w 0 28)) 0 a1) 0 24)) 0 25)) 0 26)) (111 + 2 * (w 0 28)) 4 a2) 0 30)) 0 30) + ((b_up (b_up (b_up (b_up (b_up (b_up (b_up w 0 28 (b_i ((w 0 28) + 1))) (111 + 2 * (w 0 28)) 0 a1) (111 + 2 * (w 0 28)) 1 ((b_up (b_up w 0 28 (b_i ((w 0 28) + 1))) (111 + 2 * (w 0 28)) 0 a1) 0 24)) (111 + 2 * (w 0 28)) 2 ((b_up (b_up (b_up w 0 28 (b_i ((w 0 28) + 1))) (111 + 2 * (w 0 28)) 0 a1) (111 + 2 * (w 0 28)) 1 ((b_up (b_up w 0 28 (b_i ((w 0 28) + 1))) (111 + 2 * (w 0 28)) 0 a1) 0 24)) 0 25)) (111 + 2 * (w 0 28)) 3 ((b_up (b_up (b_up (b_up w 0 28 (b_i ((w 0 28) + 1))) (111 + 2 * (w 0 28)) 0 a1) (111 + 2 * (w 0 28)) 1 ((b_up (b_up w 0 28 (b_i ((w 0 28) + 1))) (111 + 2 * (w 0 28)) 0 a1) 0 24)) (111 + 2 * (w 0 28)) 2 ((b_up (b_up (b_up w 0 28 (b_i ((w 0 28) + 1))) (111 + 2 * (w 0 28)) 0 a1) (111 + 2 * (w 0 28)) 1 ((b_up (b_up w 0 28 (b_i ((w 0 28) + 1))) (111 + 2 * (w 0 28)) 0 a1) 0 24)) 0 25)) 0 26)) (111 + 2 * (w 0 28)) 4 a2) (111 + 2 * (w 0 28)) 5 ((b_up (b_up (b_up (b_up (b_up (b_up w 0 28 (b_i ((w 0 28) + 1))) (111 + 2 * (w 0 28)) 0 a1) (111 + 2 * (w 0 28)) 1 ((b_up (b_up w 0 28 (b_i ((w 0 28) + 1))) (111 + 2 * (w 0 28)) 0 a1) 0 24)) (111 + 2 * (w 0 28)) 2 ((b_up (b_up (b_up w 0 28 (b_i ((w 0 28) + 1))) (111 + 2 * (w 0 28)) 0 a1) (111 + 2 * (w 0 28)) 1 ((b_up (b_up w 0 28 (b_i ((w 0 28) + 1))) (111 + 2 * (w 0 28)) 0 a1) 0 24)) 0 25)) (111 + 2 * (w 0 28)) 3 ((b_up (b_up (b_up (b_up w 0 28 (b_i ((w 0 28) + 1))) (111 + 2 * (w 0 28)) 0 a1) (111 + 2 * (w 0 28)) 1 ((b_up (b_up w 0 28 (b_i ((w 0 28) + 1))) (111 + 2 * (w 0 28)) 0 a1) 0 24)) (111 + 2 * (w 0 28)) 2 ((b_up (b_up (b_up w 0 28 (b_i ((w 0 28) + 1))) (111 + 2 * (w 0 28)) 0 a1) (111 + 2 * (w 0 28)) 1 ((b_up (b_up w 0 28 (b_i ((w 0 28) + 1))) (111 + 2 * (w 0 28)) 0 a1) 0 24)) 0 25)) 0 26)) (111 + 2 * (w 0 28)) 4 a2) 0 30)) 0 1)))) (111 + 2 * (w 0 28)) 6 (b_i (((b_up (b_up (b_up (b_up (b_up (b_up (b_up w 0 28 (b_i ((w 0 28) + 1))) (111 + 2 * (w 0 28)) 0 a1) (111 + 2 * (w 0 28)) 1 ((b_up (b_up w 0 28 (b_i ((w 0 28) + 1))) (111 + 2 * (w 0 28)) 0 a1) 0 24)) (111 + 2 * (w 0 28)) 2 ((b_up (b_up (b_up w 0 28 (b_i ((w 0 28) + 1))) (111 + 2 * (w 0 28)) 0 a1) (111 + 2 * (w 0 28)) 1 ((b_up (b_up w 0 28 (b_i ((w 0 28) + 1))) (111 + 2 * (w 0 28)) 0 a1) 0 24)) 0 25)) (111 + 2 * (w 0 28)) 3 ((b_up (b_up (b_up (b_up w 0 28 (b_i ((w 0 28) + 1))) (111 + 2 * (w 0 28)) 0 a1) (111 + 2 * (w 0 28)) 1 ((b_up (b_up w 0 28 (b_i ((w 0 28) + 1))) (111 + 2 * (w 0 28)) 0 a1) 0 24)) (111 + 2 * (w 0 28)) 2 ((b_up (b_up (b_up w 0 28 (b_i ((w 0 28) + 1))) (111 + 2 * (w 0 28)) 0 a1) (111 + 2 * (w 0 28)) 1 ((b_up (b_up w 0 28 (b_i ((w 0 28) + 1))) (111 + 2 * (w 0 28)) 0 a1) 0 24)) 0 25)) 0 26)) (111 + 2 * (w 0 28)) 4 a2) (111 + 2 * (w 0 28)) 5 ((b_up (b_up (b_up (b_up (b_up (b_up w 0 28 (b_i ((w 0 28) + 1))) (111 + 2 * (w 0 28)) 0 a1) (111 + 2 * (w 0 28)) 1 ((b_up (b_up w 0 28 (b_i ((w 0 28) + 1))) (111 + 2 * (w 0 28)) 0 a1) 0 24)) (111 + 2 * (w 0 28)) 2 ((b_up (b_up (b_up w 0 28 (b_i ((w 0 28) + 1))) (111 + 2 * (w 0 28)) 0 a1) (111 + 2 * (w 0 28)) 1 ((b_up (b_up w 0 28 (b_i ((w 0 28) + 1))) (111 + 2 * (w 0 28)) 0 a1) 0 24)) 0 25)) (111 + 2 * (w 0 28)) 3 ((b_up (b_up (b_up (b_up w 0 28 (b_i ((w 0 28) + 1))) (111 + 2 * (w 0 28)) 0 a1) (111 + 2 * (w 0 28)) 1 ((b_up (b_up w 0 28 (b_i ((w 0 28) + 1))) (111 + 2 * (w 0 28)) 0 a1) 0 24)) (111 + 2 * (w 0 28)) 2 ((b_up (b_up (b_up w 0 28 (b_i ((w 0 28) + 1))) (111 + 2 * (w 0 28)) 0 a1) (111 + 2 * (w 0 28)) 1 ((b_up (b_up w 0 28 (b_i ((w 0 28) + 1))) (111 + 2 * (w 0 28)) 0 a1) 0 24)) 0 25)) 0 26)) (111 + 2 * (w 0 28)) 4 a2) 0 30)) 0 30) + ((b_up (b_up (b_up (b_up (b_up (b_up (b_up w 0 28 (b_i ((w 0 28) + 1))) (111 + 2 * (w 0 28)) 0 a1) (111 + 2 * (w 0 28)) 1 ((b_up (b_up w 0 28 (b_i ((w 0 28) + 1))) (111 + 2 * (w 0 28)) 0 a1) 0 24)) (111 + 2 * (w 0 28)) 2 ((b_up (b_up (b_up w 0 28 (b_i ((w 0 28) + 1))) (111 + 2 * (w 0 28)) 0 a1) (111 + 2 * (w 0 28)) 1 ((b_up (b_up w 0 28 (b_i ((w 0 28) + 1))) (111 + 2 * (w 0 28)) 0 a1) 0 24)) 0 25)) (111 + 2 * (w 0 28)) 3 ((b_up (b_up (b_up (b_up w 0 28 (b_i ((w 0 28) + 1))) (111 + 2 * (w 0 28)) 0 a1) (111 + 2 * (w 0 28)) 1 ((b_up (b_up w 0 28 (b_i ((w 0 28) + 1))) (111 + 2 * (w 0 28)) 0 a1) 0 24)) (111 + 2 * (w 0 28)) 2 ((b_up (b_up (b_up w 0 28 (b_i ((w 0 28) + 1))) (111 + 2 * (w 0 28)) 0 a1) (111 + 2 * (w 0 28)) 1 ((b_up (b_up w 0 28 (b_i ((w 0 28) + 1))) (111 + 2 * (w 0 28)) 0 a1) 0 24)) 0 25)) 0 26)) (111 + 2 * (w 0 28)) 4 a2) (111 + 2 * (w 0 28)) 5 ((b_up (b_up (b_up (b_up (b_up (b_up w 0 28 (b_i ((w 0 28) + 1))) (111 + 2 * (w 0 28)) 0 a1) (111 + 2 * (w 0 28)) 1 ((b_up (b_up w 0 28 (b_i ((w 0 28) + 1))) (111 + 2 * (w 0 28)) 0 a1) 0 24)) (111 + 2 * (w 0 28)) 2 ((b_up (b_up (b_up w 0 28 (b_i ((w 0 28) + 1))) (111 + 2 * (w 0 28)) 0 a1) (111 + 2 * (w 0 28)) 1 ((b_up (b_up w 0 28 (b_i ((w 0 28) + 1))) (111 + 2 * (w 0 28)) 0 a1) 0 24)) 0 25)) (111 + 2 * (w 0 28)) 3 ((b_up (b_up (b_up (b_up w 0 28 (b_i ((w 0 28) + 1))) (111 + 2 * (w 0 28)) 0 a1) (111 + 2 * (w 0 28)) 1 ((b_up (b_up w 0 28 (b_i ((w 0 28) + 1))) (111 + 2 * (w 0 28)) 0 a1) 0 24)) (111 + 2 * (w 0 28)) 2 ((b_up (b_up (b_up w 0 28 (b_i ((w 0 28) + 1))) (111 + 2 * (w 0 28)) 0 a1) (111 + 2 * (w 0 28)) 1 ((b_up (b_up w 0 28 (b_i ((w 0 28) + 1))) (111 + 2 * (w 0 28)) 0 a1) 0 24)) 0 25)) 0 26)) (111 + 2 * (w 0 28)) 4 a2) 0 30)) 0 1)))) 0 1 0))))) else (Q (-1) w)))))) : b_K (d + 1) mX1_content [(2, 0), (0, a1), (1, a2)] n w Q X := by
  have i0 := iz0 (Nat.le_trans (Nat.le_of_ble_eq_true rfl) hn)
  have i1 := iz1 (Nat.le_trans (Nat.le_of_ble_eq_true rfl) hn)
  have i108 := iz108 (Nat.le_trans (Nat.le_of_ble_eq_true rfl) hn)
  have i109 := iz109 (Nat.le_trans (Nat.le_of_ble_eq_true rfl) hn)
  refine k_of (by decide) rfl rfl rfl (ls := [(2, 0), (0, a1), (1, a2), (9, 0), (9, 0)]) rfl ?_
  refine x_aload_n 0 dX1_content_0 rfl rfl rfl rfl rfl ?_
  refine y_get 283 21 (c := 0) (z := w 0 21) dX1_content_1 i0 rfl in_X1 q1588 rfl rfl rfl rfl rfl ?_
  refine x_if_eq (t := 45) 41 dX1_content_4 rfl rfl (b_ite h (fun hc h => ?_) (fun hc h => ?_))
  · refine x_iconst (-1) (z := (-1)) dX1_content_45 rfl (by decide) rfl ?_
    exact y_iret dX1_content_46 rfl h
  · refine x_aload_n 0 dX1_content_7 rfl rfl rfl rfl rfl ?_
    refine y_get 302 28 (c := 0) (z := w 0 28) dX1_content_8 i0 rfl in_X1 q1595 rfl rfl rfl rfl rfl ?_
    refine x_bipush 16 (z := 16) dX1_content_11 rfl (by decide) rfl ?_
    refine x_icmp_eq (t := 45) 32 dX1_content_13 rfl rfl (b_ite h (fun hc h => ?_) (fun hc h => ?_))
    · refine x_iconst (-1) (z := (-1)) dX1_content_45 rfl (by decide) rfl ?_
      exact y_iret dX1_content_46 rfl h
    · refine x_lload_n 2 dX1_content_16 rfl rfl rfl ?_
      refine x_lconst 0 (z := 0) dX1_content_17 rfl (by decide) rfl ?_
      refine x_lc_lt (q := 22) (t := 45) 26 dX1_content_18 dX1_content_19 rfl rfl (b_ite h (fun hc h => ?_) (fun hc h => ?_))
      · refine x_iconst (-1) (z := (-1)) dX1_content_45 rfl (by decide) rfl ?_
        exact y_iret dX1_content_46 rfl h
      · refine x_lload_n 2 dX1_content_22 rfl rfl rfl ?_
        refine x_ldc2 255 (x := 4611686018427387904) dX1_content_23 q2438 rfl (by decide) rfl ?_
        refine x_lc_gt (q := 30) (t := 45) 18 dX1_content_26 dX1_content_27 rfl rfl (b_ite h (fun hc h => ?_) (fun hc h => ?_))
        · refine x_iconst (-1) (z := (-1)) dX1_content_45 rfl (by decide) rfl ?_
          exact y_iret dX1_content_46 rfl h
        · refine x_aload_n 0 dX1_content_30 rfl rfl rfl rfl rfl ?_
          refine y_get 305 30 (c := 0) (z := w 0 30) dX1_content_31 i0 rfl in_X1 q1597 rfl rfl rfl rfl rfl ?_
          refine x_aload_n 0 dX1_content_34 rfl rfl rfl rfl rfl ?_
          refine y_get 171 1 (c := 0) (z := w 0 1) dX1_content_35 i0 rfl in_X1 q1568 rfl rfl rfl rfl rfl ?_
          refine x_iadd dX1_content_38 rfl ?_
          refine x_sipush 16384 (z := 16384) dX1_content_39 rfl (by decide) rfl ?_
          refine x_icmp_le (t := 47) 5 dX1_content_42 rfl rfl (b_ite h (fun hc h => ?_) (fun hc h => ?_))
          · refine x_aload_n 0 dX1_content_47 rfl rfl rfl rfl rfl ?_
            refine y_getF 156 27 (c := 0) (z := 108) dX1_content_48 i0 rfl in_X1 q1594 rfl rfl rfl fn_0_27 (Nat.le_trans (Nat.le_of_ble_eq_true rfl) hn) rfl ?_
            refine x_aload_n 0 dX1_content_51 rfl rfl rfl rfl rfl ?_
            refine x_dup dX1_content_52 rfl rfl ?_
            refine y_get 302 28 (c := 0) (z := w 0 28) dX1_content_53 i0 rfl in_X1 q1595 rfl rfl rfl rfl rfl ?_
            refine x_dup_x1 dX1_content_56 rfl rfl rfl ?_
            refine x_iconst 1 (z := 1) dX1_content_57 rfl (by decide) rfl ?_
            refine x_iadd dX1_content_58 rfl ?_
            refine x_put 302 28 (c := 0) dX1_content_59 i0 rfl in_X1 tyX1_ok nmX1 q1595 rfl rfl rfl (Or.inl rfl) (Or.inl ⟨rfl, rfl⟩) rfl ?_
            obtain ⟨e1, h⟩ := h
            refine y_aaldC dX1_content_62 (Nat.le_trans (Nat.le_of_ble_eq_true rfl) hn) e1 rfl (fun e2 => ?_)
            refine x_astore 4 (ls' := [(2, 0), (0, a1), (1, a2), (9, 0), (2, 111 + 2 * (w 0 28))]) dX1_content_63 rfl rfl rfl rfl ?_
            refine x_aload 4 dX1_content_65 rfl rfl rfl rfl ?_
            refine x_iload_n 1 dX1_content_67 rfl rfl rfl ?_
            obtain ⟨e3, h⟩ := h
            refine x_put 311 0 (c := 21) dX1_content_68 e2 rfl in_X23 tyX23_ok nmX23 q1504 rfl rfl rfl (Or.inl rfl) (Or.inr (Or.inl ⟨rfl, rfl, e3⟩)) rfl ?_
            refine x_aload 4 dX1_content_71 rfl rfl rfl rfl ?_
            refine x_aload_n 0 dX1_content_73 rfl rfl rfl rfl rfl ?_
            refine y_get 293 24 (c := 0) (z := (b_up (b_up w 0 28 (b_i ((w 0 28) + 1))) (111 + 2 * (w 0 28)) 0 a1) 0 24) dX1_content_74 i0 rfl in_X1 q1591 rfl rfl rfl rfl rfl ?_
            refine x_put 314 1 (c := 21) dX1_content_77 e2 rfl in_X23 tyX23_ok nmX23 q1505 rfl rfl rfl (Or.inl rfl) (Or.inr (Or.inr (Or.inl ⟨rfl, rfl⟩))) rfl ?_
            refine x_aload 4 dX1_content_80 rfl rfl rfl rfl ?_
            refine x_aload_n 0 dX1_content_82 rfl rfl rfl rfl rfl ?_
            refine y_get 296 25 (c := 0) (z := (b_up (b_up (b_up w 0 28 (b_i ((w 0 28) + 1))) (111 + 2 * (w 0 28)) 0 a1) (111 + 2 * (w 0 28)) 1 ((b_up (b_up w 0 28 (b_i ((w 0 28) + 1))) (111 + 2 * (w 0 28)) 0 a1) 0 24)) 0 25) dX1_content_83 i0 rfl in_X1 q1592 rfl rfl rfl rfl rfl ?_
            refine x_put 315 2 (c := 21) dX1_content_86 e2 rfl in_X23 tyX23_ok nmX23 q1507 rfl rfl rfl (Or.inl rfl) (Or.inl ⟨rfl, rfl⟩) rfl ?_
            refine x_aload 4 dX1_content_89 rfl rfl rfl rfl ?_
            refine x_aload_n 0 dX1_content_91 rfl rfl rfl rfl rfl ?_
            refine y_get 299 26 (c := 0) (z := (b_up (b_up (b_up (b_up w 0 28 (b_i ((w 0 28) + 1))) (111 + 2 * (w 0 28)) 0 a1) (111 + 2 * (w 0 28)) 1 ((b_up (b_up w 0 28 (b_i ((w 0 28) + 1))) (111 + 2 * (w 0 28)) 0 a1) 0 24)) (111 + 2 * (w 0 28)) 2 ((b_up (b_up (b_up w 0 28 (b_i ((w 0 28) + 1))) (111 + 2 * (w 0 28)) 0 a1) (111 + 2 * (w 0 28)) 1 ((b_up (b_up w 0 28 (b_i ((w 0 28) + 1))) (111 + 2 * (w 0 28)) 0 a1) 0 24)) 0 25)) 0 26) dX1_content_92 i0 rfl in_X1 q1593 rfl rfl rfl rfl rfl ?_
            refine x_put 317 3 (c := 21) dX1_content_95 e2 rfl in_X23 tyX23_ok nmX23 q1509 rfl rfl rfl (Or.inl rfl) (Or.inl ⟨rfl, rfl⟩) rfl ?_
            refine x_aload 4 dX1_content_98 rfl rfl rfl rfl ?_
            refine x_lload_n 2 dX1_content_100 rfl rfl rfl ?_
            refine x_put 320 4 (c := 21) dX1_content_101 e2 rfl in_X23 tyX23_ok nmX23 q1511 rfl rfl rfl (Or.inl rfl) (Or.inr (Or.inr (Or.inl ⟨rfl, rfl⟩))) rfl ?_
            refine x_aload 4 dX1_content_104 rfl rfl rfl rfl ?_
            refine x_aload_n 0 dX1_content_106 rfl rfl rfl rfl rfl ?_
            refine y_get 305 30 (c := 0) (z := (b_up (b_up (b_up (b_up (b_up (b_up w 0 28 (b_i ((w 0 28) + 1))) (111 + 2 * (w 0 28)) 0 a1) (111 + 2 * (w 0 28)) 1 ((b_up (b_up w 0 28 (b_i ((w 0 28) + 1))) (111 + 2 * (w 0 28)) 0 a1) 0 24)) (111 + 2 * (w 0 28)) 2 ((b_up (b_up (b_up w 0 28 (b_i ((w 0 28) + 1))) (111 + 2 * (w 0 28)) 0 a1) (111 + 2 * (w 0 28)) 1 ((b_up (b_up w 0 28 (b_i ((w 0 28) + 1))) (111 + 2 * (w 0 28)) 0 a1) 0 24)) 0 25)) (111 + 2 * (w 0 28)) 3 ((b_up (b_up (b_up (b_up w 0 28 (b_i ((w 0 28) + 1))) (111 + 2 * (w 0 28)) 0 a1) (111 + 2 * (w 0 28)) 1 ((b_up (b_up w 0 28 (b_i ((w 0 28) + 1))) (111 + 2 * (w 0 28)) 0 a1) 0 24)) (111 + 2 * (w 0 28)) 2 ((b_up (b_up (b_up w 0 28 (b_i ((w 0 28) + 1))) (111 + 2 * (w 0 28)) 0 a1) (111 + 2 * (w 0 28)) 1 ((b_up (b_up w 0 28 (b_i ((w 0 28) + 1))) (111 + 2 * (w 0 28)) 0 a1) 0 24)) 0 25)) 0 26)) (111 + 2 * (w 0 28)) 4 a2) 0 30) dX1_content_107 i0 rfl in_X1 q1597 rfl rfl rfl rfl rfl ?_
            refine x_put 323 5 (c := 21) dX1_content_110 e2 rfl in_X23 tyX23_ok nmX23 q1513 rfl rfl rfl (Or.inl rfl) (Or.inl ⟨rfl, rfl⟩) rfl ?_
            refine x_aload_n 0 dX1_content_113 rfl rfl rfl rfl rfl ?_
            refine y_getF 7 0 (c := 0) (z := 1) dX1_content_114 i0 rfl in_X1 q1567 rfl rfl rfl fn_0_0 (Nat.le_trans (Nat.le_of_ble_eq_true rfl) hn) rfl ?_
            refine x_iconst 0 (z := 0) dX1_content_117 rfl (by decide) rfl ?_
            refine x_aload_n 0 dX1_content_118 rfl rfl rfl rfl rfl ?_
            refine y_getF 160 29 (c := 0) (z := 109) dX1_content_119 i0 rfl in_X1 q1596 rfl rfl rfl fn_0_29 (Nat.le_trans (Nat.le_of_ble_eq_true rfl) hn) rfl ?_
            refine x_aload_n 0 dX1_content_122 rfl rfl rfl rfl rfl ?_
            refine y_get 305 30 (c := 0) (z := (b_up (b_up (b_up (b_up (b_up (b_up (b_up w 0 28 (b_i ((w 0 28) + 1))) (111 + 2 * (w 0 28)) 0 a1) (111 + 2 * (w 0 28)) 1 ((b_up (b_up w 0 28 (b_i ((w 0 28) + 1))) (111 + 2 * (w 0 28)) 0 a1) 0 24)) (111 + 2 * (w 0 28)) 2 ((b_up (b_up (b_up w 0 28 (b_i ((w 0 28) + 1))) (111 + 2 * (w 0 28)) 0 a1) (111 + 2 * (w 0 28)) 1 ((b_up (b_up w 0 28 (b_i ((w 0 28) + 1))) (111 + 2 * (w 0 28)) 0 a1) 0 24)) 0 25)) (111 + 2 * (w 0 28)) 3 ((b_up (b_up (b_up (b_up w 0 28 (b_i ((w 0 28) + 1))) (111 + 2 * (w 0 28)) 0 a1) (111 + 2 * (w 0 28)) 1 ((b_up (b_up w 0 28 (b_i ((w 0 28) + 1))) (111 + 2 * (w 0 28)) 0 a1) 0 24)) (111 + 2 * (w 0 28)) 2 ((b_up (b_up (b_up w 0 28 (b_i ((w 0 28) + 1))) (111 + 2 * (w 0 28)) 0 a1) (111 + 2 * (w 0 28)) 1 ((b_up (b_up w 0 28 (b_i ((w 0 28) + 1))) (111 + 2 * (w 0 28)) 0 a1) 0 24)) 0 25)) 0 26)) (111 + 2 * (w 0 28)) 4 a2) (111 + 2 * (w 0 28)) 5 ((b_up (b_up (b_up (b_up (b_up (b_up w 0 28 (b_i ((w 0 28) + 1))) (111 + 2 * (w 0 28)) 0 a1) (111 + 2 * (w 0 28)) 1 ((b_up (b_up w 0 28 (b_i ((w 0 28) + 1))) (111 + 2 * (w 0 28)) 0 a1) 0 24)) (111 + 2 * (w 0 28)) 2 ((b_up (b_up (b_up w 0 28 (b_i ((w 0 28) + 1))) (111 + 2 * (w 0 28)) 0 a1) (111 + 2 * (w 0 28)) 1 ((b_up (b_up w 0 28 (b_i ((w 0 28) + 1))) (111 + 2 * (w 0 28)) 0 a1) 0 24)) 0 25)) (111 + 2 * (w 0 28)) 3 ((b_up (b_up (b_up (b_up w 0 28 (b_i ((w 0 28) + 1))) (111 + 2 * (w 0 28)) 0 a1) (111 + 2 * (w 0 28)) 1 ((b_up (b_up w 0 28 (b_i ((w 0 28) + 1))) (111 + 2 * (w 0 28)) 0 a1) 0 24)) (111 + 2 * (w 0 28)) 2 ((b_up (b_up (b_up w 0 28 (b_i ((w 0 28) + 1))) (111 + 2 * (w 0 28)) 0 a1) (111 + 2 * (w 0 28)) 1 ((b_up (b_up w 0 28 (b_i ((w 0 28) + 1))) (111 + 2 * (w 0 28)) 0 a1) 0 24)) 0 25)) 0 26)) (111 + 2 * (w 0 28)) 4 a2) 0 30)) 0 30) dX1_content_123 i0 rfl in_X1 q1597 rfl rfl rfl rfl rfl ?_
            refine x_aload_n 0 dX1_content_126 rfl rfl rfl rfl rfl ?_
            refine y_get 171 1 (c := 0) (z := (b_up (b_up (b_up (b_up (b_up (b_up (b_up w 0 28 (b_i ((w 0 28) + 1))) (111 + 2 * (w 0 28)) 0 a1) (111 + 2 * (w 0 28)) 1 ((b_up (b_up w 0 28 (b_i ((w 0 28) + 1))) (111 + 2 * (w 0 28)) 0 a1) 0 24)) (111 + 2 * (w 0 28)) 2 ((b_up (b_up (b_up w 0 28 (b_i ((w 0 28) + 1))) (111 + 2 * (w 0 28)) 0 a1) (111 + 2 * (w 0 28)) 1 ((b_up (b_up w 0 28 (b_i ((w 0 28) + 1))) (111 + 2 * (w 0 28)) 0 a1) 0 24)) 0 25)) (111 + 2 * (w 0 28)) 3 ((b_up (b_up (b_up (b_up w 0 28 (b_i ((w 0 28) + 1))) (111 + 2 * (w 0 28)) 0 a1) (111 + 2 * (w 0 28)) 1 ((b_up (b_up w 0 28 (b_i ((w 0 28) + 1))) (111 + 2 * (w 0 28)) 0 a1) 0 24)) (111 + 2 * (w 0 28)) 2 ((b_up (b_up (b_up w 0 28 (b_i ((w 0 28) + 1))) (111 + 2 * (w 0 28)) 0 a1) (111 + 2 * (w 0 28)) 1 ((b_up (b_up w 0 28 (b_i ((w 0 28) + 1))) (111 + 2 * (w 0 28)) 0 a1) 0 24)) 0 25)) 0 26)) (111 + 2 * (w 0 28)) 4 a2) (111 + 2 * (w 0 28)) 5 ((b_up (b_up (b_up (b_up (b_up (b_up w 0 28 (b_i ((w 0 28) + 1))) (111 + 2 * (w 0 28)) 0 a1) (111 + 2 * (w 0 28)) 1 ((b_up (b_up w 0 28 (b_i ((w 0 28) + 1))) (111 + 2 * (w 0 28)) 0 a1) 0 24)) (111 + 2 * (w 0 28)) 2 ((b_up (b_up (b_up w 0 28 (b_i ((w 0 28) + 1))) (111 + 2 * (w 0 28)) 0 a1) (111 + 2 * (w 0 28)) 1 ((b_up (b_up w 0 28 (b_i ((w 0 28) + 1))) (111 + 2 * (w 0 28)) 0 a1) 0 24)) 0 25)) (111 + 2 * (w 0 28)) 3 ((b_up (b_up (b_up (b_up w 0 28 (b_i ((w 0 28) + 1))) (111 + 2 * (w 0 28)) 0 a1) (111 + 2 * (w 0 28)) 1 ((b_up (b_up w 0 28 (b_i ((w 0 28) + 1))) (111 + 2 * (w 0 28)) 0 a1) 0 24)) (111 + 2 * (w 0 28)) 2 ((b_up (b_up (b_up w 0 28 (b_i ((w 0 28) + 1))) (111 + 2 * (w 0 28)) 0 a1) (111 + 2 * (w 0 28)) 1 ((b_up (b_up w 0 28 (b_i ((w 0 28) + 1))) (111 + 2 * (w 0 28)) 0 a1) 0 24)) 0 25)) 0 26)) (111 + 2 * (w 0 28)) 4 a2) 0 30)) 0 1) dX1_content_127 i0 rfl in_X1 q1568 rfl rfl rfl rfl rfl ?_
            obtain ⟨e4, h⟩ := h
            refine x_copyi 326 dX1_content_130 q2464 q1893 q1892 q400 i1 i109 (by decide) (by decide) e4.1 e4.2.1 e4.2.2.1 e4.2.2.2.1 e4.2.2.2.2 (Nat.le_add_left 1 d) rfl rfl ?_
            refine x_aload_n 0 dX1_content_133 rfl rfl rfl rfl rfl ?_
            refine x_dup dX1_content_134 rfl rfl ?_
            refine y_get 305 30 (c := 0) (z := (b_up (b_up (b_up (b_up (b_up (b_up (b_up w 0 28 (b_i ((w 0 28) + 1))) (111 + 2 * (w 0 28)) 0 a1) (111 + 2 * (w 0 28)) 1 ((b_up (b_up w 0 28 (b_i ((w 0 28) + 1))) (111 + 2 * (w 0 28)) 0 a1) 0 24)) (111 + 2 * (w 0 28)) 2 ((b_up (b_up (b_up w 0 28 (b_i ((w 0 28) + 1))) (111 + 2 * (w 0 28)) 0 a1) (111 + 2 * (w 0 28)) 1 ((b_up (b_up w 0 28 (b_i ((w 0 28) + 1))) (111 + 2 * (w 0 28)) 0 a1) 0 24)) 0 25)) (111 + 2 * (w 0 28)) 3 ((b_up (b_up (b_up (b_up w 0 28 (b_i ((w 0 28) + 1))) (111 + 2 * (w 0 28)) 0 a1) (111 + 2 * (w 0 28)) 1 ((b_up (b_up w 0 28 (b_i ((w 0 28) + 1))) (111 + 2 * (w 0 28)) 0 a1) 0 24)) (111 + 2 * (w 0 28)) 2 ((b_up (b_up (b_up w 0 28 (b_i ((w 0 28) + 1))) (111 + 2 * (w 0 28)) 0 a1) (111 + 2 * (w 0 28)) 1 ((b_up (b_up w 0 28 (b_i ((w 0 28) + 1))) (111 + 2 * (w 0 28)) 0 a1) 0 24)) 0 25)) 0 26)) (111 + 2 * (w 0 28)) 4 a2) (111 + 2 * (w 0 28)) 5 ((b_up (b_up (b_up (b_up (b_up (b_up w 0 28 (b_i ((w 0 28) + 1))) (111 + 2 * (w 0 28)) 0 a1) (111 + 2 * (w 0 28)) 1 ((b_up (b_up w 0 28 (b_i ((w 0 28) + 1))) (111 + 2 * (w 0 28)) 0 a1) 0 24)) (111 + 2 * (w 0 28)) 2 ((b_up (b_up (b_up w 0 28 (b_i ((w 0 28) + 1))) (111 + 2 * (w 0 28)) 0 a1) (111 + 2 * (w 0 28)) 1 ((b_up (b_up w 0 28 (b_i ((w 0 28) + 1))) (111 + 2 * (w 0 28)) 0 a1) 0 24)) 0 25)) (111 + 2 * (w 0 28)) 3 ((b_up (b_up (b_up (b_up w 0 28 (b_i ((w 0 28) + 1))) (111 + 2 * (w 0 28)) 0 a1) (111 + 2 * (w 0 28)) 1 ((b_up (b_up w 0 28 (b_i ((w 0 28) + 1))) (111 + 2 * (w 0 28)) 0 a1) 0 24)) (111 + 2 * (w 0 28)) 2 ((b_up (b_up (b_up w 0 28 (b_i ((w 0 28) + 1))) (111 + 2 * (w 0 28)) 0 a1) (111 + 2 * (w 0 28)) 1 ((b_up (b_up w 0 28 (b_i ((w 0 28) + 1))) (111 + 2 * (w 0 28)) 0 a1) 0 24)) 0 25)) 0 26)) (111 + 2 * (w 0 28)) 4 a2) 0 30)) 0 30) dX1_content_135 i0 rfl in_X1 q1597 rfl rfl rfl rfl rfl ?_
            refine x_aload_n 0 dX1_content_138 rfl rfl rfl rfl rfl ?_
            refine y_get 171 1 (c := 0) (z := (b_up (b_up (b_up (b_up (b_up (b_up (b_up w 0 28 (b_i ((w 0 28) + 1))) (111 + 2 * (w 0 28)) 0 a1) (111 + 2 * (w 0 28)) 1 ((b_up (b_up w 0 28 (b_i ((w 0 28) + 1))) (111 + 2 * (w 0 28)) 0 a1) 0 24)) (111 + 2 * (w 0 28)) 2 ((b_up (b_up (b_up w 0 28 (b_i ((w 0 28) + 1))) (111 + 2 * (w 0 28)) 0 a1) (111 + 2 * (w 0 28)) 1 ((b_up (b_up w 0 28 (b_i ((w 0 28) + 1))) (111 + 2 * (w 0 28)) 0 a1) 0 24)) 0 25)) (111 + 2 * (w 0 28)) 3 ((b_up (b_up (b_up (b_up w 0 28 (b_i ((w 0 28) + 1))) (111 + 2 * (w 0 28)) 0 a1) (111 + 2 * (w 0 28)) 1 ((b_up (b_up w 0 28 (b_i ((w 0 28) + 1))) (111 + 2 * (w 0 28)) 0 a1) 0 24)) (111 + 2 * (w 0 28)) 2 ((b_up (b_up (b_up w 0 28 (b_i ((w 0 28) + 1))) (111 + 2 * (w 0 28)) 0 a1) (111 + 2 * (w 0 28)) 1 ((b_up (b_up w 0 28 (b_i ((w 0 28) + 1))) (111 + 2 * (w 0 28)) 0 a1) 0 24)) 0 25)) 0 26)) (111 + 2 * (w 0 28)) 4 a2) (111 + 2 * (w 0 28)) 5 ((b_up (b_up (b_up (b_up (b_up (b_up w 0 28 (b_i ((w 0 28) + 1))) (111 + 2 * (w 0 28)) 0 a1) (111 + 2 * (w 0 28)) 1 ((b_up (b_up w 0 28 (b_i ((w 0 28) + 1))) (111 + 2 * (w 0 28)) 0 a1) 0 24)) (111 + 2 * (w 0 28)) 2 ((b_up (b_up (b_up w 0 28 (b_i ((w 0 28) + 1))) (111 + 2 * (w 0 28)) 0 a1) (111 + 2 * (w 0 28)) 1 ((b_up (b_up w 0 28 (b_i ((w 0 28) + 1))) (111 + 2 * (w 0 28)) 0 a1) 0 24)) 0 25)) (111 + 2 * (w 0 28)) 3 ((b_up (b_up (b_up (b_up w 0 28 (b_i ((w 0 28) + 1))) (111 + 2 * (w 0 28)) 0 a1) (111 + 2 * (w 0 28)) 1 ((b_up (b_up w 0 28 (b_i ((w 0 28) + 1))) (111 + 2 * (w 0 28)) 0 a1) 0 24)) (111 + 2 * (w 0 28)) 2 ((b_up (b_up (b_up w 0 28 (b_i ((w 0 28) + 1))) (111 + 2 * (w 0 28)) 0 a1) (111 + 2 * (w 0 28)) 1 ((b_up (b_up w 0 28 (b_i ((w 0 28) + 1))) (111 + 2 * (w 0 28)) 0 a1) 0 24)) 0 25)) 0 26)) (111 + 2 * (w 0 28)) 4 a2) 0 30)) 0 1) dX1_content_139 i0 rfl in_X1 q1568 rfl rfl rfl rfl rfl ?_
            refine x_iadd dX1_content_142 rfl ?_
            refine x_put 305 30 (c := 0) dX1_content_143 i0 rfl in_X1 tyX1_ok nmX1 q1597 rfl rfl rfl (Or.inl rfl) (Or.inl ⟨rfl, rfl⟩) rfl ?_
            refine x_aload 4 dX1_content_146 rfl rfl rfl rfl ?_
            refine x_aload_n 0 dX1_content_148 rfl rfl rfl rfl rfl ?_
            refine y_get 305 30 (c := 0) (z := b_i (((b_up (b_up (b_up (b_up (b_up (b_up (b_up w 0 28 (b_i ((w 0 28) + 1))) (111 + 2 * (w 0 28)) 0 a1) (111 + 2 * (w 0 28)) 1 ((b_up (b_up w 0 28 (b_i ((w 0 28) + 1))) (111 + 2 * (w 0 28)) 0 a1) 0 24)) (111 + 2 * (w 0 28)) 2 ((b_up (b_up (b_up w 0 28 (b_i ((w 0 28) + 1))) (111 + 2 * (w 0 28)) 0 a1) (111 + 2 * (w 0 28)) 1 ((b_up (b_up w 0 28 (b_i ((w 0 28) + 1))) (111 + 2 * (w 0 28)) 0 a1) 0 24)) 0 25)) (111 + 2 * (w 0 28)) 3 ((b_up (b_up (b_up (b_up w 0 28 (b_i ((w 0 28) + 1))) (111 + 2 * (w 0 28)) 0 a1) (111 + 2 * (w 0 28)) 1 ((b_up (b_up w 0 28 (b_i ((w 0 28) + 1))) (111 + 2 * (w 0 28)) 0 a1) 0 24)) (111 + 2 * (w 0 28)) 2 ((b_up (b_up (b_up w 0 28 (b_i ((w 0 28) + 1))) (111 + 2 * (w 0 28)) 0 a1) (111 + 2 * (w 0 28)) 1 ((b_up (b_up w 0 28 (b_i ((w 0 28) + 1))) (111 + 2 * (w 0 28)) 0 a1) 0 24)) 0 25)) 0 26)) (111 + 2 * (w 0 28)) 4 a2) (111 + 2 * (w 0 28)) 5 ((b_up (b_up (b_up (b_up (b_up (b_up w 0 28 (b_i ((w 0 28) + 1))) (111 + 2 * (w 0 28)) 0 a1) (111 + 2 * (w 0 28)) 1 ((b_up (b_up w 0 28 (b_i ((w 0 28) + 1))) (111 + 2 * (w 0 28)) 0 a1) 0 24)) (111 + 2 * (w 0 28)) 2 ((b_up (b_up (b_up w 0 28 (b_i ((w 0 28) + 1))) (111 + 2 * (w 0 28)) 0 a1) (111 + 2 * (w 0 28)) 1 ((b_up (b_up w 0 28 (b_i ((w 0 28) + 1))) (111 + 2 * (w 0 28)) 0 a1) 0 24)) 0 25)) (111 + 2 * (w 0 28)) 3 ((b_up (b_up (b_up (b_up w 0 28 (b_i ((w 0 28) + 1))) (111 + 2 * (w 0 28)) 0 a1) (111 + 2 * (w 0 28)) 1 ((b_up (b_up w 0 28 (b_i ((w 0 28) + 1))) (111 + 2 * (w 0 28)) 0 a1) 0 24)) (111 + 2 * (w 0 28)) 2 ((b_up (b_up (b_up w 0 28 (b_i ((w 0 28) + 1))) (111 + 2 * (w 0 28)) 0 a1) (111 + 2 * (w 0 28)) 1 ((b_up (b_up w 0 28 (b_i ((w 0 28) + 1))) (111 + 2 * (w 0 28)) 0 a1) 0 24)) 0 25)) 0 26)) (111 + 2 * (w 0 28)) 4 a2) 0 30)) 0 30) + ((b_up (b_up (b_up (b_up (b_up (b_up (b_up w 0 28 (b_i ((w 0 28) + 1))) (111 + 2 * (w 0 28)) 0 a1) (111 + 2 * (w 0 28)) 1 ((b_up (b_up w 0 28 (b_i ((w 0 28) + 1))) (111 + 2 * (w 0 28)) 0 a1) 0 24)) (111 + 2 * (w 0 28)) 2 ((b_up (b_up (b_up w 0 28 (b_i ((w 0 28) + 1))) (111 + 2 * (w 0 28)) 0 a1) (111 + 2 * (w 0 28)) 1 ((b_up (b_up w 0 28 (b_i ((w 0 28) + 1))) (111 + 2 * (w 0 28)) 0 a1) 0 24)) 0 25)) (111 + 2 * (w 0 28)) 3 ((b_up (b_up (b_up (b_up w 0 28 (b_i ((w 0 28) + 1))) (111 + 2 * (w 0 28)) 0 a1) (111 + 2 * (w 0 28)) 1 ((b_up (b_up w 0 28 (b_i ((w 0 28) + 1))) (111 + 2 * (w 0 28)) 0 a1) 0 24)) (111 + 2 * (w 0 28)) 2 ((b_up (b_up (b_up w 0 28 (b_i ((w 0 28) + 1))) (111 + 2 * (w 0 28)) 0 a1) (111 + 2 * (w 0 28)) 1 ((b_up (b_up w 0 28 (b_i ((w 0 28) + 1))) (111 + 2 * (w 0 28)) 0 a1) 0 24)) 0 25)) 0 26)) (111 + 2 * (w 0 28)) 4 a2) (111 + 2 * (w 0 28)) 5 ((b_up (b_up (b_up (b_up (b_up (b_up w 0 28 (b_i ((w 0 28) + 1))) (111 + 2 * (w 0 28)) 0 a1) (111 + 2 * (w 0 28)) 1 ((b_up (b_up w 0 28 (b_i ((w 0 28) + 1))) (111 + 2 * (w 0 28)) 0 a1) 0 24)) (111 + 2 * (w 0 28)) 2 ((b_up (b_up (b_up w 0 28 (b_i ((w 0 28) + 1))) (111 + 2 * (w 0 28)) 0 a1) (111 + 2 * (w 0 28)) 1 ((b_up (b_up w 0 28 (b_i ((w 0 28) + 1))) (111 + 2 * (w 0 28)) 0 a1) 0 24)) 0 25)) (111 + 2 * (w 0 28)) 3 ((b_up (b_up (b_up (b_up w 0 28 (b_i ((w 0 28) + 1))) (111 + 2 * (w 0 28)) 0 a1) (111 + 2 * (w 0 28)) 1 ((b_up (b_up w 0 28 (b_i ((w 0 28) + 1))) (111 + 2 * (w 0 28)) 0 a1) 0 24)) (111 + 2 * (w 0 28)) 2 ((b_up (b_up (b_up w 0 28 (b_i ((w 0 28) + 1))) (111 + 2 * (w 0 28)) 0 a1) (111 + 2 * (w 0 28)) 1 ((b_up (b_up w 0 28 (b_i ((w 0 28) + 1))) (111 + 2 * (w 0 28)) 0 a1) 0 24)) 0 25)) 0 26)) (111 + 2 * (w 0 28)) 4 a2) 0 30)) 0 1))) dX1_content_149 i0 rfl in_X1 q1597 rfl rfl rfl rfl rfl ?_
            refine x_put 332 6 (c := 21) dX1_content_152 e2 rfl in_X23 tyX23_ok nmX23 q1515 rfl rfl rfl (Or.inl rfl) (Or.inl ⟨rfl, rfl⟩) rfl ?_
            refine x_aload_n 0 dX1_content_155 rfl rfl rfl rfl rfl ?_
            refine x_iconst 0 (z := 0) dX1_content_156 rfl (by decide) rfl ?_
            refine x_put 171 1 (c := 0) dX1_content_157 i0 rfl in_X1 tyX1_ok nmX1 q1568 rfl rfl rfl (Or.inl rfl) (Or.inl ⟨rfl, rfl⟩) rfl ?_
            refine x_aload_n 0 dX1_content_160 rfl rfl rfl rfl rfl ?_
            refine y_get 302 28 (c := 0) (z := (b_up (b_up (b_cp (b_up (b_up (b_up (b_up (b_up (b_up (b_up w 0 28 (b_i ((w 0 28) + 1))) (111 + 2 * (w 0 28)) 0 a1) (111 + 2 * (w 0 28)) 1 ((b_up (b_up w 0 28 (b_i ((w 0 28) + 1))) (111 + 2 * (w 0 28)) 0 a1) 0 24)) (111 + 2 * (w 0 28)) 2 ((b_up (b_up (b_up w 0 28 (b_i ((w 0 28) + 1))) (111 + 2 * (w 0 28)) 0 a1) (111 + 2 * (w 0 28)) 1 ((b_up (b_up w 0 28 (b_i ((w 0 28) + 1))) (111 + 2 * (w 0 28)) 0 a1) 0 24)) 0 25)) (111 + 2 * (w 0 28)) 3 ((b_up (b_up (b_up (b_up w 0 28 (b_i ((w 0 28) + 1))) (111 + 2 * (w 0 28)) 0 a1) (111 + 2 * (w 0 28)) 1 ((b_up (b_up w 0 28 (b_i ((w 0 28) + 1))) (111 + 2 * (w 0 28)) 0 a1) 0 24)) (111 + 2 * (w 0 28)) 2 ((b_up (b_up (b_up w 0 28 (b_i ((w 0 28) + 1))) (111 + 2 * (w 0 28)) 0 a1) (111 + 2 * (w 0 28)) 1 ((b_up (b_up w 0 28 (b_i ((w 0 28) + 1))) (111 + 2 * (w 0 28)) 0 a1) 0 24)) 0 25)) 0 26)) (111 + 2 * (w 0 28)) 4 a2) (111 + 2 * (w 0 28)) 5 ((b_up (b_up (b_up (b_up (b_up (b_up w 0 28 (b_i ((w 0 28) + 1))) (111 + 2 * (w 0 28)) 0 a1) (111 + 2 * (w 0 28)) 1 ((b_up (b_up w 0 28 (b_i ((w 0 28) + 1))) (111 + 2 * (w 0 28)) 0 a1) 0 24)) (111 + 2 * (w 0 28)) 2 ((b_up (b_up (b_up w 0 28 (b_i ((w 0 28) + 1))) (111 + 2 * (w 0 28)) 0 a1) (111 + 2 * (w 0 28)) 1 ((b_up (b_up w 0 28 (b_i ((w 0 28) + 1))) (111 + 2 * (w 0 28)) 0 a1) 0 24)) 0 25)) (111 + 2 * (w 0 28)) 3 ((b_up (b_up (b_up (b_up w 0 28 (b_i ((w 0 28) + 1))) (111 + 2 * (w 0 28)) 0 a1) (111 + 2 * (w 0 28)) 1 ((b_up (b_up w 0 28 (b_i ((w 0 28) + 1))) (111 + 2 * (w 0 28)) 0 a1) 0 24)) (111 + 2 * (w 0 28)) 2 ((b_up (b_up (b_up w 0 28 (b_i ((w 0 28) + 1))) (111 + 2 * (w 0 28)) 0 a1) (111 + 2 * (w 0 28)) 1 ((b_up (b_up w 0 28 (b_i ((w 0 28) + 1))) (111 + 2 * (w 0 28)) 0 a1) 0 24)) 0 25)) 0 26)) (111 + 2 * (w 0 28)) 4 a2) 0 30)) 1 0 109 ((b_up (b_up (b_up (b_up (b_up (b_up (b_up w 0 28 (b_i ((w 0 28) + 1))) (111 + 2 * (w 0 28)) 0 a1) (111 + 2 * (w 0 28)) 1 ((b_up (b_up w 0 28 (b_i ((w 0 28) + 1))) (111 + 2 * (w 0 28)) 0 a1) 0 24)) (111 + 2 * (w 0 28)) 2 ((b_up (b_up (b_up w 0 28 (b_i ((w 0 28) + 1))) (111 + 2 * (w 0 28)) 0 a1) (111 + 2 * (w 0 28)) 1 ((b_up (b_up w 0 28 (b_i ((w 0 28) + 1))) (111 + 2 * (w 0 28)) 0 a1) 0 24)) 0 25)) (111 + 2 * (w 0 28)) 3 ((b_up (b_up (b_up (b_up w 0 28 (b_i ((w 0 28) + 1))) (111 + 2 * (w 0 28)) 0 a1) (111 + 2 * (w 0 28)) 1 ((b_up (b_up w 0 28 (b_i ((w 0 28) + 1))) (111 + 2 * (w 0 28)) 0 a1) 0 24)) (111 + 2 * (w 0 28)) 2 ((b_up (b_up (b_up w 0 28 (b_i ((w 0 28) + 1))) (111 + 2 * (w 0 28)) 0 a1) (111 + 2 * (w 0 28)) 1 ((b_up (b_up w 0 28 (b_i ((w 0 28) + 1))) (111 + 2 * (w 0 28)) 0 a1) 0 24)) 0 25)) 0 26)) (111 + 2 * (w 0 28)) 4 a2) (111 + 2 * (w 0 28)) 5 ((b_up (b_up (b_up (b_up (b_up (b_up w 0 28 (b_i ((w 0 28) + 1))) (111 + 2 * (w 0 28)) 0 a1) (111 + 2 * (w 0 28)) 1 ((b_up (b_up w 0 28 (b_i ((w 0 28) + 1))) (111 + 2 * (w 0 28)) 0 a1) 0 24)) (111 + 2 * (w 0 28)) 2 ((b_up (b_up (b_up w 0 28 (b_i ((w 0 28) + 1))) (111 + 2 * (w 0 28)) 0 a1) (111 + 2 * (w 0 28)) 1 ((b_up (b_up w 0 28 (b_i ((w 0 28) + 1))) (111 + 2 * (w 0 28)) 0 a1) 0 24)) 0 25)) (111 + 2 * (w 0 28)) 3 ((b_up (b_up (b_up (b_up w 0 28 (b_i ((w 0 28) + 1))) (111 + 2 * (w 0 28)) 0 a1) (111 + 2 * (w 0 28)) 1 ((b_up (b_up w 0 28 (b_i ((w 0 28) + 1))) (111 + 2 * (w 0 28)) 0 a1) 0 24)) (111 + 2 * (w 0 28)) 2 ((b_up (b_up (b_up w 0 28 (b_i ((w 0 28) + 1))) (111 + 2 * (w 0 28)) 0 a1) (111 + 2 * (w 0 28)) 1 ((b_up (b_up w 0 28 (b_i ((w 0 28) + 1))) (111 + 2 * (w 0 28)) 0 a1) 0 24)) 0 25)) 0 26)) (111 + 2 * (w 0 28)) 4 a2) 0 30)) 0 30) ((b_up (b_up (b_up (b_up (b_up (b_up (b_up w 0 28 (b_i ((w 0 28) + 1))) (111 + 2 * (w 0 28)) 0 a1) (111 + 2 * (w 0 28)) 1 ((b_up (b_up w 0 28 (b_i ((w 0 28) + 1))) (111 + 2 * (w 0 28)) 0 a1) 0 24)) (111 + 2 * (w 0 28)) 2 ((b_up (b_up (b_up w 0 28 (b_i ((w 0 28) + 1))) (111 + 2 * (w 0 28)) 0 a1) (111 + 2 * (w 0 28)) 1 ((b_up (b_up w 0 28 (b_i ((w 0 28) + 1))) (111 + 2 * (w 0 28)) 0 a1) 0 24)) 0 25)) (111 + 2 * (w 0 28)) 3 ((b_up (b_up (b_up (b_up w 0 28 (b_i ((w 0 28) + 1))) (111 + 2 * (w 0 28)) 0 a1) (111 + 2 * (w 0 28)) 1 ((b_up (b_up w 0 28 (b_i ((w 0 28) + 1))) (111 + 2 * (w 0 28)) 0 a1) 0 24)) (111 + 2 * (w 0 28)) 2 ((b_up (b_up (b_up w 0 28 (b_i ((w 0 28) + 1))) (111 + 2 * (w 0 28)) 0 a1) (111 + 2 * (w 0 28)) 1 ((b_up (b_up w 0 28 (b_i ((w 0 28) + 1))) (111 + 2 * (w 0 28)) 0 a1) 0 24)) 0 25)) 0 26)) (111 + 2 * (w 0 28)) 4 a2) (111 + 2 * (w 0 28)) 5 ((b_up (b_up (b_up (b_up (b_up (b_up w 0 28 (b_i ((w 0 28) + 1))) (111 + 2 * (w 0 28)) 0 a1) (111 + 2 * (w 0 28)) 1 ((b_up (b_up w 0 28 (b_i ((w 0 28) + 1))) (111 + 2 * (w 0 28)) 0 a1) 0 24)) (111 + 2 * (w 0 28)) 2 ((b_up (b_up (b_up w 0 28 (b_i ((w 0 28) + 1))) (111 + 2 * (w 0 28)) 0 a1) (111 + 2 * (w 0 28)) 1 ((b_up (b_up w 0 28 (b_i ((w 0 28) + 1))) (111 + 2 * (w 0 28)) 0 a1) 0 24)) 0 25)) (111 + 2 * (w 0 28)) 3 ((b_up (b_up (b_up (b_up w 0 28 (b_i ((w 0 28) + 1))) (111 + 2 * (w 0 28)) 0 a1) (111 + 2 * (w 0 28)) 1 ((b_up (b_up w 0 28 (b_i ((w 0 28) + 1))) (111 + 2 * (w 0 28)) 0 a1) 0 24)) (111 + 2 * (w 0 28)) 2 ((b_up (b_up (b_up w 0 28 (b_i ((w 0 28) + 1))) (111 + 2 * (w 0 28)) 0 a1) (111 + 2 * (w 0 28)) 1 ((b_up (b_up w 0 28 (b_i ((w 0 28) + 1))) (111 + 2 * (w 0 28)) 0 a1) 0 24)) 0 25)) 0 26)) (111 + 2 * (w 0 28)) 4 a2) 0 30)) 0 1)) 0 30 (b_i (((b_up (b_up (b_up (b_up (b_up (b_up (b_up w 0 28 (b_i ((w 0 28) + 1))) (111 + 2 * (w 0 28)) 0 a1) (111 + 2 * (w 0 28)) 1 ((b_up (b_up w 0 28 (b_i ((w 0 28) + 1))) (111 + 2 * (w 0 28)) 0 a1) 0 24)) (111 + 2 * (w 0 28)) 2 ((b_up (b_up (b_up w 0 28 (b_i ((w 0 28) + 1))) (111 + 2 * (w 0 28)) 0 a1) (111 + 2 * (w 0 28)) 1 ((b_up (b_up w 0 28 (b_i ((w 0 28) + 1))) (111 + 2 * (w 0 28)) 0 a1) 0 24)) 0 25)) (111 + 2 * (w 0 28)) 3 ((b_up (b_up (b_up (b_up w 0 28 (b_i ((w 0 28) + 1))) (111 + 2 * (w 0 28)) 0 a1) (111 + 2 * (w 0 28)) 1 ((b_up (b_up w 0 28 (b_i ((w 0 28) + 1))) (111 + 2 * (w 0 28)) 0 a1) 0 24)) (111 + 2 * (w 0 28)) 2 ((b_up (b_up (b_up w 0 28 (b_i ((w 0 28) + 1))) (111 + 2 * (w 0 28)) 0 a1) (111 + 2 * (w 0 28)) 1 ((b_up (b_up w 0 28 (b_i ((w 0 28) + 1))) (111 + 2 * (w 0 28)) 0 a1) 0 24)) 0 25)) 0 26)) (111 + 2 * (w 0 28)) 4 a2) (111 + 2 * (w 0 28)) 5 ((b_up (b_up (b_up (b_up (b_up (b_up w 0 28 (b_i ((w 0 28) + 1))) (111 + 2 * (w 0 28)) 0 a1) (111 + 2 * (w 0 28)) 1 ((b_up (b_up w 0 28 (b_i ((w 0 28) + 1))) (111 + 2 * (w 0 28)) 0 a1) 0 24)) (111 + 2 * (w 0 28)) 2 ((b_up (b_up (b_up w 0 28 (b_i ((w 0 28) + 1))) (111 + 2 * (w 0 28)) 0 a1) (111 + 2 * (w 0 28)) 1 ((b_up (b_up w 0 28 (b_i ((w 0 28) + 1))) (111 + 2 * (w 0 28)) 0 a1) 0 24)) 0 25)) (111 + 2 * (w 0 28)) 3 ((b_up (b_up (b_up (b_up w 0 28 (b_i ((w 0 28) + 1))) (111 + 2 * (w 0 28)) 0 a1) (111 + 2 * (w 0 28)) 1 ((b_up (b_up w 0 28 (b_i ((w 0 28) + 1))) (111 + 2 * (w 0 28)) 0 a1) 0 24)) (111 + 2 * (w 0 28)) 2 ((b_up (b_up (b_up w 0 28 (b_i ((w 0 28) + 1))) (111 + 2 * (w 0 28)) 0 a1) (111 + 2 * (w 0 28)) 1 ((b_up (b_up w 0 28 (b_i ((w 0 28) + 1))) (111 + 2 * (w 0 28)) 0 a1) 0 24)) 0 25)) 0 26)) (111 + 2 * (w 0 28)) 4 a2) 0 30)) 0 30) + ((b_up (b_up (b_up (b_up (b_up (b_up (b_up w 0 28 (b_i ((w 0 28) + 1))) (111 + 2 * (w 0 28)) 0 a1) (111 + 2 * (w 0 28)) 1 ((b_up (b_up w 0 28 (b_i ((w 0 28) + 1))) (111 + 2 * (w 0 28)) 0 a1) 0 24)) (111 + 2 * (w 0 28)) 2 ((b_up (b_up (b_up w 0 28 (b_i ((w 0 28) + 1))) (111 + 2 * (w 0 28)) 0 a1) (111 + 2 * (w 0 28)) 1 ((b_up (b_up w 0 28 (b_i ((w 0 28) + 1))) (111 + 2 * (w 0 28)) 0 a1) 0 24)) 0 25)) (111 + 2 * (w 0 28)) 3 ((b_up (b_up (b_up (b_up w 0 28 (b_i ((w 0 28) + 1))) (111 + 2 * (w 0 28)) 0 a1) (111 + 2 * (w 0 28)) 1 ((b_up (b_up w 0 28 (b_i ((w 0 28) + 1))) (111 + 2 * (w 0 28)) 0 a1) 0 24)) (111 + 2 * (w 0 28)) 2 ((b_up (b_up (b_up w 0 28 (b_i ((w 0 28) + 1))) (111 + 2 * (w 0 28)) 0 a1) (111 + 2 * (w 0 28)) 1 ((b_up (b_up w 0 28 (b_i ((w 0 28) + 1))) (111 + 2 * (w 0 28)) 0 a1) 0 24)) 0 25)) 0 26)) (111 + 2 * (w 0 28)) 4 a2) (111 + 2 * (w 0 28)) 5 ((b_up (b_up (b_up (b_up (b_up (b_up w 0 28 (b_i ((w 0 28) + 1))) (111 + 2 * (w 0 28)) 0 a1) (111 + 2 * (w 0 28)) 1 ((b_up (b_up w 0 28 (b_i ((w 0 28) + 1))) (111 + 2 * (w 0 28)) 0 a1) 0 24)) (111 + 2 * (w 0 28)) 2 ((b_up (b_up (b_up w 0 28 (b_i ((w 0 28) + 1))) (111 + 2 * (w 0 28)) 0 a1) (111 + 2 * (w 0 28)) 1 ((b_up (b_up w 0 28 (b_i ((w 0 28) + 1))) (111 + 2 * (w 0 28)) 0 a1) 0 24)) 0 25)) (111 + 2 * (w 0 28)) 3 ((b_up (b_up (b_up (b_up w 0 28 (b_i ((w 0 28) + 1))) (111 + 2 * (w 0 28)) 0 a1) (111 + 2 * (w 0 28)) 1 ((b_up (b_up w 0 28 (b_i ((w 0 28) + 1))) (111 + 2 * (w 0 28)) 0 a1) 0 24)) (111 + 2 * (w 0 28)) 2 ((b_up (b_up (b_up w 0 28 (b_i ((w 0 28) + 1))) (111 + 2 * (w 0 28)) 0 a1) (111 + 2 * (w 0 28)) 1 ((b_up (b_up w 0 28 (b_i ((w 0 28) + 1))) (111 + 2 * (w 0 28)) 0 a1) 0 24)) 0 25)) 0 26)) (111 + 2 * (w 0 28)) 4 a2) 0 30)) 0 1)))) (111 + 2 * (w 0 28)) 6 (b_i (((b_up (b_up (b_up (b_up (b_up (b_up (b_up w 0 28 (b_i ((w 0 28) + 1))) (111 + 2 * (w 0 28)) 0 a1) (111 + 2 * (w 0 28)) 1 ((b_up (b_up w 0 28 (b_i ((w 0 28) + 1))) (111 + 2 * (w 0 28)) 0 a1) 0 24)) (111 + 2 * (w 0 28)) 2 ((b_up (b_up (b_up w 0 28 (b_i ((w 0 28) + 1))) (111 + 2 * (w 0 28)) 0 a1) (111 + 2 * (w 0 28)) 1 ((b_up (b_up w 0 28 (b_i ((w 0 28) + 1))) (111 + 2 * (w 0 28)) 0 a1) 0 24)) 0 25)) (111 + 2 * (w 0 28)) 3 ((b_up (b_up (b_up (b_up w 0 28 (b_i ((w 0 28) + 1))) (111 + 2 * (w 0 28)) 0 a1) (111 + 2 * (w 0 28)) 1 ((b_up (b_up w 0 28 (b_i ((w 0 28) + 1))) (111 + 2 * (w 0 28)) 0 a1) 0 24)) (111 + 2 * (w 0 28)) 2 ((b_up (b_up (b_up w 0 28 (b_i ((w 0 28) + 1))) (111 + 2 * (w 0 28)) 0 a1) (111 + 2 * (w 0 28)) 1 ((b_up (b_up w 0 28 (b_i ((w 0 28) + 1))) (111 + 2 * (w 0 28)) 0 a1) 0 24)) 0 25)) 0 26)) (111 + 2 * (w 0 28)) 4 a2) (111 + 2 * (w 0 28)) 5 ((b_up (b_up (b_up (b_up (b_up (b_up w 0 28 (b_i ((w 0 28) + 1))) (111 + 2 * (w 0 28)) 0 a1) (111 + 2 * (w 0 28)) 1 ((b_up (b_up w 0 28 (b_i ((w 0 28) + 1))) (111 + 2 * (w 0 28)) 0 a1) 0 24)) (111 + 2 * (w 0 28)) 2 ((b_up (b_up (b_up w 0 28 (b_i ((w 0 28) + 1))) (111 + 2 * (w 0 28)) 0 a1) (111 + 2 * (w 0 28)) 1 ((b_up (b_up w 0 28 (b_i ((w 0 28) + 1))) (111 + 2 * (w 0 28)) 0 a1) 0 24)) 0 25)) (111 + 2 * (w 0 28)) 3 ((b_up (b_up (b_up (b_up w 0 28 (b_i ((w 0 28) + 1))) (111 + 2 * (w 0 28)) 0 a1) (111 + 2 * (w 0 28)) 1 ((b_up (b_up w 0 28 (b_i ((w 0 28) + 1))) (111 + 2 * (w 0 28)) 0 a1) 0 24)) (111 + 2 * (w 0 28)) 2 ((b_up (b_up (b_up w 0 28 (b_i ((w 0 28) + 1))) (111 + 2 * (w 0 28)) 0 a1) (111 + 2 * (w 0 28)) 1 ((b_up (b_up w 0 28 (b_i ((w 0 28) + 1))) (111 + 2 * (w 0 28)) 0 a1) 0 24)) 0 25)) 0 26)) (111 + 2 * (w 0 28)) 4 a2) 0 30)) 0 30) + ((b_up (b_up (b_up (b_up (b_up (b_up (b_up w 0 28 (b_i ((w 0 28) + 1))) (111 + 2 * (w 0 28)) 0 a1) (111 + 2 * (w 0 28)) 1 ((b_up (b_up w 0 28 (b_i ((w 0 28) + 1))) (111 + 2 * (w 0 28)) 0 a1) 0 24)) (111 + 2 * (w 0 28)) 2 ((b_up (b_up (b_up w 0 28 (b_i ((w 0 28) + 1))) (111 + 2 * (w 0 28)) 0 a1) (111 + 2 * (w 0 28)) 1 ((b_up (b_up w 0 28 (b_i ((w 0 28) + 1))) (111 + 2 * (w 0 28)) 0 a1) 0 24)) 0 25)) (111 + 2 * (w 0 28)) 3 ((b_up (b_up (b_up (b_up w 0 28 (b_i ((w 0 28) + 1))) (111 + 2 * (w 0 28)) 0 a1) (111 + 2 * (w 0 28)) 1 ((b_up (b_up w 0 28 (b_i ((w 0 28) + 1))) (111 + 2 * (w 0 28)) 0 a1) 0 24)) (111 + 2 * (w 0 28)) 2 ((b_up (b_up (b_up w 0 28 (b_i ((w 0 28) + 1))) (111 + 2 * (w 0 28)) 0 a1) (111 + 2 * (w 0 28)) 1 ((b_up (b_up w 0 28 (b_i ((w 0 28) + 1))) (111 + 2 * (w 0 28)) 0 a1) 0 24)) 0 25)) 0 26)) (111 + 2 * (w 0 28)) 4 a2) (111 + 2 * (w 0 28)) 5 ((b_up (b_up (b_up (b_up (b_up (b_up w 0 28 (b_i ((w 0 28) + 1))) (111 + 2 * (w 0 28)) 0 a1) (111 + 2 * (w 0 28)) 1 ((b_up (b_up w 0 28 (b_i ((w 0 28) + 1))) (111 + 2 * (w 0 28)) 0 a1) 0 24)) (111 + 2 * (w 0 28)) 2 ((b_up (b_up (b_up w 0 28 (b_i ((w 0 28) + 1))) (111 + 2 * (w 0 28)) 0 a1) (111 + 2 * (w 0 28)) 1 ((b_up (b_up w 0 28 (b_i ((w 0 28) + 1))) (111 + 2 * (w 0 28)) 0 a1) 0 24)) 0 25)) (111 + 2 * (w 0 28)) 3 ((b_up (b_up (b_up (b_up w 0 28 (b_i ((w 0 28) + 1))) (111 + 2 * (w 0 28)) 0 a1) (111 + 2 * (w 0 28)) 1 ((b_up (b_up w 0 28 (b_i ((w 0 28) + 1))) (111 + 2 * (w 0 28)) 0 a1) 0 24)) (111 + 2 * (w 0 28)) 2 ((b_up (b_up (b_up w 0 28 (b_i ((w 0 28) + 1))) (111 + 2 * (w 0 28)) 0 a1) (111 + 2 * (w 0 28)) 1 ((b_up (b_up w 0 28 (b_i ((w 0 28) + 1))) (111 + 2 * (w 0 28)) 0 a1) 0 24)) 0 25)) 0 26)) (111 + 2 * (w 0 28)) 4 a2) 0 30)) 0 1)))) 0 28) dX1_content_161 i0 rfl in_X1 q1595 rfl rfl rfl rfl rfl ?_
            exact y_iret dX1_content_164 rfl h
          · refine x_iconst (-1) (z := (-1)) dX1_content_45 rfl (by decide) rfl ?_
            exact y_iret dX1_content_46 rfl h
abbrev LX1_apply_42 (d n : Nat) (Q : Int → bW → Prop) (X : String → bW → Prop) (a1 : Int) (a3 : Int) (w : bW) : Prop := b_Y (d + 1) mX1_apply n Q X 42 [(2, 0), (1, a1), (9, 0), (0, a3)] [] w
theorem rX1_apply {d n : Nat} {w : bW} {Q : Int → bW → Prop} {X : String → bW → Prop} (hn : 143 ≤ n) (h : if w 0 21 = 0 then (Q (-1) w) else (if w 0 28 ≠ 0 then ((0 ≤ w 0 22 ∧ w 0 22 < 100) ∧ (if w 0 23 = w 76 (w 0 22) then (LX1_apply_42 d n Q X 0 0 w) else (Q (-2) w))) else (Q (-1) w))) : b_K (d + 1) mX1_apply [(2, 0)] n w Q X := by
  have i0 := iz0 (Nat.le_trans (Nat.le_of_ble_eq_true rfl) hn)
  have i70 := iz70 (Nat.le_trans (Nat.le_of_ble_eq_true rfl) hn)
  have i76 := iz76 (Nat.le_trans (Nat.le_of_ble_eq_true rfl) hn)
  refine k_of (by decide) rfl rfl rfl (ls := [(2, 0), (9, 0), (9, 0), (9, 0)]) rfl ?_
  refine x_aload_n 0 dX1_apply_0 rfl rfl rfl rfl rfl ?_
  refine y_get 283 21 (c := 0) (z := w 0 21) dX1_apply_1 i0 rfl in_X1 q1588 rfl rfl rfl rfl rfl ?_
  refine x_if_eq (t := 14) 10 dX1_apply_4 rfl rfl (b_ite h (fun hc h => ?_) (fun hc h => ?_))
  · refine x_iconst (-1) (z := (-1)) dX1_apply_14 rfl (by decide) rfl ?_
    exact y_iret dX1_apply_15 rfl h
  · refine x_aload_n 0 dX1_apply_7 rfl rfl rfl rfl rfl ?_
    refine y_get 302 28 (c := 0) (z := w 0 28) dX1_apply_8 i0 rfl in_X1 q1595 rfl rfl rfl rfl rfl ?_
    refine x_if_ne (t := 16) 5 dX1_apply_11 rfl rfl (b_ite h (fun hc h => ?_) (fun hc h => ?_))
    · refine x_aload_n 0 dX1_apply_16 rfl rfl rfl rfl rfl ?_
      refine y_get 290 23 (c := 0) (z := w 0 23) dX1_apply_17 i0 rfl in_X1 q1590 rfl rfl rfl rfl rfl ?_
      refine x_aload_n 0 dX1_apply_20 rfl rfl rfl rfl rfl ?_
      refine y_getF 121 15 (c := 0) (z := 70) dX1_apply_21 i0 rfl in_X1 q1582 rfl rfl rfl fn_0_15 (Nat.le_trans (Nat.le_of_ble_eq_true rfl) hn) rfl ?_
      refine y_getF 335 5 (c := 16) (z := 76) dX1_apply_24 i70 rfl in_X17 q1177 rfl rfl rfl fn_70_5 (Nat.le_trans (Nat.le_of_ble_eq_true rfl) hn) rfl ?_
      refine x_aload_n 0 dX1_apply_27 rfl rfl rfl rfl rfl ?_
      refine y_get 287 22 (c := 0) (z := w 0 22) dX1_apply_28 i0 rfl in_X1 q1589 rfl rfl rfl rfl rfl ?_
      obtain ⟨e1, h⟩ := h
      refine y_iald (z := w 76 (w 0 22)) dX1_apply_31 ⟨100, i76, e1⟩ rfl rfl ?_
      refine x_icmp_eq (t := 38) 6 dX1_apply_32 rfl rfl (b_ite h (fun hc h => ?_) (fun hc h => ?_))
      · refine x_lconst 0 (z := 0) dX1_apply_38 rfl (by decide) rfl ?_
        refine x_lstore_n 1 (ls' := [(2, 0), (1, 0), (9, 0), (9, 0)]) dX1_apply_39 rfl rfl rfl rfl ?_
        refine x_iconst 0 (z := 0) dX1_apply_40 rfl (by decide) rfl ?_
        refine x_istore_n 3 (ls' := [(2, 0), (1, 0), (9, 0), (0, 0)]) dX1_apply_41 rfl rfl rfl rfl ?_
        exact x_fg (fgk (fgk (fgk (fgk (fg0))))) h
      · refine x_bipush (-2) (z := (-2)) dX1_apply_35 rfl (by decide) rfl ?_
        exact y_iret dX1_apply_37 rfl h
    · refine x_iconst (-1) (z := (-1)) dX1_apply_14 rfl (by decide) rfl ?_
      exact y_iret dX1_apply_15 rfl h
theorem sX1_apply_42 {d n : Nat} {w : bW} {Q : Int → bW → Prop} {X : String → bW → Prop} (hn : 143 ≤ n) (a1 : Int) (a3 : Int) (h : if w 0 28 ≤ a3 then ((0 ≤ w 0 22 ∧ w 0 22 < 200) ∧ (if a1 ≤ w 71 (w 0 22) then ((0 ≤ w 0 22 ∧ w 0 22 < 100) ∧ (b_K d mX1_doContents [(2, 0)] n (b_up (b_up (b_up (b_up (b_up w 71 (w 0 22) (b_l ((w 71 (w 0 22)) - a1))) 70 9 (b_l ((w 70 9) + a1))) 76 (w 0 22) (b_i ((w 76 (w 0 22)) + (w 0 28)))) 0 21 0) 0 32 (w 0 28)) (fun r3 w4 => Q r3 w4) X)) else (Q (-3) w))) else ((0 ≤ a3 ∧ a3 < 16) ∧ (LX1_apply_42 d n Q X (b_l (a1 + (w (111 + 2 * a3) 1))) (b_i (a3 + 1)) w))) : LX1_apply_42 d n Q X a1 a3 w := by
  have i0 := iz0 (Nat.le_trans (Nat.le_of_ble_eq_true rfl) hn)
  have i70 := iz70 (Nat.le_trans (Nat.le_of_ble_eq_true rfl) hn)
  have i71 := iz71 (Nat.le_trans (Nat.le_of_ble_eq_true rfl) hn)
  have i76 := iz76 (Nat.le_trans (Nat.le_of_ble_eq_true rfl) hn)
  have i108 := iz108 (Nat.le_trans (Nat.le_of_ble_eq_true rfl) hn)
  refine x_iload_n 3 dX1_apply_42 rfl rfl rfl ?_
  refine x_aload_n 0 dX1_apply_43 rfl rfl rfl rfl rfl ?_
  refine y_get 302 28 (c := 0) (z := w 0 28) dX1_apply_44 i0 rfl in_X1 q1595 rfl rfl rfl rfl rfl ?_
  refine x_icmp_ge (t := 68) 21 dX1_apply_47 rfl rfl (b_ite h (fun hc h => ?_) (fun hc h => ?_))
  · refine x_lload_n 1 dX1_apply_68 rfl rfl rfl ?_
    refine x_aload_n 0 dX1_apply_69 rfl rfl rfl rfl rfl ?_
    refine y_getF 121 15 (c := 0) (z := 70) dX1_apply_70 i0 rfl in_X1 q1582 rfl rfl rfl fn_0_15 (Nat.le_trans (Nat.le_of_ble_eq_true rfl) hn) rfl ?_
    refine y_getF 265 0 (c := 16) (z := 71) dX1_apply_73 i70 rfl in_X17 q1161 rfl rfl rfl fn_70_0 (Nat.le_trans (Nat.le_of_ble_eq_true rfl) hn) rfl ?_
    refine x_aload_n 0 dX1_apply_76 rfl rfl rfl rfl rfl ?_
    refine y_get 287 22 (c := 0) (z := w 0 22) dX1_apply_77 i0 rfl in_X1 q1589 rfl rfl rfl rfl rfl ?_
    obtain ⟨e1, h⟩ := h
    refine y_lald (z := w 71 (w 0 22)) dX1_apply_80 ⟨200, i71, e1⟩ rfl rfl ?_
    refine x_lc_le (q := 85) (t := 88) 6 dX1_apply_81 dX1_apply_82 rfl rfl (b_ite h (fun hc h => ?_) (fun hc h => ?_))
    · refine x_aload_n 0 dX1_apply_88 rfl rfl rfl rfl rfl ?_
      refine y_getF 121 15 (c := 0) (z := 70) dX1_apply_89 i0 rfl in_X1 q1582 rfl rfl rfl fn_0_15 (Nat.le_trans (Nat.le_of_ble_eq_true rfl) hn) rfl ?_
      refine y_getF 265 0 (c := 16) (z := 71) dX1_apply_92 i70 rfl in_X17 q1161 rfl rfl rfl fn_70_0 (Nat.le_trans (Nat.le_of_ble_eq_true rfl) hn) rfl ?_
      refine x_aload_n 0 dX1_apply_95 rfl rfl rfl rfl rfl ?_
      refine y_get 287 22 (c := 0) (z := w 0 22) dX1_apply_96 i0 rfl in_X1 q1589 rfl rfl rfl rfl rfl ?_
      refine x_dup2 dX1_apply_99 rfl rfl rfl ?_
      refine y_lald (z := w 71 (w 0 22)) dX1_apply_100 ⟨200, i71, e1⟩ rfl rfl ?_
      refine x_lload_n 1 dX1_apply_101 rfl rfl rfl ?_
      refine x_lsub dX1_apply_102 rfl ?_
      refine y_last (x' := b_l ((w 71 (w 0 22)) - a1)) dX1_apply_103 ⟨200, i71, e1⟩ rfl rfl ?_
      refine x_aload_n 0 dX1_apply_104 rfl rfl rfl rfl rfl ?_
      refine y_getF 121 15 (c := 0) (z := 70) dX1_apply_105 i0 rfl in_X1 q1582 rfl rfl rfl fn_0_15 (Nat.le_trans (Nat.le_of_ble_eq_true rfl) hn) rfl ?_
      refine x_dup dX1_apply_108 rfl rfl ?_
      refine y_get 338 9 (c := 16) (z := w 70 9) dX1_apply_109 i70 rfl in_X17 q1186 rfl rfl rfl rfl rfl ?_
      refine x_lload_n 1 dX1_apply_112 rfl rfl rfl ?_
      refine x_ladd dX1_apply_113 rfl ?_
      refine x_put 338 9 (c := 16) dX1_apply_114 i70 rfl in_X17 tyX17_ok nmX17 q1186 rfl rfl rfl (Or.inl rfl) (Or.inr (Or.inr (Or.inl ⟨rfl, rfl⟩))) rfl ?_
      refine x_aload_n 0 dX1_apply_117 rfl rfl rfl rfl rfl ?_
      refine y_getF 121 15 (c := 0) (z := 70) dX1_apply_118 i0 rfl in_X1 q1582 rfl rfl rfl fn_0_15 (Nat.le_trans (Nat.le_of_ble_eq_true rfl) hn) rfl ?_
      refine y_getF 335 5 (c := 16) (z := 76) dX1_apply_121 i70 rfl in_X17 q1177 rfl rfl rfl fn_70_5 (Nat.le_trans (Nat.le_of_ble_eq_true rfl) hn) rfl ?_
      refine x_aload_n 0 dX1_apply_124 rfl rfl rfl rfl rfl ?_
      refine y_get 287 22 (c := 0) (z := w 0 22) dX1_apply_125 i0 rfl in_X1 q1589 rfl rfl rfl rfl rfl ?_
      refine x_dup2 dX1_apply_128 rfl rfl rfl ?_
      obtain ⟨e2, h⟩ := h
      refine y_iald (z := w 76 (w 0 22)) dX1_apply_129 ⟨100, i76, e2⟩ rfl rfl ?_
      refine x_aload_n 0 dX1_apply_130 rfl rfl rfl rfl rfl ?_
      refine y_get 302 28 (c := 0) (z := w 0 28) dX1_apply_131 i0 rfl in_X1 q1595 rfl rfl rfl rfl rfl ?_
      refine x_iadd dX1_apply_134 rfl ?_
      refine y_iast (x' := b_i ((w 76 (w 0 22)) + (w 0 28))) dX1_apply_135 ⟨100, i76, e2⟩ rfl rfl ?_
      refine x_aload_n 0 dX1_apply_136 rfl rfl rfl rfl rfl ?_
      refine x_iconst 0 (z := 0) dX1_apply_137 rfl (by decide) rfl ?_
      refine x_put 283 21 (c := 0) dX1_apply_138 i0 rfl in_X1 tyX1_ok nmX1 q1588 rfl rfl rfl (Or.inl rfl) (Or.inr (Or.inl ⟨rfl, rfl, by decide⟩)) rfl ?_
      refine x_aload_n 0 dX1_apply_141 rfl rfl rfl rfl rfl ?_
      refine x_aload_n 0 dX1_apply_142 rfl rfl rfl rfl rfl ?_
      refine y_get 302 28 (c := 0) (z := w 0 28) dX1_apply_143 i0 rfl in_X1 q1595 rfl rfl rfl rfl rfl ?_
      refine x_put 341 32 (c := 0) dX1_apply_146 i0 rfl in_X1 tyX1_ok nmX1 q1599 rfl rfl rfl (Or.inl rfl) (Or.inl ⟨rfl, rfl⟩) rfl ?_
      refine x_aload_n 0 dX1_apply_149 rfl rfl rfl rfl rfl ?_
      refine y_Vi 344 (M := mX1_doContents) (As := []) (st := []) dX1_apply_150 i0 rfl q2469 q2471 qs98 q358 q2472 rfl hmX1_doContents rfl rfl rfl rfl rfl rfl rfl rfl (k_mono h (fun r3 w4 h => ?_))
      exact y_iret dX1_apply_153 rfl h
    · refine x_bipush (-3) (z := (-3)) dX1_apply_85 rfl (by decide) rfl ?_
      exact y_iret dX1_apply_87 rfl h
  · refine x_lload_n 1 dX1_apply_50 rfl rfl rfl ?_
    refine x_aload_n 0 dX1_apply_51 rfl rfl rfl rfl rfl ?_
    refine y_getF 156 27 (c := 0) (z := 108) dX1_apply_52 i0 rfl in_X1 q1594 rfl rfl rfl fn_0_27 (Nat.le_trans (Nat.le_of_ble_eq_true rfl) hn) rfl ?_
    refine x_iload_n 3 dX1_apply_55 rfl rfl rfl ?_
    obtain ⟨e5, h⟩ := h
    refine y_aaldC dX1_apply_56 (Nat.le_trans (Nat.le_of_ble_eq_true rfl) hn) e5 rfl (fun e6 => ?_)
    refine y_get 314 1 (c := 21) (z := w (111 + 2 * a3) 1) dX1_apply_57 e6 rfl in_X23 q1505 rfl rfl rfl rfl rfl ?_
    refine x_ladd dX1_apply_60 rfl ?_
    refine x_lstore_n 1 (ls' := [(2, 0), (1, b_l (a1 + (w (111 + 2 * a3) 1))), (9, 0), (0, a3)]) dX1_apply_61 rfl rfl rfl rfl ?_
    refine x_iinc 3 1 (ls' := [(2, 0), (1, b_l (a1 + (w (111 + 2 * a3) 1))), (9, 0), (0, b_i (a3 + 1))]) dX1_apply_62 rfl rfl rfl rfl ?_
    refine x_goto (-23) (q := 42) dX1_apply_65 rfl ?_
    exact x_fg (fgk (fgk (fgk (fgk (fg0))))) h
abbrev LX1_doContents_16 (d n : Nat) (Q : Int → bW → Prop) (X : String → bW → Prop) (a1 : Int) (w : bW) : Prop := b_Y (d + 1) mX1_doContents n Q X 16 [(2, 0), (0, a1), (9, 0), (9, 0)] [] w
abbrev LX1_doContents_43 (d n : Nat) (Q : Int → bW → Prop) (X : String → bW → Prop) (a1 : Int) (a2 : Int) (w : bW) : Prop := b_Y (d + 1) mX1_doContents n Q X 43 [(2, 0), (0, a1), (0, a2), (9, 0)] [] w
abbrev LX1_doContents_135 (d n : Nat) (Q : Int → bW → Prop) (X : String → bW → Prop) (a1 : Int) (a3 : Int) (w : bW) : Prop := b_Y (d + 1) mX1_doContents n Q X 135 [(2, 0), (0, a1), (9, 0), (0, a3)] [] w
theorem rX1_doContents {d n : Nat} {w : bW} {Q : Int → bW → Prop} {X : String → bW → Prop} (hn : 143 ≤ n) (h : b_K d mX17_save [(2, 70)] n w (fun r1 w2 => b_K d mX22_mark [(2, 102)] n w2 (fun r3 w4 => LX1_doContents_16 d n Q X 0 w4) X) X) : b_K (d + 1) mX1_doContents [(2, 0)] n w Q X := by
  have i0 := iz0 (Nat.le_trans (Nat.le_of_ble_eq_true rfl) hn)
  have i70 := iz70 (Nat.le_trans (Nat.le_of_ble_eq_true rfl) hn)
  have i102 := iz102 (Nat.le_trans (Nat.le_of_ble_eq_true rfl) hn)
  refine k_of (by decide) rfl rfl rfl (ls := [(2, 0), (9, 0), (9, 0), (9, 0)]) rfl ?_
  refine x_aload_n 0 dX1_doContents_0 rfl rfl rfl rfl rfl ?_
  refine y_getF 121 15 (c := 0) (z := 70) dX1_doContents_1 i0 rfl in_X1 q1582 rfl rfl rfl fn_0_15 (Nat.le_trans (Nat.le_of_ble_eq_true rfl) hn) rfl ?_
  refine y_Vv 348 (M := mX17_save) (As := []) (st := []) dX1_doContents_4 i70 rfl q2473 q2474 q2475 q384 q2476 rfl hmX17_save rfl rfl rfl rfl rfl rfl rfl (k_mono h (fun r1 w2 h => ?_))
  refine x_aload_n 0 dX1_doContents_7 rfl rfl rfl rfl rfl ?_
  refine y_getF 146 18 (c := 0) (z := 102) dX1_doContents_8 i0 rfl in_X1 q1585 rfl rfl rfl fn_0_18 (Nat.le_trans (Nat.le_of_ble_eq_true rfl) hn) rfl ?_
  refine y_Vv 205 (M := mX22_mark) (As := []) (st := []) dX1_doContents_11 i102 rfl q1809 q1810 q1811 q389 q1812 rfl hmX22_mark rfl rfl rfl rfl rfl rfl rfl (k_mono h (fun r3 w4 h => ?_))
  refine x_iconst 0 (z := 0) dX1_doContents_14 rfl (by decide) rfl ?_
  refine x_istore_n 1 (ls' := [(2, 0), (0, 0), (9, 0), (9, 0)]) dX1_doContents_15 rfl rfl rfl rfl ?_
  exact x_fg (fgk (fgk (fgk (fgk (fg0))))) h
theorem sX1_doContents_16 {d n : Nat} {w : bW} {Q : Int → bW → Prop} {X : String → bW → Prop} (hn : 143 ≤ n) (a1 : Int) (h : if w 0 28 ≤ a1 then (LX1_doContents_43 d n Q X 0 1 w) else ((0 ≤ a1 ∧ a1 < 16) ∧ (b_K d mX24_clear [(2, 112 + 2 * a1)] n w (fun r3 w4 => LX1_doContents_16 d n Q X (b_i (a1 + 1)) w4) X))) : LX1_doContents_16 d n Q X a1 w := by
  have i0 := iz0 (Nat.le_trans (Nat.le_of_ble_eq_true rfl) hn)
  have i110 := iz110 (Nat.le_trans (Nat.le_of_ble_eq_true rfl) hn)
  refine x_iload_n 1 dX1_doContents_16 rfl rfl rfl ?_
  refine x_aload_n 0 dX1_doContents_17 rfl rfl rfl rfl rfl ?_
  refine y_get 302 28 (c := 0) (z := w 0 28) dX1_doContents_18 i0 rfl in_X1 q1595 rfl rfl rfl rfl rfl ?_
  refine x_icmp_ge (t := 39) 18 dX1_doContents_21 rfl rfl (b_ite h (fun hc h => ?_) (fun hc h => ?_))
  · refine x_iconst 0 (z := 0) dX1_doContents_39 rfl (by decide) rfl ?_
    refine x_istore_n 1 (ls' := [(2, 0), (0, 0), (9, 0), (9, 0)]) dX1_doContents_40 rfl rfl rfl rfl ?_
    refine x_iconst 1 (z := 1) dX1_doContents_41 rfl (by decide) rfl ?_
    refine x_istore_n 2 (ls' := [(2, 0), (0, 0), (0, 1), (9, 0)]) dX1_doContents_42 rfl rfl rfl rfl ?_
    exact x_fg (fgk (fgk (fgk (fgk (fg0))))) h
  · refine x_aload_n 0 dX1_doContents_24 rfl rfl rfl rfl rfl ?_
    refine y_getF 165 31 (c := 0) (z := 110) dX1_doContents_25 i0 rfl in_X1 q1598 rfl rfl rfl fn_0_31 (Nat.le_trans (Nat.le_of_ble_eq_true rfl) hn) rfl ?_
    refine x_iload_n 1 dX1_doContents_28 rfl rfl rfl ?_
    obtain ⟨e1, h⟩ := h
    refine y_aaldR dX1_doContents_29 (Nat.le_trans (Nat.le_of_ble_eq_true rfl) hn) e1 rfl (fun e2 => ?_)
    refine y_Vv 351 (M := mX24_clear) (As := []) (st := []) dX1_doContents_30 e2 rfl q2478 q2479 q2480 q391 q2481 rfl hmX24_clear rfl rfl rfl rfl rfl rfl rfl (k_mono h (fun r3 w4 h => ?_))
    refine x_iinc 1 1 (ls' := [(2, 0), (0, b_i (a1 + 1)), (9, 0), (9, 0)]) dX1_doContents_33 rfl rfl rfl rfl ?_
    refine x_goto (-20) (q := 16) dX1_doContents_36 rfl ?_
    exact x_fg (fgk (fgk (fgk (fgk (fg0))))) h
theorem sX1_doContents_43 {d n : Nat} {w : bW} {Q : Int → bW → Prop} {X : String → bW → Prop} (hn : 143 ≤ n) (a1 : Int) (a2 : Int) (h : if w 0 28 ≤ a1 then (if a2 ≠ 0 then (Q a1 w) else (b_K d mX17_load [(2, 70)] n w (fun r1 w2 => b_K d mX22_drop [(2, 102)] n w2 (fun r3 w4 => LX1_doContents_135 d n Q X a1 0 w4) X) X)) else (if a2 = 0 then (if a2 ≠ 0 then (Q a1 w) else (b_K d mX17_load [(2, 70)] n w (fun r5 w6 => b_K d mX22_drop [(2, 102)] n w6 (fun r7 w8 => LX1_doContents_135 d n Q X a1 0 w8) X) X)) else ((0 ≤ a1 ∧ a1 < 16) ∧ ((0 ≤ a1 ∧ a1 < 16) ∧ (b_K d mX22_run [(2, 102), (0, w 0 22), (2, 111 + 2 * a1), (2, 109), (2, 112 + 2 * a1)] n w (fun r13 w14 => (0 ≤ a1 ∧ a1 < 16) ∧ (if w14 (112 + 2 * a1) 0 ≠ 0 then (LX1_doContents_43 d n Q X (b_i (a1 + 0)) 0 w14) else (LX1_doContents_43 d n Q X (b_i (a1 + 1)) 1 w14))) X))))) : LX1_doContents_43 d n Q X a1 a2 w := by
  have i0 := iz0 (Nat.le_trans (Nat.le_of_ble_eq_true rfl) hn)
  have i70 := iz70 (Nat.le_trans (Nat.le_of_ble_eq_true rfl) hn)
  have i102 := iz102 (Nat.le_trans (Nat.le_of_ble_eq_true rfl) hn)
  have i108 := iz108 (Nat.le_trans (Nat.le_of_ble_eq_true rfl) hn)
  have i110 := iz110 (Nat.le_trans (Nat.le_of_ble_eq_true rfl) hn)
  refine x_iload_n 1 dX1_doContents_43 rfl rfl rfl ?_
  refine x_aload_n 0 dX1_doContents_44 rfl rfl rfl rfl rfl ?_
  refine y_get 302 28 (c := 0) (z := w 0 28) dX1_doContents_45 i0 rfl in_X1 q1595 rfl rfl rfl rfl rfl ?_
  refine x_icmp_ge (t := 115) 67 dX1_doContents_48 rfl rfl (b_ite h (fun hc h => ?_) (fun hc h => ?_))
  · refine x_iload_n 2 dX1_doContents_115 rfl rfl rfl ?_
    refine x_if_ne (t := 156) 40 dX1_doContents_116 rfl rfl (b_ite h (fun hc h => ?_) (fun hc h => ?_))
    · refine x_iload_n 1 dX1_doContents_156 rfl rfl rfl ?_
      exact y_iret dX1_doContents_157 rfl h
    · refine x_aload_n 0 dX1_doContents_119 rfl rfl rfl rfl rfl ?_
      refine y_getF 121 15 (c := 0) (z := 70) dX1_doContents_120 i0 rfl in_X1 q1582 rfl rfl rfl fn_0_15 (Nat.le_trans (Nat.le_of_ble_eq_true rfl) hn) rfl ?_
      refine y_Vv 361 (M := mX17_load) (As := []) (st := []) dX1_doContents_123 i70 rfl q3024 q3025 q3026 q384 q3027 rfl hmX17_load rfl rfl rfl rfl rfl rfl rfl (k_mono h (fun r1 w2 h => ?_))
      refine x_aload_n 0 dX1_doContents_126 rfl rfl rfl rfl rfl ?_
      refine y_getF 146 18 (c := 0) (z := 102) dX1_doContents_127 i0 rfl in_X1 q1585 rfl rfl rfl fn_0_18 (Nat.le_trans (Nat.le_of_ble_eq_true rfl) hn) rfl ?_
      refine y_Vv 212 (M := mX22_drop) (As := []) (st := []) dX1_doContents_130 i102 rfl q2310 q2311 q2312 q389 q2313 rfl hmX22_drop rfl rfl rfl rfl rfl rfl rfl (k_mono h (fun r3 w4 h => ?_))
      refine x_iconst 0 (z := 0) dX1_doContents_133 rfl (by decide) rfl ?_
      refine x_istore_n 3 (ls' := [(2, 0), (0, a1), (0, a2), (0, 0)]) dX1_doContents_134 rfl rfl rfl rfl ?_
      exact x_fg (fgk (fgk (fgd (fgk (fg0))))) h
  · refine x_iload_n 2 dX1_doContents_51 rfl rfl rfl ?_
    refine x_if_eq (t := 115) 63 dX1_doContents_52 rfl rfl (b_ite h (fun hc h => ?_) (fun hc h => ?_))
    · refine x_iload_n 2 dX1_doContents_115 rfl rfl rfl ?_
      refine x_if_ne (t := 156) 40 dX1_doContents_116 rfl rfl (b_ite h (fun hc h => ?_) (fun hc h => ?_))
      · refine x_iload_n 1 dX1_doContents_156 rfl rfl rfl ?_
        exact y_iret dX1_doContents_157 rfl h
      · refine x_aload_n 0 dX1_doContents_119 rfl rfl rfl rfl rfl ?_
        refine y_getF 121 15 (c := 0) (z := 70) dX1_doContents_120 i0 rfl in_X1 q1582 rfl rfl rfl fn_0_15 (Nat.le_trans (Nat.le_of_ble_eq_true rfl) hn) rfl ?_
        refine y_Vv 361 (M := mX17_load) (As := []) (st := []) dX1_doContents_123 i70 rfl q3024 q3025 q3026 q384 q3027 rfl hmX17_load rfl rfl rfl rfl rfl rfl rfl (k_mono h (fun r5 w6 h => ?_))
        refine x_aload_n 0 dX1_doContents_126 rfl rfl rfl rfl rfl ?_
        refine y_getF 146 18 (c := 0) (z := 102) dX1_doContents_127 i0 rfl in_X1 q1585 rfl rfl rfl fn_0_18 (Nat.le_trans (Nat.le_of_ble_eq_true rfl) hn) rfl ?_
        refine y_Vv 212 (M := mX22_drop) (As := []) (st := []) dX1_doContents_130 i102 rfl q2310 q2311 q2312 q389 q2313 rfl hmX22_drop rfl rfl rfl rfl rfl rfl rfl (k_mono h (fun r7 w8 h => ?_))
        refine x_iconst 0 (z := 0) dX1_doContents_133 rfl (by decide) rfl ?_
        refine x_istore_n 3 (ls' := [(2, 0), (0, a1), (0, a2), (0, 0)]) dX1_doContents_134 rfl rfl rfl rfl ?_
        exact x_fg (fgk (fgk (fgd (fgk (fg0))))) h
    · refine x_aload_n 0 dX1_doContents_55 rfl rfl rfl rfl rfl ?_
      refine y_getF 146 18 (c := 0) (z := 102) dX1_doContents_56 i0 rfl in_X1 q1585 rfl rfl rfl fn_0_18 (Nat.le_trans (Nat.le_of_ble_eq_true rfl) hn) rfl ?_
      refine x_aload_n 0 dX1_doContents_59 rfl rfl rfl rfl rfl ?_
      refine y_get 287 22 (c := 0) (z := w 0 22) dX1_doContents_60 i0 rfl in_X1 q1589 rfl rfl rfl rfl rfl ?_
      refine x_aload_n 0 dX1_doContents_63 rfl rfl rfl rfl rfl ?_
      refine y_getF 156 27 (c := 0) (z := 108) dX1_doContents_64 i0 rfl in_X1 q1594 rfl rfl rfl fn_0_27 (Nat.le_trans (Nat.le_of_ble_eq_true rfl) hn) rfl ?_
      refine x_iload_n 1 dX1_doContents_67 rfl rfl rfl ?_
      obtain ⟨e9, h⟩ := h
      refine y_aaldC dX1_doContents_68 (Nat.le_trans (Nat.le_of_ble_eq_true rfl) hn) e9 rfl (fun e10 => ?_)
      refine x_aload_n 0 dX1_doContents_69 rfl rfl rfl rfl rfl ?_
      refine y_getF 160 29 (c := 0) (z := 109) dX1_doContents_70 i0 rfl in_X1 q1596 rfl rfl rfl fn_0_29 (Nat.le_trans (Nat.le_of_ble_eq_true rfl) hn) rfl ?_
      refine x_aload_n 0 dX1_doContents_73 rfl rfl rfl rfl rfl ?_
      refine y_getF 165 31 (c := 0) (z := 110) dX1_doContents_74 i0 rfl in_X1 q1598 rfl rfl rfl fn_0_31 (Nat.le_trans (Nat.le_of_ble_eq_true rfl) hn) rfl ?_
      refine x_iload_n 1 dX1_doContents_77 rfl rfl rfl ?_
      obtain ⟨e11, h⟩ := h
      refine y_aaldR dX1_doContents_78 (Nat.le_trans (Nat.le_of_ble_eq_true rfl) hn) e11 rfl (fun e12 => ?_)
      refine y_VHv 354 (M := mX22_run) (As := [(0, w 0 22), (2, 111 + 2 * a1), (2, 109), (2, 112 + 2 * a1)]) (st := []) dX1_doContents_79 i102 rfl q2482 q2483 q2484 q389 q2485 rfl hmX22_run rfl rfl rfl rfl rfl rfl rfl (k_mono h (fun r13 w14 h => ?_))
      refine x_aload_n 0 dX1_doContents_82 rfl rfl rfl rfl rfl ?_
      refine y_getF 165 31 (c := 0) (z := 110) dX1_doContents_83 i0 rfl in_X1 q1598 rfl rfl rfl fn_0_31 (Nat.le_trans (Nat.le_of_ble_eq_true rfl) hn) rfl ?_
      refine x_iload_n 1 dX1_doContents_86 rfl rfl rfl ?_
      obtain ⟨e15, h⟩ := h
      refine y_aaldR dX1_doContents_87 (Nat.le_trans (Nat.le_of_ble_eq_true rfl) hn) e15 rfl (fun e16 => ?_)
      refine y_get 358 0 (c := 22) (z := w14 (112 + 2 * a1) 0) dX1_doContents_88 e16 rfl in_X24 q1538 rfl rfl rfl rfl rfl ?_
      refine x_if_ne (t := 98) 7 dX1_doContents_91 rfl rfl (b_ite h (fun hc h => ?_) (fun hc h => ?_))
      · refine x_iconst 0 (z := 0) dX1_doContents_98 rfl (by decide) rfl ?_
        refine x_istore_n 2 (ls' := [(2, 0), (0, a1), (0, 0), (9, 0)]) dX1_doContents_99 rfl rfl rfl rfl ?_
        refine x_iload_n 1 dX1_doContents_100 rfl rfl rfl ?_
        refine x_iload_n 2 dX1_doContents_101 rfl rfl rfl ?_
        refine x_if_eq (t := 109) 7 dX1_doContents_102 rfl rfl (b_ifT (by decide) ?_)
        refine x_iconst 0 (z := 0) dX1_doContents_109 rfl (by decide) rfl ?_
        refine x_iadd dX1_doContents_110 rfl ?_
        refine x_istore_n 1 (ls' := [(2, 0), (0, b_i (a1 + 0)), (0, 0), (9, 0)]) dX1_doContents_111 rfl rfl rfl rfl ?_
        refine x_goto (-69) (q := 43) dX1_doContents_112 rfl ?_
        exact x_fg (fgk (fgk (fgk (fgk (fg0))))) h
      · refine x_iconst 1 (z := 1) dX1_doContents_94 rfl (by decide) rfl ?_
        refine x_goto 4 (q := 99) dX1_doContents_95 rfl ?_
        refine x_istore_n 2 (ls' := [(2, 0), (0, a1), (0, 1), (9, 0)]) dX1_doContents_99 rfl rfl rfl rfl ?_
        refine x_iload_n 1 dX1_doContents_100 rfl rfl rfl ?_
        refine x_iload_n 2 dX1_doContents_101 rfl rfl rfl ?_
        refine x_if_eq (t := 109) 7 dX1_doContents_102 rfl rfl (b_ifF (by decide) ?_)
        refine x_iconst 1 (z := 1) dX1_doContents_105 rfl (by decide) rfl ?_
        refine x_goto 4 (q := 110) dX1_doContents_106 rfl ?_
        refine x_iadd dX1_doContents_110 rfl ?_
        refine x_istore_n 1 (ls' := [(2, 0), (0, b_i (a1 + 1)), (0, 1), (9, 0)]) dX1_doContents_111 rfl rfl rfl rfl ?_
        refine x_goto (-69) (q := 43) dX1_doContents_112 rfl ?_
        exact x_fg (fgk (fgk (fgk (fgk (fg0))))) h
theorem sX1_doContents_135 {d n : Nat} {w : bW} {Q : Int → bW → Prop} {X : String → bW → Prop} (hn : 143 ≤ n) (a1 : Int) (a3 : Int) (h : if a1 ≤ a3 then (Q a1 w) else ((0 ≤ a3 ∧ a3 < 16) ∧ (LX1_doContents_135 d n Q X a1 (b_i (a3 + 1)) (b_up w (112 + 2 * a3) 0 2)))) : LX1_doContents_135 d n Q X a1 a3 w := by
  have i0 := iz0 (Nat.le_trans (Nat.le_of_ble_eq_true rfl) hn)
  have i110 := iz110 (Nat.le_trans (Nat.le_of_ble_eq_true rfl) hn)
  refine x_iload_n 3 dX1_doContents_135 rfl rfl rfl ?_
  refine x_iload_n 1 dX1_doContents_136 rfl rfl rfl ?_
  refine x_icmp_ge (t := 156) 19 dX1_doContents_137 rfl rfl (b_ite h (fun hc h => ?_) (fun hc h => ?_))
  · refine x_iload_n 1 dX1_doContents_156 rfl rfl rfl ?_
    exact y_iret dX1_doContents_157 rfl h
  · refine x_aload_n 0 dX1_doContents_140 rfl rfl rfl rfl rfl ?_
    refine y_getF 165 31 (c := 0) (z := 110) dX1_doContents_141 i0 rfl in_X1 q1598 rfl rfl rfl fn_0_31 (Nat.le_trans (Nat.le_of_ble_eq_true rfl) hn) rfl ?_
    refine x_iload_n 3 dX1_doContents_144 rfl rfl rfl ?_
    obtain ⟨e1, h⟩ := h
    refine y_aaldR dX1_doContents_145 (Nat.le_trans (Nat.le_of_ble_eq_true rfl) hn) e1 rfl (fun e2 => ?_)
    refine x_iconst 2 (z := 2) dX1_doContents_146 rfl (by decide) rfl ?_
    refine x_put 358 0 (c := 22) dX1_doContents_147 e2 rfl in_X24 tyX24_ok nmX24 q1538 rfl rfl rfl (Or.inl rfl) (Or.inl ⟨rfl, rfl⟩) rfl ?_
    refine x_iinc 3 1 (ls' := [(2, 0), (0, a1), (9, 0), (0, b_i (a3 + 1))]) dX1_doContents_150 rfl rfl rfl rfl ?_
    refine x_goto (-18) (q := 135) dX1_doContents_153 rfl ?_
    exact x_fg (fgk (fgk (fgk (fgk (fg0))))) h
theorem rX1_receipt {d n : Nat} {w : bW} {Q : Int → bW → Prop} {X : String → bW → Prop} (hn : 143 ≤ n) (a1 : Int) (a2 : Int) (h : if a1 < 0 then (Q (-1) w) else (if a1 < w 0 32 then ((0 ≤ a1 ∧ a1 < 16) ∧ (if a2 = 0 then (Q (w (112 + 2 * a1) 0) w) else (if a2 = 1 then (Q (w (112 + 2 * a1) 1) w) else (if a2 = 2 then (Q (w (112 + 2 * a1) 2) w) else (if a2 = 3 then (Q (w (112 + 2 * a1) 3) w) else (if a2 = 4 then (Q (w (112 + 2 * a1) 4) w) else (if a2 = 5 then (Q (w (112 + 2 * a1) 5) w) else ((Q (-1) w))))))))) else (Q (-1) w))) : b_K (d + 1) mX1_receipt [(2, 0), (0, a1), (0, a2)] n w Q X := by
  have i0 := iz0 (Nat.le_trans (Nat.le_of_ble_eq_true rfl) hn)
  have i110 := iz110 (Nat.le_trans (Nat.le_of_ble_eq_true rfl) hn)
  refine k_of (by decide) rfl rfl rfl (ls := [(2, 0), (0, a1), (0, a2), (9, 0)]) rfl ?_
  refine x_iload_n 1 dX1_receipt_0 rfl rfl rfl ?_
  refine x_if_lt (t := 12) 11 dX1_receipt_1 rfl rfl (b_ite h (fun hc h => ?_) (fun hc h => ?_))
  · refine x_iconst (-1) (z := (-1)) dX1_receipt_12 rfl (by decide) rfl ?_
    exact y_iret dX1_receipt_13 rfl h
  · refine x_iload_n 1 dX1_receipt_4 rfl rfl rfl ?_
    refine x_aload_n 0 dX1_receipt_5 rfl rfl rfl rfl rfl ?_
    refine y_get 341 32 (c := 0) (z := w 0 32) dX1_receipt_6 i0 rfl in_X1 q1599 rfl rfl rfl rfl rfl ?_
    refine x_icmp_lt (t := 14) 5 dX1_receipt_9 rfl rfl (b_ite h (fun hc h => ?_) (fun hc h => ?_))
    · refine x_aload_n 0 dX1_receipt_14 rfl rfl rfl rfl rfl ?_
      refine y_getF 165 31 (c := 0) (z := 110) dX1_receipt_15 i0 rfl in_X1 q1598 rfl rfl rfl fn_0_31 (Nat.le_trans (Nat.le_of_ble_eq_true rfl) hn) rfl ?_
      refine x_iload_n 1 dX1_receipt_18 rfl rfl rfl ?_
      obtain ⟨e1, h⟩ := h
      refine y_aaldR dX1_receipt_19 (Nat.le_trans (Nat.le_of_ble_eq_true rfl) hn) e1 rfl (fun e2 => ?_)
      refine x_astore_n 3 (ls' := [(2, 0), (0, a1), (0, a2), (2, 112 + 2 * a1)]) dX1_receipt_20 rfl rfl rfl rfl rfl ?_
      refine x_iload_n 2 dX1_receipt_21 rfl rfl rfl ?_
      refine b_itc h (fun hc h => ?_) (fun hn0 h => ?_)
      · have key : b_Y (d + 1) mX1_receipt n Q X 60 [(2, 0), (0, a1), (0, a2), (2, 112 + 2 * a1)] [] w := by
          refine x_aload_n 3 dX1_receipt_60 rfl rfl rfl rfl rfl ?_
          refine y_get 358 0 (c := 22) (z := w (112 + 2 * a1) 0) dX1_receipt_61 e2 rfl in_X24 q1538 rfl rfl rfl rfl rfl ?_
          exact y_iret dX1_receipt_64 rfl h
        have e := hc
        exact x_tsI (off := 38) (t := 60) dX1_receipt_22 (by rw [e]; decide) (by rw [e]; decide) (by rw [e]; rfl) rfl key
      · refine b_itc h (fun hc h => ?_) (fun hn1 h => ?_)
        · have key : b_Y (d + 1) mX1_receipt n Q X 65 [(2, 0), (0, a1), (0, a2), (2, 112 + 2 * a1)] [] w := by
            refine x_aload_n 3 dX1_receipt_65 rfl rfl rfl rfl rfl ?_
            refine y_get 364 1 (c := 22) (z := w (112 + 2 * a1) 1) dX1_receipt_66 e2 rfl in_X24 q1541 rfl rfl rfl rfl rfl ?_
            exact y_iret dX1_receipt_69 rfl h
          have e := hc
          exact x_tsI (off := 43) (t := 65) dX1_receipt_22 (by rw [e]; decide) (by rw [e]; decide) (by rw [e]; rfl) rfl key
        · refine b_itc h (fun hc h => ?_) (fun hn2 h => ?_)
          · have key : b_Y (d + 1) mX1_receipt n Q X 70 [(2, 0), (0, a1), (0, a2), (2, 112 + 2 * a1)] [] w := by
              refine x_aload_n 3 dX1_receipt_70 rfl rfl rfl rfl rfl ?_
              refine y_get 367 2 (c := 22) (z := w (112 + 2 * a1) 2) dX1_receipt_71 e2 rfl in_X24 q1544 rfl rfl rfl rfl rfl ?_
              exact y_iret dX1_receipt_74 rfl h
            have e := hc
            exact x_tsI (off := 48) (t := 70) dX1_receipt_22 (by rw [e]; decide) (by rw [e]; decide) (by rw [e]; rfl) rfl key
          · refine b_itc h (fun hc h => ?_) (fun hn3 h => ?_)
            · have key : b_Y (d + 1) mX1_receipt n Q X 75 [(2, 0), (0, a1), (0, a2), (2, 112 + 2 * a1)] [] w := by
                refine x_aload_n 3 dX1_receipt_75 rfl rfl rfl rfl rfl ?_
                refine y_get 368 3 (c := 22) (z := w (112 + 2 * a1) 3) dX1_receipt_76 e2 rfl in_X24 q1547 rfl rfl rfl rfl rfl ?_
                exact y_iret dX1_receipt_79 rfl h
              have e := hc
              exact x_tsI (off := 53) (t := 75) dX1_receipt_22 (by rw [e]; decide) (by rw [e]; decide) (by rw [e]; rfl) rfl key
            · refine b_itc h (fun hc h => ?_) (fun hn4 h => ?_)
              · have key : b_Y (d + 1) mX1_receipt n Q X 80 [(2, 0), (0, a1), (0, a2), (2, 112 + 2 * a1)] [] w := by
                  refine x_aload_n 3 dX1_receipt_80 rfl rfl rfl rfl rfl ?_
                  refine y_get 371 4 (c := 22) (z := w (112 + 2 * a1) 4) dX1_receipt_81 e2 rfl in_X24 q1550 rfl rfl rfl rfl rfl ?_
                  exact y_iret dX1_receipt_84 rfl h
                have e := hc
                exact x_tsI (off := 58) (t := 80) dX1_receipt_22 (by rw [e]; decide) (by rw [e]; decide) (by rw [e]; rfl) rfl key
              · refine b_itc h (fun hc h => ?_) (fun hn5 h => ?_)
                · have key : b_Y (d + 1) mX1_receipt n Q X 85 [(2, 0), (0, a1), (0, a2), (2, 112 + 2 * a1)] [] w := by
                    refine x_aload_n 3 dX1_receipt_85 rfl rfl rfl rfl rfl ?_
                    refine y_get 372 5 (c := 22) (z := w (112 + 2 * a1) 5) dX1_receipt_86 e2 rfl in_X24 q1553 rfl rfl rfl rfl rfl ?_
                    exact y_iret dX1_receipt_89 rfl h
                  have e := hc
                  exact x_tsI (off := 63) (t := 85) dX1_receipt_22 (by rw [e]; decide) (by rw [e]; decide) (by rw [e]; rfl) rfl key
                · have key : b_Y (d + 1) mX1_receipt n Q X 90 [(2, 0), (0, a1), (0, a2), (2, 112 + 2 * a1)] [] w := by
                    refine x_iconst (-1) (z := (-1)) dX1_receipt_90 rfl (by decide) rfl ?_
                    exact y_iret dX1_receipt_91 rfl h
                  exact x_tsO (t := 90) dX1_receipt_22 (by omega) rfl key
    · refine x_iconst (-1) (z := (-1)) dX1_receipt_12 rfl (by decide) rfl ?_
      exact y_iret dX1_receipt_13 rfl h
theorem rX1_accounts {d n : Nat} {w : bW} {Q : Int → bW → Prop} {X : String → bW → Prop} (hn : 143 ≤ n) (h : Q (w 70 6) w) : b_K (d + 1) mX1_accounts [(2, 0)] n w Q X := by
  have i0 := iz0 (Nat.le_trans (Nat.le_of_ble_eq_true rfl) hn)
  have i70 := iz70 (Nat.le_trans (Nat.le_of_ble_eq_true rfl) hn)
  refine k_of (by decide) rfl rfl rfl (ls := [(2, 0)]) rfl ?_
  refine x_aload_n 0 dX1_accounts_0 rfl rfl rfl rfl rfl ?_
  refine y_getF 121 15 (c := 0) (z := 70) dX1_accounts_1 i0 rfl in_X1 q1582 rfl rfl rfl fn_0_15 (Nat.le_trans (Nat.le_of_ble_eq_true rfl) hn) rfl ?_
  refine y_get 252 6 (c := 16) (z := w 70 6) dX1_accounts_4 i70 rfl in_X17 q1178 rfl rfl rfl rfl rfl ?_
  exact y_iret dX1_accounts_7 rfl h
theorem rX1_contracts {d n : Nat} {w : bW} {Q : Int → bW → Prop} {X : String → bW → Prop} (hn : 143 ≤ n) (h : Q (w 70 7) w) : b_K (d + 1) mX1_contracts [(2, 0)] n w Q X := by
  have i0 := iz0 (Nat.le_trans (Nat.le_of_ble_eq_true rfl) hn)
  have i70 := iz70 (Nat.le_trans (Nat.le_of_ble_eq_true rfl) hn)
  refine k_of (by decide) rfl rfl rfl (ls := [(2, 0)]) rfl ?_
  refine x_aload_n 0 dX1_contracts_0 rfl rfl rfl rfl rfl ?_
  refine y_getF 121 15 (c := 0) (z := 70) dX1_contracts_1 i0 rfl in_X1 q1582 rfl rfl rfl fn_0_15 (Nat.le_trans (Nat.le_of_ble_eq_true rfl) hn) rfl ?_
  refine y_get 375 7 (c := 16) (z := w 70 7) dX1_contracts_4 i70 rfl in_X17 q1181 rfl rfl rfl rfl rfl ?_
  exact y_iret dX1_contracts_7 rfl h
theorem rX1_balance {d n : Nat} {w : bW} {Q : Int → bW → Prop} {X : String → bW → Prop} (hn : 143 ≤ n) (a1 : Int) (a2 : Int) (h : if a1 = 0 then (b_K d mX1_isAccount [(2, 0), (0, a2)] n w (fun r1 w2 => if r1 = 0 then (Q (-1) w2) else (if 0 ≤ a2 then ((0 ≤ a2 ∧ a2 < 200) ∧ (Q (w2 71 a2) w2)) else (Q (-1) w2))) X) else (b_K d mX1_contractAt [(2, 0), (0, a2)] n w (fun r4 w5 => if 0 ≤ r4 then ((0 ≤ r4 ∧ r4 < 200) ∧ (Q (w5 71 r4) w5)) else (Q (-1) w5)) X)) : b_K (d + 1) mX1_balance [(2, 0), (0, a1), (0, a2)] n w Q X := by
  have i0 := iz0 (Nat.le_trans (Nat.le_of_ble_eq_true rfl) hn)
  have i70 := iz70 (Nat.le_trans (Nat.le_of_ble_eq_true rfl) hn)
  have i71 := iz71 (Nat.le_trans (Nat.le_of_ble_eq_true rfl) hn)
  refine k_of (by decide) rfl rfl rfl (ls := [(2, 0), (0, a1), (0, a2), (9, 0)]) rfl ?_
  refine x_iload_n 1 dX1_balance_0 rfl rfl rfl ?_
  refine x_if_eq (t := 12) 11 dX1_balance_1 rfl rfl (b_ite h (fun hc h => ?_) (fun hc h => ?_))
  · refine x_aload_n 0 dX1_balance_12 rfl rfl rfl rfl rfl ?_
    refine x_iload_n 2 dX1_balance_13 rfl rfl rfl ?_
    refine y_Vi 280 (M := mX1_isAccount) (As := [(0, a2)]) (st := []) dX1_balance_14 i0 rfl q2450 q2452 qs97 q358 q2453 rfl hmX1_isAccount rfl rfl rfl rfl rfl rfl rfl rfl (k_mono h (fun r1 w2 h => ?_))
    refine x_if_eq (t := 24) 7 dX1_balance_17 rfl rfl (b_ite h (fun hc h => ?_) (fun hc h => ?_))
    · refine x_iconst (-1) (z := (-1)) dX1_balance_24 rfl (by decide) rfl ?_
      refine x_istore_n 3 (ls' := [(2, 0), (0, a1), (0, a2), (0, (-1))]) dX1_balance_25 rfl rfl rfl rfl ?_
      refine x_iload_n 3 dX1_balance_26 rfl rfl rfl ?_
      refine x_if_ge (t := 36) 9 dX1_balance_27 rfl rfl (b_ifF (by decide) ?_)
      refine x_ldc2 381 (x := (-1)) dX1_balance_30 q3048 rfl (by decide) rfl ?_
      refine x_goto 12 (q := 45) dX1_balance_33 rfl ?_
      exact y_lret dX1_balance_45 rfl h
    · refine x_iload_n 2 dX1_balance_20 rfl rfl rfl ?_
      refine x_goto 4 (q := 25) dX1_balance_21 rfl ?_
      refine x_istore_n 3 (ls' := [(2, 0), (0, a1), (0, a2), (0, a2)]) dX1_balance_25 rfl rfl rfl rfl ?_
      refine x_iload_n 3 dX1_balance_26 rfl rfl rfl ?_
      refine x_if_ge (t := 36) 9 dX1_balance_27 rfl rfl (b_ite h (fun hc h => ?_) (fun hc h => ?_))
      · refine x_aload_n 0 dX1_balance_36 rfl rfl rfl rfl rfl ?_
        refine y_getF 121 15 (c := 0) (z := 70) dX1_balance_37 i0 rfl in_X1 q1582 rfl rfl rfl fn_0_15 (Nat.le_trans (Nat.le_of_ble_eq_true rfl) hn) rfl ?_
        refine y_getF 265 0 (c := 16) (z := 71) dX1_balance_40 i70 rfl in_X17 q1161 rfl rfl rfl fn_70_0 (Nat.le_trans (Nat.le_of_ble_eq_true rfl) hn) rfl ?_
        refine x_iload_n 3 dX1_balance_43 rfl rfl rfl ?_
        obtain ⟨e3, h⟩ := h
        refine y_lald (z := w2 71 a2) dX1_balance_44 ⟨200, i71, e3⟩ rfl rfl ?_
        exact y_lret dX1_balance_45 rfl h
      · refine x_ldc2 381 (x := (-1)) dX1_balance_30 q3048 rfl (by decide) rfl ?_
        refine x_goto 12 (q := 45) dX1_balance_33 rfl ?_
        exact y_lret dX1_balance_45 rfl h
  · refine x_aload_n 0 dX1_balance_4 rfl rfl rfl rfl rfl ?_
    refine x_iload_n 2 dX1_balance_5 rfl rfl rfl ?_
    refine y_Vi 378 (M := mX1_contractAt) (As := [(0, a2)]) (st := []) dX1_balance_6 i0 rfl q3044 q3046 qs173 q358 q3047 rfl hmX1_contractAt rfl rfl rfl rfl rfl rfl rfl rfl (k_mono h (fun r4 w5 h => ?_))
    refine x_goto 16 (q := 25) dX1_balance_9 rfl ?_
    refine x_istore_n 3 (ls' := [(2, 0), (0, a1), (0, a2), (0, r4)]) dX1_balance_25 rfl rfl rfl rfl ?_
    refine x_iload_n 3 dX1_balance_26 rfl rfl rfl ?_
    refine x_if_ge (t := 36) 9 dX1_balance_27 rfl rfl (b_ite h (fun hc h => ?_) (fun hc h => ?_))
    · refine x_aload_n 0 dX1_balance_36 rfl rfl rfl rfl rfl ?_
      refine y_getF 121 15 (c := 0) (z := 70) dX1_balance_37 i0 rfl in_X1 q1582 rfl rfl rfl fn_0_15 (Nat.le_trans (Nat.le_of_ble_eq_true rfl) hn) rfl ?_
      refine y_getF 265 0 (c := 16) (z := 71) dX1_balance_40 i70 rfl in_X17 q1161 rfl rfl rfl fn_70_0 (Nat.le_trans (Nat.le_of_ble_eq_true rfl) hn) rfl ?_
      refine x_iload_n 3 dX1_balance_43 rfl rfl rfl ?_
      obtain ⟨e6, h⟩ := h
      refine y_lald (z := w5 71 r4) dX1_balance_44 ⟨200, i71, e6⟩ rfl rfl ?_
      exact y_lret dX1_balance_45 rfl h
    · refine x_ldc2 381 (x := (-1)) dX1_balance_30 q3048 rfl (by decide) rfl ?_
      refine x_goto 12 (q := 45) dX1_balance_33 rfl ?_
      exact y_lret dX1_balance_45 rfl h
theorem rX1_contractAt {d n : Nat} {w : bW} {Q : Int → bW → Prop} {X : String → bW → Prop} (hn : 143 ≤ n) (a1 : Int) (h : if a1 < 0 then (Q (-1) w) else (if 100 ≤ a1 then (Q (-1) w) else ((0 ≤ b_i (100 + a1) ∧ b_i (100 + a1) < 200) ∧ (if w 72 (b_i (100 + a1)) = 0 then (Q (-1) w) else (Q (b_i (100 + a1)) w))))) : b_K (d + 1) mX1_contractAt [(2, 0), (0, a1)] n w Q X := by
  have i0 := iz0 (Nat.le_trans (Nat.le_of_ble_eq_true rfl) hn)
  have i70 := iz70 (Nat.le_trans (Nat.le_of_ble_eq_true rfl) hn)
  have i72 := iz72 (Nat.le_trans (Nat.le_of_ble_eq_true rfl) hn)
  refine k_of (by decide) rfl rfl rfl (ls := [(2, 0), (0, a1)]) rfl ?_
  refine x_iload_n 1 dX1_contractAt_0 rfl rfl rfl ?_
  refine x_if_lt (t := 32) 31 dX1_contractAt_1 rfl rfl (b_ite h (fun hc h => ?_) (fun hc h => ?_))
  · refine x_iconst (-1) (z := (-1)) dX1_contractAt_32 rfl (by decide) rfl ?_
    exact y_iret dX1_contractAt_33 rfl h
  · refine x_iload_n 1 dX1_contractAt_4 rfl rfl rfl ?_
    refine x_bipush 100 (z := 100) dX1_contractAt_5 rfl (by decide) rfl ?_
    refine x_icmp_ge (t := 32) 25 dX1_contractAt_7 rfl rfl (b_ite h (fun hc h => ?_) (fun hc h => ?_))
    · refine x_iconst (-1) (z := (-1)) dX1_contractAt_32 rfl (by decide) rfl ?_
      exact y_iret dX1_contractAt_33 rfl h
    · refine x_aload_n 0 dX1_contractAt_10 rfl rfl rfl rfl rfl ?_
      refine y_getF 121 15 (c := 0) (z := 70) dX1_contractAt_11 i0 rfl in_X1 q1582 rfl rfl rfl fn_0_15 (Nat.le_trans (Nat.le_of_ble_eq_true rfl) hn) rfl ?_
      refine y_getF 261 1 (c := 16) (z := 72) dX1_contractAt_14 i70 rfl in_X17 q1164 rfl rfl rfl fn_70_1 (Nat.le_trans (Nat.le_of_ble_eq_true rfl) hn) rfl ?_
      refine x_bipush 100 (z := 100) dX1_contractAt_17 rfl (by decide) rfl ?_
      refine x_iload_n 1 dX1_contractAt_19 rfl rfl rfl ?_
      refine x_iadd dX1_contractAt_20 rfl ?_
      obtain ⟨e1, h⟩ := h
      refine y_zald (z := w 72 (b_i (100 + a1))) dX1_contractAt_21 ⟨200, i72, e1⟩ rfl rfl ?_
      refine x_if_eq (t := 32) 10 dX1_contractAt_22 rfl rfl (b_ite h (fun hc h => ?_) (fun hc h => ?_))
      · refine x_iconst (-1) (z := (-1)) dX1_contractAt_32 rfl (by decide) rfl ?_
        exact y_iret dX1_contractAt_33 rfl h
      · refine x_bipush 100 (z := 100) dX1_contractAt_25 rfl (by decide) rfl ?_
        refine x_iload_n 1 dX1_contractAt_27 rfl rfl rfl ?_
        refine x_iadd dX1_contractAt_28 rfl ?_
        refine x_goto 4 (q := 33) dX1_contractAt_29 rfl ?_
        exact y_iret dX1_contractAt_33 rfl h
theorem rX1_counter {d n : Nat} {w : bW} {Q : Int → bW → Prop} {X : String → bW → Prop} (hn : 143 ≤ n) (a1 : Int) (h : b_K d mX1_isAccount [(2, 0), (0, a1)] n w (fun r1 w2 => if r1 = 0 then (Q (-1) w2) else ((0 ≤ a1 ∧ a1 < 100) ∧ (Q (w2 76 a1) w2))) X) : b_K (d + 1) mX1_counter [(2, 0), (0, a1)] n w Q X := by
  have i0 := iz0 (Nat.le_trans (Nat.le_of_ble_eq_true rfl) hn)
  have i70 := iz70 (Nat.le_trans (Nat.le_of_ble_eq_true rfl) hn)
  have i76 := iz76 (Nat.le_trans (Nat.le_of_ble_eq_true rfl) hn)
  refine k_of (by decide) rfl rfl rfl (ls := [(2, 0), (0, a1)]) rfl ?_
  refine x_aload_n 0 dX1_counter_0 rfl rfl rfl rfl rfl ?_
  refine x_iload_n 1 dX1_counter_1 rfl rfl rfl ?_
  refine y_Vi 280 (M := mX1_isAccount) (As := [(0, a1)]) (st := []) dX1_counter_2 i0 rfl q2450 q2452 qs97 q358 q2453 rfl hmX1_isAccount rfl rfl rfl rfl rfl rfl rfl rfl (k_mono h (fun r1 w2 h => ?_))
  refine x_if_eq (t := 20) 15 dX1_counter_5 rfl rfl (b_ite h (fun hc h => ?_) (fun hc h => ?_))
  · refine x_iconst (-1) (z := (-1)) dX1_counter_20 rfl (by decide) rfl ?_
    exact y_iret dX1_counter_21 rfl h
  · refine x_aload_n 0 dX1_counter_8 rfl rfl rfl rfl rfl ?_
    refine y_getF 121 15 (c := 0) (z := 70) dX1_counter_9 i0 rfl in_X1 q1582 rfl rfl rfl fn_0_15 (Nat.le_trans (Nat.le_of_ble_eq_true rfl) hn) rfl ?_
    refine y_getF 335 5 (c := 16) (z := 76) dX1_counter_12 i70 rfl in_X17 q1177 rfl rfl rfl fn_70_5 (Nat.le_trans (Nat.le_of_ble_eq_true rfl) hn) rfl ?_
    refine x_iload_n 1 dX1_counter_15 rfl rfl rfl ?_
    obtain ⟨e3, h⟩ := h
    refine y_iald (z := w2 76 a1) dX1_counter_16 ⟨100, i76, e3⟩ rfl rfl ?_
    refine x_goto 4 (q := 21) dX1_counter_17 rfl ?_
    exact y_iret dX1_counter_21 rfl h
theorem rX1_paid {d n : Nat} {w : bW} {Q : Int → bW → Prop} {X : String → bW → Prop} (hn : 143 ≤ n) (a1 : Int) (h : b_K d mX1_contractAt [(2, 0), (0, a1)] n w (fun r1 w2 => if 0 ≤ r1 then ((0 ≤ r1 ∧ r1 < 200) ∧ (Q (w2 75 r1) w2)) else (Q (-1) w2)) X) : b_K (d + 1) mX1_paid [(2, 0), (0, a1)] n w Q X := by
  have i0 := iz0 (Nat.le_trans (Nat.le_of_ble_eq_true rfl) hn)
  have i70 := iz70 (Nat.le_trans (Nat.le_of_ble_eq_true rfl) hn)
  have i75 := iz75 (Nat.le_trans (Nat.le_of_ble_eq_true rfl) hn)
  refine k_of (by decide) rfl rfl rfl (ls := [(2, 0), (0, a1), (9, 0)]) rfl ?_
  refine x_aload_n 0 dX1_paid_0 rfl rfl rfl rfl rfl ?_
  refine x_iload_n 1 dX1_paid_1 rfl rfl rfl ?_
  refine y_Vi 378 (M := mX1_contractAt) (As := [(0, a1)]) (st := []) dX1_paid_2 i0 rfl q3044 q3046 qs173 q358 q3047 rfl hmX1_contractAt rfl rfl rfl rfl rfl rfl rfl rfl (k_mono h (fun r1 w2 h => ?_))
  refine x_istore_n 2 (ls' := [(2, 0), (0, a1), (0, r1)]) dX1_paid_5 rfl rfl rfl rfl ?_
  refine x_iload_n 2 dX1_paid_6 rfl rfl rfl ?_
  refine x_if_ge (t := 14) 7 dX1_paid_7 rfl rfl (b_ite h (fun hc h => ?_) (fun hc h => ?_))
  · refine x_aload_n 0 dX1_paid_14 rfl rfl rfl rfl rfl ?_
    refine y_getF 121 15 (c := 0) (z := 70) dX1_paid_15 i0 rfl in_X1 q1582 rfl rfl rfl fn_0_15 (Nat.le_trans (Nat.le_of_ble_eq_true rfl) hn) rfl ?_
    refine y_getF 383 4 (c := 16) (z := 75) dX1_paid_18 i70 rfl in_X17 q1175 rfl rfl rfl fn_70_4 (Nat.le_trans (Nat.le_of_ble_eq_true rfl) hn) rfl ?_
    refine x_iload_n 2 dX1_paid_21 rfl rfl rfl ?_
    obtain ⟨e3, h⟩ := h
    refine y_iald (z := w2 75 r1) dX1_paid_22 ⟨200, i75, e3⟩ rfl rfl ?_
    exact y_iret dX1_paid_23 rfl h
  · refine x_iconst (-1) (z := (-1)) dX1_paid_10 rfl (by decide) rfl ?_
    refine x_goto 12 (q := 23) dX1_paid_11 rfl ?_
    exact y_iret dX1_paid_23 rfl h
theorem rX1_money {d n : Nat} {w : bW} {Q : Int → bW → Prop} {X : String → bW → Prop} (hn : 143 ≤ n) (a1 : Int) (h : if a1 ≠ 0 then (if a1 ≠ 1 then (if a1 ≠ 2 then (Q (-1) w) else (Q (w 70 10) w)) else (Q (w 70 9) w)) else (Q (w 70 11) w)) : b_K (d + 1) mX1_money [(2, 0), (0, a1)] n w Q X := by
  have i0 := iz0 (Nat.le_trans (Nat.le_of_ble_eq_true rfl) hn)
  have i70 := iz70 (Nat.le_trans (Nat.le_of_ble_eq_true rfl) hn)
  refine k_of (by decide) rfl rfl rfl (ls := [(2, 0), (0, a1)]) rfl ?_
  refine x_iload_n 1 dX1_money_0 rfl rfl rfl ?_
  refine x_if_ne (t := 14) 13 dX1_money_1 rfl rfl (b_ite h (fun hc h => ?_) (fun hc h => ?_))
  · refine x_iload_n 1 dX1_money_14 rfl rfl rfl ?_
    refine x_iconst 1 (z := 1) dX1_money_15 rfl (by decide) rfl ?_
    refine x_icmp_ne (t := 29) 13 dX1_money_16 rfl rfl (b_ite h (fun hc h => ?_) (fun hc h => ?_))
    · refine x_iload_n 1 dX1_money_29 rfl rfl rfl ?_
      refine x_iconst 2 (z := 2) dX1_money_30 rfl (by decide) rfl ?_
      refine x_icmp_ne (t := 44) 13 dX1_money_31 rfl rfl (b_ite h (fun hc h => ?_) (fun hc h => ?_))
      · refine x_ldc2 381 (x := (-1)) dX1_money_44 q3048 rfl (by decide) rfl ?_
        exact y_lret dX1_money_47 rfl h
      · refine x_aload_n 0 dX1_money_34 rfl rfl rfl rfl rfl ?_
        refine y_getF 121 15 (c := 0) (z := 70) dX1_money_35 i0 rfl in_X1 q1582 rfl rfl rfl fn_0_15 (Nat.le_trans (Nat.le_of_ble_eq_true rfl) hn) rfl ?_
        refine y_get 386 10 (c := 16) (z := w 70 10) dX1_money_38 i70 rfl in_X17 q1189 rfl rfl rfl rfl rfl ?_
        refine x_goto 6 (q := 47) dX1_money_41 rfl ?_
        exact y_lret dX1_money_47 rfl h
    · refine x_aload_n 0 dX1_money_19 rfl rfl rfl rfl rfl ?_
      refine y_getF 121 15 (c := 0) (z := 70) dX1_money_20 i0 rfl in_X1 q1582 rfl rfl rfl fn_0_15 (Nat.le_trans (Nat.le_of_ble_eq_true rfl) hn) rfl ?_
      refine y_get 338 9 (c := 16) (z := w 70 9) dX1_money_23 i70 rfl in_X17 q1186 rfl rfl rfl rfl rfl ?_
      refine x_goto 21 (q := 47) dX1_money_26 rfl ?_
      exact y_lret dX1_money_47 rfl h
  · refine x_aload_n 0 dX1_money_4 rfl rfl rfl rfl rfl ?_
    refine y_getF 121 15 (c := 0) (z := 70) dX1_money_5 i0 rfl in_X1 q1582 rfl rfl rfl fn_0_15 (Nat.le_trans (Nat.le_of_ble_eq_true rfl) hn) rfl ?_
    refine y_get 257 11 (c := 16) (z := w 70 11) dX1_money_8 i70 rfl in_X17 q1190 rfl rfl rfl rfl rfl ?_
    refine x_goto 36 (q := 47) dX1_money_11 rfl ?_
    exact y_lret dX1_money_47 rfl h
theorem rX1_stored {d n : Nat} {w : bW} {Q : Int → bW → Prop} {X : String → bW → Prop} (hn : 143 ≤ n) (h : Q (w 70 8) w) : b_K (d + 1) mX1_stored [(2, 0)] n w Q X := by
  have i0 := iz0 (Nat.le_trans (Nat.le_of_ble_eq_true rfl) hn)
  have i70 := iz70 (Nat.le_trans (Nat.le_of_ble_eq_true rfl) hn)
  refine k_of (by decide) rfl rfl rfl (ls := [(2, 0)]) rfl ?_
  refine x_aload_n 0 dX1_stored_0 rfl rfl rfl rfl rfl ?_
  refine y_getF 121 15 (c := 0) (z := 70) dX1_stored_1 i0 rfl in_X1 q1582 rfl rfl rfl fn_0_15 (Nat.le_trans (Nat.le_of_ble_eq_true rfl) hn) rfl ?_
  refine y_get 389 8 (c := 16) (z := w 70 8) dX1_stored_4 i70 rfl in_X17 q1185 rfl rfl rfl rfl rfl ?_
  exact y_iret dX1_stored_7 rfl h
theorem rX1_storage {d n : Nat} {w : bW} {Q : Int → bW → Prop} {X : String → bW → Prop} (hn : 143 ≤ n) (a1 : Int) (h : b_K d mX1_contractAt [(2, 0), (0, a1)] n w (fun r1 w2 => if 0 ≤ r1 then ((0 ≤ r1 ∧ r1 < 200) ∧ ((0 ≤ r1 ∧ r1 < 200) ∧ ((0 ≤ w2 73 r1 ∧ w2 73 r1 < 2000) ∧ (b_K d mX1_write [(2, 0), (0, w2 74 r1), (0, w2 55 (w2 73 r1))] n w2 (fun r6 w7 => Q (w7 0 20) w7) X)))) else (Q (-1) w2)) X) : b_K (d + 1) mX1_storage [(2, 0), (0, a1)] n w Q X := by
  have i0 := iz0 (Nat.le_trans (Nat.le_of_ble_eq_true rfl) hn)
  have i53 := iz53 (Nat.le_trans (Nat.le_of_ble_eq_true rfl) hn)
  have i55 := iz55 (Nat.le_trans (Nat.le_of_ble_eq_true rfl) hn)
  have i70 := iz70 (Nat.le_trans (Nat.le_of_ble_eq_true rfl) hn)
  have i73 := iz73 (Nat.le_trans (Nat.le_of_ble_eq_true rfl) hn)
  have i74 := iz74 (Nat.le_trans (Nat.le_of_ble_eq_true rfl) hn)
  refine k_of (by decide) rfl rfl rfl (ls := [(2, 0), (0, a1), (9, 0)]) rfl ?_
  refine x_aload_n 0 dX1_storage_0 rfl rfl rfl rfl rfl ?_
  refine x_iload_n 1 dX1_storage_1 rfl rfl rfl ?_
  refine y_Vi 378 (M := mX1_contractAt) (As := [(0, a1)]) (st := []) dX1_storage_2 i0 rfl q3044 q3046 qs173 q358 q3047 rfl hmX1_contractAt rfl rfl rfl rfl rfl rfl rfl rfl (k_mono h (fun r1 w2 h => ?_))
  refine x_istore_n 2 (ls' := [(2, 0), (0, a1), (0, r1)]) dX1_storage_5 rfl rfl rfl rfl ?_
  refine x_iload_n 2 dX1_storage_6 rfl rfl rfl ?_
  refine x_if_ge (t := 12) 5 dX1_storage_7 rfl rfl (b_ite h (fun hc h => ?_) (fun hc h => ?_))
  · refine x_aload_n 0 dX1_storage_12 rfl rfl rfl rfl rfl ?_
    refine x_aload_n 0 dX1_storage_13 rfl rfl rfl rfl rfl ?_
    refine y_getF 121 15 (c := 0) (z := 70) dX1_storage_14 i0 rfl in_X1 q1582 rfl rfl rfl fn_0_15 (Nat.le_trans (Nat.le_of_ble_eq_true rfl) hn) rfl ?_
    refine y_getF 392 3 (c := 16) (z := 74) dX1_storage_17 i70 rfl in_X17 q1172 rfl rfl rfl fn_70_3 (Nat.le_trans (Nat.le_of_ble_eq_true rfl) hn) rfl ?_
    refine x_iload_n 2 dX1_storage_20 rfl rfl rfl ?_
    obtain ⟨e3, h⟩ := h
    refine y_iald (z := w2 74 r1) dX1_storage_21 ⟨200, i74, e3⟩ rfl rfl ?_
    refine x_aload_n 0 dX1_storage_22 rfl rfl rfl rfl rfl ?_
    refine y_getF 105 13 (c := 0) (z := 53) dX1_storage_23 i0 rfl in_X1 q1580 rfl rfl rfl fn_0_13 (Nat.le_trans (Nat.le_of_ble_eq_true rfl) hn) rfl ?_
    refine y_getF 395 1 (c := 14) (z := 55) dX1_storage_26 i53 rfl in_X15 q1025 rfl rfl rfl fn_53_1 (Nat.le_trans (Nat.le_of_ble_eq_true rfl) hn) rfl ?_
    refine x_aload_n 0 dX1_storage_29 rfl rfl rfl rfl rfl ?_
    refine y_getF 121 15 (c := 0) (z := 70) dX1_storage_30 i0 rfl in_X1 q1582 rfl rfl rfl fn_0_15 (Nat.le_trans (Nat.le_of_ble_eq_true rfl) hn) rfl ?_
    refine y_getF 396 2 (c := 16) (z := 73) dX1_storage_33 i70 rfl in_X17 q1168 rfl rfl rfl fn_70_2 (Nat.le_trans (Nat.le_of_ble_eq_true rfl) hn) rfl ?_
    refine x_iload_n 2 dX1_storage_36 rfl rfl rfl ?_
    obtain ⟨e4, h⟩ := h
    refine y_iald (z := w2 73 r1) dX1_storage_37 ⟨200, i73, e4⟩ rfl rfl ?_
    obtain ⟨e5, h⟩ := h
    refine y_iald (z := w2 55 (w2 73 r1)) dX1_storage_38 ⟨2000, i55, e5⟩ rfl rfl ?_
    refine y_Vv 241 (M := mX1_write) (As := [(0, w2 74 r1), (0, w2 55 (w2 73 r1))]) (st := []) dX1_storage_39 i0 rfl q2378 q2380 qs86 q358 q2381 rfl hmX1_write rfl rfl rfl rfl rfl rfl rfl (k_mono h (fun r6 w7 h => ?_))
    refine x_aload_n 0 dX1_storage_42 rfl rfl rfl rfl rfl ?_
    refine y_get 245 20 (c := 0) (z := w7 0 20) dX1_storage_43 i0 rfl in_X1 q1587 rfl rfl rfl rfl rfl ?_
    exact y_iret dX1_storage_46 rfl h
  · refine x_iconst (-1) (z := (-1)) dX1_storage_10 rfl (by decide) rfl ?_
    exact y_iret dX1_storage_11 rfl h
theorem rX1_failure {d n : Nat} {w : bW} {Q : Int → bW → Prop} {X : String → bW → Prop} (hn : 143 ≤ n) (h : if 0 ≤ w 102 14 then (((0 : Int) ≤ 0 ∧ (0 : Int) ≤ 0 ∧ (0 : Int) ≤ w 102 14 ∧ (0 : Int) + w 102 14 ≤ 16400 ∧ (0 : Int) + w 102 14 ≤ 65536) ∧ (Q (w 102 14) (b_up (b_cp w 104 0 107 0 (w 102 14)) 0 20 (w 102 14)))) else (Q (-1) w)) : b_K (d + 1) mX1_failure [(2, 0)] n w Q X := by
  have i0 := iz0 (Nat.le_trans (Nat.le_of_ble_eq_true rfl) hn)
  have i102 := iz102 (Nat.le_trans (Nat.le_of_ble_eq_true rfl) hn)
  have i104 := iz104 (Nat.le_trans (Nat.le_of_ble_eq_true rfl) hn)
  have i107 := iz107 (Nat.le_trans (Nat.le_of_ble_eq_true rfl) hn)
  refine k_of (by decide) rfl rfl rfl (ls := [(2, 0)]) rfl ?_
  refine x_aload_n 0 dX1_failure_0 rfl rfl rfl rfl rfl ?_
  refine y_getF 146 18 (c := 0) (z := 102) dX1_failure_1 i0 rfl in_X1 q1585 rfl rfl rfl fn_0_18 (Nat.le_trans (Nat.le_of_ble_eq_true rfl) hn) rfl ?_
  refine y_get 398 14 (c := 20) (z := w 102 14) dX1_failure_4 i102 rfl in_X22 q1421 rfl rfl rfl rfl rfl ?_
  refine x_if_ge (t := 12) 5 dX1_failure_7 rfl rfl (b_ite h (fun hc h => ?_) (fun hc h => ?_))
  · refine x_aload_n 0 dX1_failure_12 rfl rfl rfl rfl rfl ?_
    refine y_getF 146 18 (c := 0) (z := 102) dX1_failure_13 i0 rfl in_X1 q1585 rfl rfl rfl fn_0_18 (Nat.le_trans (Nat.le_of_ble_eq_true rfl) hn) rfl ?_
    refine y_getF 401 13 (c := 20) (z := 104) dX1_failure_16 i102 rfl in_X22 q1419 rfl rfl rfl fn_102_13 (Nat.le_trans (Nat.le_of_ble_eq_true rfl) hn) rfl ?_
    refine x_iconst 0 (z := 0) dX1_failure_19 rfl (by decide) rfl ?_
    refine x_aload_n 0 dX1_failure_20 rfl rfl rfl rfl rfl ?_
    refine y_getF 151 19 (c := 0) (z := 107) dX1_failure_21 i0 rfl in_X1 q1586 rfl rfl rfl fn_0_19 (Nat.le_trans (Nat.le_of_ble_eq_true rfl) hn) rfl ?_
    refine x_iconst 0 (z := 0) dX1_failure_24 rfl (by decide) rfl ?_
    refine x_aload_n 0 dX1_failure_25 rfl rfl rfl rfl rfl ?_
    refine y_getF 146 18 (c := 0) (z := 102) dX1_failure_26 i0 rfl in_X1 q1585 rfl rfl rfl fn_0_18 (Nat.le_trans (Nat.le_of_ble_eq_true rfl) hn) rfl ?_
    refine y_get 398 14 (c := 20) (z := w 102 14) dX1_failure_29 i102 rfl in_X22 q1421 rfl rfl rfl rfl rfl ?_
    obtain ⟨e1, h⟩ := h
    refine x_copyi 326 dX1_failure_32 q2464 q1893 q1892 q400 i104 i107 (by decide) (by decide) e1.1 e1.2.1 e1.2.2.1 e1.2.2.2.1 e1.2.2.2.2 (Nat.le_add_left 1 d) rfl rfl ?_
    refine x_aload_n 0 dX1_failure_35 rfl rfl rfl rfl rfl ?_
    refine x_aload_n 0 dX1_failure_36 rfl rfl rfl rfl rfl ?_
    refine y_getF 146 18 (c := 0) (z := 102) dX1_failure_37 i0 rfl in_X1 q1585 rfl rfl rfl fn_0_18 (Nat.le_trans (Nat.le_of_ble_eq_true rfl) hn) rfl ?_
    refine y_get 398 14 (c := 20) (z := w 102 14) dX1_failure_40 i102 rfl in_X22 q1421 rfl rfl rfl rfl rfl ?_
    refine x_put 245 20 (c := 0) dX1_failure_43 i0 rfl in_X1 tyX1_ok nmX1 q1587 rfl rfl rfl (Or.inl rfl) (Or.inl ⟨rfl, rfl⟩) rfl ?_
    refine x_aload_n 0 dX1_failure_46 rfl rfl rfl rfl rfl ?_
    refine y_get 245 20 (c := 0) (z := w 102 14) dX1_failure_47 i0 rfl in_X1 q1587 rfl rfl rfl rfl rfl ?_
    exact y_iret dX1_failure_50 rfl h
  · refine x_iconst (-1) (z := (-1)) dX1_failure_10 rfl (by decide) rfl ?_
    exact y_iret dX1_failure_11 rfl h
theorem rX1_out {d n : Nat} {w : bW} {Q : Int → bW → Prop} {X : String → bW → Prop} (hn : 143 ≤ n) (a1 : Int) (h : if a1 < 0 then (Q (-1) w) else (if w 0 20 ≤ a1 then (Q (-1) w) else ((0 ≤ a1 ∧ a1 < 65536) ∧ (Q (b_and (w 107 a1) 255) w)))) : b_K (d + 1) mX1_out [(2, 0), (0, a1)] n w Q X := by
  have i0 := iz0 (Nat.le_trans (Nat.le_of_ble_eq_true rfl) hn)
  have i107 := iz107 (Nat.le_trans (Nat.le_of_ble_eq_true rfl) hn)
  refine k_of (by decide) rfl rfl rfl (ls := [(2, 0), (0, a1)]) rfl ?_
  refine x_iload_n 1 dX1_out_0 rfl rfl rfl ?_
  refine x_if_lt (t := 25) 24 dX1_out_1 rfl rfl (b_ite h (fun hc h => ?_) (fun hc h => ?_))
  · refine x_iconst (-1) (z := (-1)) dX1_out_25 rfl (by decide) rfl ?_
    exact y_iret dX1_out_26 rfl h
  · refine x_iload_n 1 dX1_out_4 rfl rfl rfl ?_
    refine x_aload_n 0 dX1_out_5 rfl rfl rfl rfl rfl ?_
    refine y_get 245 20 (c := 0) (z := w 0 20) dX1_out_6 i0 rfl in_X1 q1587 rfl rfl rfl rfl rfl ?_
    refine x_icmp_ge (t := 25) 16 dX1_out_9 rfl rfl (b_ite h (fun hc h => ?_) (fun hc h => ?_))
    · refine x_iconst (-1) (z := (-1)) dX1_out_25 rfl (by decide) rfl ?_
      exact y_iret dX1_out_26 rfl h
    · refine x_aload_n 0 dX1_out_12 rfl rfl rfl rfl rfl ?_
      refine y_getF 151 19 (c := 0) (z := 107) dX1_out_13 i0 rfl in_X1 q1586 rfl rfl rfl fn_0_19 (Nat.le_trans (Nat.le_of_ble_eq_true rfl) hn) rfl ?_
      refine x_iload_n 1 dX1_out_16 rfl rfl rfl ?_
      obtain ⟨e1, h⟩ := h
      refine y_bald (z := w 107 a1) dX1_out_17 ⟨65536, i107, e1⟩ rfl rfl ?_
      refine x_sipush 255 (z := 255) dX1_out_18 rfl (by decide) rfl ?_
      refine x_iand dX1_out_21 rfl ?_
      refine x_goto 4 (q := 26) dX1_out_22 rfl ?_
      exact y_iret dX1_out_26 rfl h
theorem rX1_wrongs {d n : Nat} {w : bW} {Q : Int → bW → Prop} {X : String → bW → Prop} (h : Q 0 w) : b_K (d + 1) mX1_wrongs [(2, 0)] n w Q X := by
  refine k_of (by decide) rfl rfl rfl (ls := [(2, 0)]) rfl ?_
  refine x_iconst 0 (z := 0) dX1_wrongs_0 rfl (by decide) rfl ?_
  exact y_iret dX1_wrongs_1 rfl h
theorem rX1_isWhole {d n : Nat} {w : bW} {Q : Int → bW → Prop} {X : String → bW → Prop} (h : Q 1 w) : b_K (d + 1) mX1_isWhole [(2, 0)] n w Q X := by
  refine k_of (by decide) rfl rfl rfl (ls := [(2, 0)]) rfl ?_
  refine x_iconst 1 (z := 1) dX1_isWhole_0 rfl (by decide) rfl ?_
  exact y_zret dX1_isWhole_1 rfl (by decide) h
theorem rX1_feed {d n : Nat} {w : bW} {Q : Int → bW → Prop} {X : String → bW → Prop} (hn : 1 ≤ n) (a1 : Int) (a2 : Int) (a3 : Int) (a4 : Int) (a5 : Int) (h : if b_i ((w 0 1) + 20) ≤ 16384 then (b_K d mX1_take [(2, 0), (0, a1)] n w (fun r1 w2 => b_K d mX1_take [(2, 0), (0, a2)] n w2 (fun r3 w4 => b_K d mX1_take [(2, 0), (0, a3)] n w4 (fun r5 w6 => b_K d mX1_take [(2, 0), (0, a4)] n w6 (fun r7 w8 => b_K d mX1_take [(2, 0), (0, a5)] n w8 (fun r9 w10 => Q 0 w10) X) X) X) X) X) else False) : b_K (d + 1) mX1_feed [(2, 0), (0, a1), (0, a2), (0, a3), (0, a4), (0, a5)] n w Q X := by
  have i0 := iz0 (Nat.le_trans (Nat.le_of_ble_eq_true rfl) hn)
  refine k_of (by decide) rfl rfl rfl (ls := [(2, 0), (0, a1), (0, a2), (0, a3), (0, a4), (0, a5)]) rfl ?_
  refine x_aload_n 0 dX1_feed_0 rfl rfl rfl rfl rfl ?_
  refine y_get 171 1 (c := 0) (z := w 0 1) dX1_feed_1 i0 rfl in_X1 q1568 rfl rfl rfl rfl rfl ?_
  refine x_bipush 20 (z := 20) dX1_feed_4 rfl (by decide) rfl ?_
  refine x_iadd dX1_feed_6 rfl ?_
  refine x_sipush 16384 (z := 16384) dX1_feed_7 rfl (by decide) rfl ?_
  refine x_icmp_le (t := 23) 13 dX1_feed_10 rfl rfl (b_ite h (fun hc h => ?_) (fun hc h => ?_))
  · refine x_aload_n 0 dX1_feed_23 rfl rfl rfl rfl rfl ?_
    refine x_iload_n 1 dX1_feed_24 rfl rfl rfl ?_
    refine y_Vv 182 (M := mX1_take) (As := [(0, a1)]) (st := []) dX1_feed_25 i0 rfl q3096 q3098 qs174 q358 q3099 rfl hmX1_take rfl rfl rfl rfl rfl rfl rfl (k_mono h (fun r1 w2 h => ?_))
    refine x_aload_n 0 dX1_feed_28 rfl rfl rfl rfl rfl ?_
    refine x_iload_n 2 dX1_feed_29 rfl rfl rfl ?_
    refine y_Vv 182 (M := mX1_take) (As := [(0, a2)]) (st := []) dX1_feed_30 i0 rfl q3096 q3098 qs174 q358 q3099 rfl hmX1_take rfl rfl rfl rfl rfl rfl rfl (k_mono h (fun r3 w4 h => ?_))
    refine x_aload_n 0 dX1_feed_33 rfl rfl rfl rfl rfl ?_
    refine x_iload_n 3 dX1_feed_34 rfl rfl rfl ?_
    refine y_Vv 182 (M := mX1_take) (As := [(0, a3)]) (st := []) dX1_feed_35 i0 rfl q3096 q3098 qs174 q358 q3099 rfl hmX1_take rfl rfl rfl rfl rfl rfl rfl (k_mono h (fun r5 w6 h => ?_))
    refine x_aload_n 0 dX1_feed_38 rfl rfl rfl rfl rfl ?_
    refine x_iload 4 dX1_feed_39 rfl rfl ?_
    refine y_Vv 182 (M := mX1_take) (As := [(0, a4)]) (st := []) dX1_feed_41 i0 rfl q3096 q3098 qs174 q358 q3099 rfl hmX1_take rfl rfl rfl rfl rfl rfl rfl (k_mono h (fun r7 w8 h => ?_))
    refine x_aload_n 0 dX1_feed_44 rfl rfl rfl rfl rfl ?_
    refine x_iload 5 dX1_feed_45 rfl rfl ?_
    refine y_Vv 182 (M := mX1_take) (As := [(0, a5)]) (st := []) dX1_feed_47 i0 rfl q3096 q3098 qs174 q358 q3099 rfl hmX1_take rfl rfl rfl rfl rfl rfl rfl (k_mono h (fun r9 w10 h => ?_))
    exact y_vret dX1_feed_50 rfl h
  · exact h.elim
abbrev LX1_take_3 (d n : Nat) (Q : Int → bW → Prop) (X : String → bW → Prop) (a1 : Int) (a2 : Int) (w : bW) : Prop := b_Y (d + 1) mX1_take n Q X 3 [(2, 0), (0, a1), (0, a2)] [] w
theorem rX1_take {d n : Nat} {w : bW} {Q : Int → bW → Prop} {X : String → bW → Prop} (hn : 143 ≤ n) (a1 : Int) (h : LX1_take_3 d n Q X a1 24 w) : b_K (d + 1) mX1_take [(2, 0), (0, a1)] n w Q X := by
  refine k_of (by decide) rfl rfl rfl (ls := [(2, 0), (0, a1), (9, 0)]) rfl ?_
  refine x_bipush 24 (z := 24) dX1_take_0 rfl (by decide) rfl ?_
  refine x_istore_n 2 (ls' := [(2, 0), (0, a1), (0, 24)]) dX1_take_2 rfl rfl rfl rfl ?_
  exact x_fg (fgk (fgk (fgk (fg0)))) h
theorem sX1_take_3 {d n : Nat} {w : bW} {Q : Int → bW → Prop} {X : String → bW → Prop} (hn : 143 ≤ n) (a1 : Int) (a2 : Int) (h : if a2 < 0 then (Q 0 w) else ((0 ≤ w 0 1 ∧ w 0 1 < 16384) ∧ (LX1_take_3 d n Q X a1 (b_i (a2 + (-8))) (b_up (b_up w 0 1 (b_i ((w 0 1) + 1))) 1 (w 0 1) (b_b8 (b_shr a1 a2)))))) : LX1_take_3 d n Q X a1 a2 w := by
  have i0 := iz0 (Nat.le_trans (Nat.le_of_ble_eq_true rfl) hn)
  have i1 := iz1 (Nat.le_trans (Nat.le_of_ble_eq_true rfl) hn)
  refine x_iload_n 2 dX1_take_3 rfl rfl rfl ?_
  refine x_if_lt (t := 33) 29 dX1_take_4 rfl rfl (b_ite h (fun hc h => ?_) (fun hc h => ?_))
  · exact y_vret dX1_take_33 rfl h
  · refine x_aload_n 0 dX1_take_7 rfl rfl rfl rfl rfl ?_
    refine y_getF 7 0 (c := 0) (z := 1) dX1_take_8 i0 rfl in_X1 q1567 rfl rfl rfl fn_0_0 (Nat.le_trans (Nat.le_of_ble_eq_true rfl) hn) rfl ?_
    refine x_aload_n 0 dX1_take_11 rfl rfl rfl rfl rfl ?_
    refine x_dup dX1_take_12 rfl rfl ?_
    refine y_get 171 1 (c := 0) (z := w 0 1) dX1_take_13 i0 rfl in_X1 q1568 rfl rfl rfl rfl rfl ?_
    refine x_dup_x1 dX1_take_16 rfl rfl rfl ?_
    refine x_iconst 1 (z := 1) dX1_take_17 rfl (by decide) rfl ?_
    refine x_iadd dX1_take_18 rfl ?_
    refine x_put 171 1 (c := 0) dX1_take_19 i0 rfl in_X1 tyX1_ok nmX1 q1568 rfl rfl rfl (Or.inl rfl) (Or.inl ⟨rfl, rfl⟩) rfl ?_
    refine x_iload_n 1 dX1_take_22 rfl rfl rfl ?_
    refine x_iload_n 2 dX1_take_23 rfl rfl rfl ?_
    refine x_ishr dX1_take_24 rfl ?_
    refine x_i2b dX1_take_25 rfl ?_
    obtain ⟨e1, h⟩ := h
    refine y_bast (x' := b_b8 (b_shr a1 a2)) dX1_take_26 ⟨16384, i1, e1⟩ (b_b8_i _) rfl ?_
    refine x_iinc 2 (-8) (ls' := [(2, 0), (0, a1), (0, b_i (a2 + (-8)))]) dX1_take_27 rfl rfl rfl rfl ?_
    refine x_goto (-27) (q := 3) dX1_take_30 rfl ?_
    exact x_fg (fgk (fgk (fgk (fg0)))) h
end RulesX1
