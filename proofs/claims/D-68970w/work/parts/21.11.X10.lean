section RulesX10
set_option maxRecDepth 100000
theorem rX10_build {d n : Nat} {w : bW} {Q : Int → bW → Prop} {X : String → bW → Prop} (hn : 143 ≤ n) (a1 : Int) (a2 : Int) (a3 : Int) (a4 : Int) (h : if a2 ≠ a3 then (b_K d mX10_build [(2, 38), (2, a1), (0, a2), (0, b_shr (b_i (a2 + a3)) 1), (0, a4)] n w (fun r1 w2 => b_K d mX10_build [(2, 38), (2, a1), (0, b_i ((b_shr (b_i (a2 + a3)) 1) + 1)), (0, a3), (0, a4)] n w2 (fun r3 w4 => b_ai n a1 1 0 (b_shr (b_i (a2 + a3)) 1) ∧ (if a4 ≠ 0 then (b_ai n a1 1 0 (b_i ((b_shr (b_i (a2 + a3)) 1) + a4)) ∧ (b_K d mX8_node [(2, 27), (0, w4 a1 (b_shr (b_i (a2 + a3)) 1)), (0, w4 a1 (b_i ((b_shr (b_i (a2 + a3)) 1) + a4))), (0, r1), (0, r3)] n w4 (fun r7 w8 => Q r7 w8) X)) else (b_K d mX8_node [(2, 27), (0, w4 a1 (b_shr (b_i (a2 + a3)) 1)), (0, 0), (0, r1), (0, r3)] n w4 (fun r9 w10 => Q r9 w10) X))) X) X) else (Q 12 w)) : b_K (d + 1) mX10_build [(2, 38), (2, a1), (0, a2), (0, a3), (0, a4)] n w Q X := by
  have i27 := iz27 (Nat.le_trans (Nat.le_of_ble_eq_true rfl) hn)
  have i38 := iz38 (Nat.le_trans (Nat.le_of_ble_eq_true rfl) hn)
  refine k_of (by decide) rfl rfl rfl (ls := [(2, 38), (2, a1), (0, a2), (0, a3), (0, a4), (9, 0), (9, 0), (9, 0)]) rfl ?_
  refine x_iload_n 2 dX10_build_0 rfl rfl rfl ?_
  refine x_iload_n 3 dX10_build_1 rfl rfl rfl ?_
  refine x_icmp_ne (t := 8) 6 dX10_build_2 rfl rfl (b_ite h (fun hc h => ?_) (fun hc h => ?_))
  · refine x_iload_n 2 dX10_build_8 rfl rfl rfl ?_
    refine x_iload_n 3 dX10_build_9 rfl rfl rfl ?_
    refine x_iadd dX10_build_10 rfl ?_
    refine x_iconst 1 (z := 1) dX10_build_11 rfl (by decide) rfl ?_
    refine x_ishr dX10_build_12 rfl ?_
    refine x_istore 5 (ls' := [(2, 38), (2, a1), (0, a2), (0, a3), (0, a4), (0, b_shr (b_i (a2 + a3)) 1), (9, 0), (9, 0)]) dX10_build_13 rfl rfl rfl ?_
    refine x_aload_n 0 dX10_build_15 rfl rfl rfl rfl rfl ?_
    refine x_aload_n 1 dX10_build_16 rfl rfl rfl rfl rfl ?_
    refine x_iload_n 2 dX10_build_17 rfl rfl rfl ?_
    refine x_iload 5 dX10_build_18 rfl rfl ?_
    refine x_iload 4 dX10_build_20 rfl rfl ?_
    refine y_Vi 64 (M := mX10_build) (As := [(2, a1), (0, a2), (0, b_shr (b_i (a2 + a3)) 1), (0, a4)]) (st := []) dX10_build_22 i38 rfl q2125 q2122 q2123 q377 q2124 rfl hmX10_build rfl rfl rfl rfl rfl rfl rfl rfl (k_mono h (fun r1 w2 h => ?_))
    refine x_istore 6 (ls' := [(2, 38), (2, a1), (0, a2), (0, a3), (0, a4), (0, b_shr (b_i (a2 + a3)) 1), (0, r1), (9, 0)]) dX10_build_25 rfl rfl rfl ?_
    refine x_aload_n 0 dX10_build_27 rfl rfl rfl rfl rfl ?_
    refine x_aload_n 1 dX10_build_28 rfl rfl rfl rfl rfl ?_
    refine x_iload 5 dX10_build_29 rfl rfl ?_
    refine x_iconst 1 (z := 1) dX10_build_31 rfl (by decide) rfl ?_
    refine x_iadd dX10_build_32 rfl ?_
    refine x_iload_n 3 dX10_build_33 rfl rfl rfl ?_
    refine x_iload 4 dX10_build_34 rfl rfl ?_
    refine y_Vi 64 (M := mX10_build) (As := [(2, a1), (0, b_i ((b_shr (b_i (a2 + a3)) 1) + 1)), (0, a3), (0, a4)]) (st := []) dX10_build_36 i38 rfl q2125 q2122 q2123 q377 q2124 rfl hmX10_build rfl rfl rfl rfl rfl rfl rfl rfl (k_mono h (fun r3 w4 h => ?_))
    refine x_istore 7 (ls' := [(2, 38), (2, a1), (0, a2), (0, a3), (0, a4), (0, b_shr (b_i (a2 + a3)) 1), (0, r1), (0, r3)]) dX10_build_39 rfl rfl rfl ?_
    refine x_aload_n 0 dX10_build_41 rfl rfl rfl rfl rfl ?_
    refine y_getF 7 0 (c := 9) (z := 27) dX10_build_42 i38 rfl in_X10 q857 rfl rfl rfl fn_38_0 (Nat.le_trans (Nat.le_of_ble_eq_true rfl) hn) rfl ?_
    refine x_aload_n 1 dX10_build_45 rfl rfl rfl rfl rfl ?_
    refine x_iload 5 dX10_build_46 rfl rfl ?_
    obtain ⟨e5, h⟩ := h
    refine y_iald (z := w4 a1 (b_shr (b_i (a2 + a3)) 1)) dX10_build_48 e5 rfl rfl ?_
    refine x_iload 4 dX10_build_49 rfl rfl ?_
    refine x_if_ne (t := 58) 7 dX10_build_51 rfl rfl (b_ite h (fun hc h => ?_) (fun hc h => ?_))
    · refine x_aload_n 1 dX10_build_58 rfl rfl rfl rfl rfl ?_
      refine x_iload 5 dX10_build_59 rfl rfl ?_
      refine x_iload 4 dX10_build_61 rfl rfl ?_
      refine x_iadd dX10_build_63 rfl ?_
      obtain ⟨e6, h⟩ := h
      refine y_iald (z := w4 a1 (b_i ((b_shr (b_i (a2 + a3)) 1) + a4))) dX10_build_64 e6 rfl rfl ?_
      refine x_iload 6 dX10_build_65 rfl rfl ?_
      refine x_iload 7 dX10_build_67 rfl rfl ?_
      refine y_Vi 29 (M := mX8_node) (As := [(0, w4 a1 (b_shr (b_i (a2 + a3)) 1)), (0, w4 a1 (b_i ((b_shr (b_i (a2 + a3)) 1) + a4))), (0, r1), (0, r3)]) (st := []) dX10_build_69 i27 rfl q2126 q2127 q2128 q375 q2129 rfl hmX8_node rfl rfl rfl rfl rfl rfl rfl rfl (k_mono h (fun r7 w8 h => ?_))
      exact y_iret dX10_build_72 rfl h
    · refine x_iconst 0 (z := 0) dX10_build_54 rfl (by decide) rfl ?_
      refine x_goto 10 (q := 65) dX10_build_55 rfl ?_
      refine x_iload 6 dX10_build_65 rfl rfl ?_
      refine x_iload 7 dX10_build_67 rfl rfl ?_
      refine y_Vi 29 (M := mX8_node) (As := [(0, w4 a1 (b_shr (b_i (a2 + a3)) 1)), (0, 0), (0, r1), (0, r3)]) (st := []) dX10_build_69 i27 rfl q2126 q2127 q2128 q375 q2129 rfl hmX8_node rfl rfl rfl rfl rfl rfl rfl rfl (k_mono h (fun r9 w10 h => ?_))
      exact y_iret dX10_build_72 rfl h
  · refine x_bipush 12 (z := 12) dX10_build_5 rfl (by decide) rfl ?_
    exact y_iret dX10_build_7 rfl h
abbrev LX10_at_19 (d n : Nat) (Q : Int → bW → Prop) (X : String → bW → Prop) (a3 : Int) (a4 : Int) (a5 : Int) (w : bW) : Prop := b_Y (d + 1) mX10_at n Q X 19 [(2, 38), (9, 0), (9, 0), (0, a3), (0, a4), (0, a5)] [] w
theorem rX10_at {d n : Nat} {w : bW} {Q : Int → bW → Prop} {X : String → bW → Prop} (hn : 143 ≤ n) (a1 : Int) (a2 : Int) (h : b_K d mX10_low [(2, 38), (0, a1)] n w (fun r1 w2 => b_K d mX8_many [(2, 27), (0, r1)] n w2 (fun r3 w4 => LX10_at_19 d n Q X a1 a2 r3 w4) X) X) : b_K (d + 1) mX10_at [(2, 38), (0, a1), (0, a2)] n w Q X := by
  have i27 := iz27 (Nat.le_trans (Nat.le_of_ble_eq_true rfl) hn)
  have i38 := iz38 (Nat.le_trans (Nat.le_of_ble_eq_true rfl) hn)
  refine k_of (by decide) rfl rfl rfl (ls := [(2, 38), (0, a1), (0, a2), (9, 0), (9, 0), (9, 0)]) rfl ?_
  refine x_iload_n 1 dX10_at_0 rfl rfl rfl ?_
  refine x_istore_n 3 (ls' := [(2, 38), (0, a1), (0, a2), (0, a1), (9, 0), (9, 0)]) dX10_at_1 rfl rfl rfl rfl ?_
  refine x_iload_n 2 dX10_at_2 rfl rfl rfl ?_
  refine x_istore 4 (ls' := [(2, 38), (0, a1), (0, a2), (0, a1), (0, a2), (9, 0)]) dX10_at_3 rfl rfl rfl ?_
  refine x_aload_n 0 dX10_at_5 rfl rfl rfl rfl rfl ?_
  refine y_getF 7 0 (c := 9) (z := 27) dX10_at_6 i38 rfl in_X10 q857 rfl rfl rfl fn_38_0 (Nat.le_trans (Nat.le_of_ble_eq_true rfl) hn) rfl ?_
  refine x_aload_n 0 dX10_at_9 rfl rfl rfl rfl rfl ?_
  refine x_iload_n 3 dX10_at_10 rfl rfl rfl ?_
  refine y_Vi 37 (M := mX10_low) (As := [(0, a1)]) (st := [(2, 27)]) dX10_at_11 i38 rfl q2616 q2618 qs118 q377 q2619 rfl hmX10_low rfl rfl rfl rfl rfl rfl rfl rfl (k_mono h (fun r1 w2 h => ?_))
  refine y_Vi 61 (M := mX8_many) (As := [(0, r1)]) (st := []) dX10_at_14 i27 rfl q2621 q2135 q2136 q375 q2137 rfl hmX8_many rfl rfl rfl rfl rfl rfl rfl rfl (k_mono h (fun r3 w4 h => ?_))
  refine x_istore 5 (ls' := [(2, 38), (0, a1), (0, a2), (0, a1), (0, a2), (0, r3)]) dX10_at_17 rfl rfl rfl ?_
  exact x_fg (fgk (fgd (fgd (fgk (fgk (fgk (fg0))))))) h
theorem sX10_at_19 {d n : Nat} {w : bW} {Q : Int → bW → Prop} {X : String → bW → Prop} (hn : 143 ≤ n) (a3 : Int) (a4 : Int) (a5 : Int) (h : if a4 = a5 then (Q a3 w) else (if a5 ≤ a4 then (b_K d mX10_high [(2, 38), (0, a3)] n w (fun r1 w2 => b_K d mX10_low [(2, 38), (0, r1)] n w2 (fun r3 w4 => b_K d mX8_many [(2, 27), (0, r3)] n w4 (fun r5 w6 => LX10_at_19 d n Q X r1 (b_i (a4 - (b_i (a5 + 1)))) r5 w6) X) X) X) else (b_K d mX10_low [(2, 38), (0, a3)] n w (fun r7 w8 => b_K d mX10_low [(2, 38), (0, r7)] n w8 (fun r9 w10 => b_K d mX8_many [(2, 27), (0, r9)] n w10 (fun r11 w12 => LX10_at_19 d n Q X r7 a4 r11 w12) X) X) X))) : LX10_at_19 d n Q X a3 a4 a5 w := by
  have i27 := iz27 (Nat.le_trans (Nat.le_of_ble_eq_true rfl) hn)
  have i38 := iz38 (Nat.le_trans (Nat.le_of_ble_eq_true rfl) hn)
  refine x_iload 4 dX10_at_19 rfl rfl ?_
  refine x_iload 5 dX10_at_21 rfl rfl ?_
  refine x_icmp_eq (t := 74) 51 dX10_at_23 rfl rfl (b_ite h (fun hc h => ?_) (fun hc h => ?_))
  · refine x_iload_n 3 dX10_at_74 rfl rfl rfl ?_
    exact y_iret dX10_at_75 rfl h
  · refine x_iload 4 dX10_at_26 rfl rfl ?_
    refine x_iload 5 dX10_at_28 rfl rfl ?_
    refine x_icmp_ge (t := 42) 12 dX10_at_30 rfl rfl (b_ite h (fun hc h => ?_) (fun hc h => ?_))
    · refine x_iload 4 dX10_at_42 rfl rfl ?_
      refine x_iload 5 dX10_at_44 rfl rfl ?_
      refine x_iconst 1 (z := 1) dX10_at_46 rfl (by decide) rfl ?_
      refine x_iadd dX10_at_47 rfl ?_
      refine x_isub dX10_at_48 rfl ?_
      refine x_istore 4 (ls' := [(2, 38), (9, 0), (9, 0), (0, a3), (0, b_i (a4 - (b_i (a5 + 1)))), (0, a5)]) dX10_at_49 rfl rfl rfl ?_
      refine x_aload_n 0 dX10_at_51 rfl rfl rfl rfl rfl ?_
      refine x_iload_n 3 dX10_at_52 rfl rfl rfl ?_
      refine y_Vi 40 (M := mX10_high) (As := [(0, a3)]) (st := []) dX10_at_53 i38 rfl q2622 q2624 qs119 q377 q2625 rfl hmX10_high rfl rfl rfl rfl rfl rfl rfl rfl (k_mono h (fun r1 w2 h => ?_))
      refine x_istore_n 3 (ls' := [(2, 38), (9, 0), (9, 0), (0, r1), (0, b_i (a4 - (b_i (a5 + 1)))), (0, a5)]) dX10_at_56 rfl rfl rfl rfl ?_
      refine x_aload_n 0 dX10_at_57 rfl rfl rfl rfl rfl ?_
      refine y_getF 7 0 (c := 9) (z := 27) dX10_at_58 i38 rfl in_X10 q857 rfl rfl rfl fn_38_0 (Nat.le_trans (Nat.le_of_ble_eq_true rfl) hn) rfl ?_
      refine x_aload_n 0 dX10_at_61 rfl rfl rfl rfl rfl ?_
      refine x_iload_n 3 dX10_at_62 rfl rfl rfl ?_
      refine y_Vi 37 (M := mX10_low) (As := [(0, r1)]) (st := [(2, 27)]) dX10_at_63 i38 rfl q2616 q2618 qs118 q377 q2619 rfl hmX10_low rfl rfl rfl rfl rfl rfl rfl rfl (k_mono h (fun r3 w4 h => ?_))
      refine y_Vi 61 (M := mX8_many) (As := [(0, r3)]) (st := []) dX10_at_66 i27 rfl q2621 q2135 q2136 q375 q2137 rfl hmX8_many rfl rfl rfl rfl rfl rfl rfl rfl (k_mono h (fun r5 w6 h => ?_))
      refine x_istore 5 (ls' := [(2, 38), (9, 0), (9, 0), (0, r1), (0, b_i (a4 - (b_i (a5 + 1)))), (0, r5)]) dX10_at_69 rfl rfl rfl ?_
      refine x_goto (-52) (q := 19) dX10_at_71 rfl ?_
      exact x_fg (fgk (fgk (fgk (fgk (fgk (fgk (fg0))))))) h
    · refine x_aload_n 0 dX10_at_33 rfl rfl rfl rfl rfl ?_
      refine x_iload_n 3 dX10_at_34 rfl rfl rfl ?_
      refine y_Vi 37 (M := mX10_low) (As := [(0, a3)]) (st := []) dX10_at_35 i38 rfl q2616 q2618 qs118 q377 q2619 rfl hmX10_low rfl rfl rfl rfl rfl rfl rfl rfl (k_mono h (fun r7 w8 h => ?_))
      refine x_istore_n 3 (ls' := [(2, 38), (9, 0), (9, 0), (0, r7), (0, a4), (0, a5)]) dX10_at_38 rfl rfl rfl rfl ?_
      refine x_goto 18 (q := 57) dX10_at_39 rfl ?_
      refine x_aload_n 0 dX10_at_57 rfl rfl rfl rfl rfl ?_
      refine y_getF 7 0 (c := 9) (z := 27) dX10_at_58 i38 rfl in_X10 q857 rfl rfl rfl fn_38_0 (Nat.le_trans (Nat.le_of_ble_eq_true rfl) hn) rfl ?_
      refine x_aload_n 0 dX10_at_61 rfl rfl rfl rfl rfl ?_
      refine x_iload_n 3 dX10_at_62 rfl rfl rfl ?_
      refine y_Vi 37 (M := mX10_low) (As := [(0, r7)]) (st := [(2, 27)]) dX10_at_63 i38 rfl q2616 q2618 qs118 q377 q2619 rfl hmX10_low rfl rfl rfl rfl rfl rfl rfl rfl (k_mono h (fun r9 w10 h => ?_))
      refine y_Vi 61 (M := mX8_many) (As := [(0, r9)]) (st := []) dX10_at_66 i27 rfl q2621 q2135 q2136 q375 q2137 rfl hmX8_many rfl rfl rfl rfl rfl rfl rfl rfl (k_mono h (fun r11 w12 h => ?_))
      refine x_istore 5 (ls' := [(2, 38), (9, 0), (9, 0), (0, r7), (0, a4), (0, r11)]) dX10_at_69 rfl rfl rfl ?_
      refine x_goto (-52) (q := 19) dX10_at_71 rfl ?_
      exact x_fg (fgk (fgk (fgk (fgk (fgk (fgk (fg0))))))) h
theorem rX10_low {d n : Nat} {w : bW} {Q : Int → bW → Prop} {X : String → bW → Prop} (hn : 143 ≤ n) (a1 : Int) (h : b_K d mX8_cell [(2, 27), (0, a1), (0, 4)] n w (fun r1 w2 => Q r1 w2) X) : b_K (d + 1) mX10_low [(2, 38), (0, a1)] n w Q X := by
  have i27 := iz27 (Nat.le_trans (Nat.le_of_ble_eq_true rfl) hn)
  have i38 := iz38 (Nat.le_trans (Nat.le_of_ble_eq_true rfl) hn)
  refine k_of (by decide) rfl rfl rfl (ls := [(2, 38), (0, a1)]) rfl ?_
  refine x_aload_n 0 dX10_low_0 rfl rfl rfl rfl rfl ?_
  refine y_getF 7 0 (c := 9) (z := 27) dX10_low_1 i38 rfl in_X10 q857 rfl rfl rfl fn_38_0 (Nat.le_trans (Nat.le_of_ble_eq_true rfl) hn) rfl ?_
  refine x_iload_n 1 dX10_low_4 rfl rfl rfl ?_
  refine x_iconst 4 (z := 4) dX10_low_5 rfl (by decide) rfl ?_
  refine y_Vi 19 (M := mX8_cell) (As := [(0, a1), (0, 4)]) (st := []) dX10_low_6 i27 rfl q2620 q2010 q2011 q375 q2012 rfl hmX8_cell rfl rfl rfl rfl rfl rfl rfl rfl (k_mono h (fun r1 w2 h => ?_))
  exact y_iret dX10_low_9 rfl h
theorem rX10_high {d n : Nat} {w : bW} {Q : Int → bW → Prop} {X : String → bW → Prop} (hn : 143 ≤ n) (a1 : Int) (h : b_K d mX8_cell [(2, 27), (0, a1), (0, 5)] n w (fun r1 w2 => Q r1 w2) X) : b_K (d + 1) mX10_high [(2, 38), (0, a1)] n w Q X := by
  have i27 := iz27 (Nat.le_trans (Nat.le_of_ble_eq_true rfl) hn)
  have i38 := iz38 (Nat.le_trans (Nat.le_of_ble_eq_true rfl) hn)
  refine k_of (by decide) rfl rfl rfl (ls := [(2, 38), (0, a1)]) rfl ?_
  refine x_aload_n 0 dX10_high_0 rfl rfl rfl rfl rfl ?_
  refine y_getF 7 0 (c := 9) (z := 27) dX10_high_1 i38 rfl in_X10 q857 rfl rfl rfl fn_38_0 (Nat.le_trans (Nat.le_of_ble_eq_true rfl) hn) rfl ?_
  refine x_iload_n 1 dX10_high_4 rfl rfl rfl ?_
  refine x_iconst 5 (z := 5) dX10_high_5 rfl (by decide) rfl ?_
  refine y_Vi 19 (M := mX8_cell) (As := [(0, a1), (0, 5)]) (st := []) dX10_high_6 i27 rfl q2620 q2010 q2011 q375 q2012 rfl hmX8_cell rfl rfl rfl rfl rfl rfl rfl rfl (k_mono h (fun r1 w2 h => ?_))
  exact y_iret dX10_high_9 rfl h
abbrev LX10_find_3 (d n : Nat) (Q : Int → bW → Prop) (X : String → bW → Prop) (a2 : Int) (a3 : Int) (a4 : Int) (w : bW) : Prop := b_Y (d + 1) mX10_find n Q X 3 [(2, 38), (9, 0), (0, a2), (0, a3), (0, a4), (9, 0)] [] w
theorem rX10_find {d n : Nat} {w : bW} {Q : Int → bW → Prop} {X : String → bW → Prop} (hn : 143 ≤ n) (a1 : Int) (a2 : Int) (a3 : Int) (h : LX10_find_3 d n Q X a2 a3 a1 w) : b_K (d + 1) mX10_find [(2, 38), (0, a1), (0, a2), (0, a3)] n w Q X := by
  refine k_of (by decide) rfl rfl rfl (ls := [(2, 38), (0, a1), (0, a2), (0, a3), (9, 0), (9, 0)]) rfl ?_
  refine x_iload_n 1 dX10_find_0 rfl rfl rfl ?_
  refine x_istore 4 (ls' := [(2, 38), (0, a1), (0, a2), (0, a3), (0, a1), (9, 0)]) dX10_find_1 rfl rfl rfl ?_
  exact x_fg (fgk (fgd (fgk (fgk (fgk (fgk (fg0))))))) h
theorem sX10_find_3 {d n : Nat} {w : bW} {Q : Int → bW → Prop} {X : String → bW → Prop} (hn : 143 ≤ n) (a2 : Int) (a3 : Int) (a4 : Int) (h : if a4 = 12 then (Q a4 w) else (b_K d mX8_cell [(2, 27), (0, a4), (0, 2)] n w (fun r1 w2 => b_K d mX9_compare [(2, 33), (0, a2), (0, r1), (0, a3)] n w2 (fun r3 w4 => if r3 ≠ 0 then (if 0 ≤ r3 then (b_K d mX8_cell [(2, 27), (0, a4), (0, 5)] n w4 (fun r5 w6 => LX10_find_3 d n Q X a2 a3 r5 w6) X) else (b_K d mX8_cell [(2, 27), (0, a4), (0, 4)] n w4 (fun r7 w8 => LX10_find_3 d n Q X a2 a3 r7 w8) X)) else (Q a4 w4)) X) X)) : LX10_find_3 d n Q X a2 a3 a4 w := by
  have i27 := iz27 (Nat.le_trans (Nat.le_of_ble_eq_true rfl) hn)
  have i33 := iz33 (Nat.le_trans (Nat.le_of_ble_eq_true rfl) hn)
  have i38 := iz38 (Nat.le_trans (Nat.le_of_ble_eq_true rfl) hn)
  refine x_iload 4 dX10_find_3 rfl rfl ?_
  refine x_bipush 12 (z := 12) dX10_find_5 rfl (by decide) rfl ?_
  refine x_icmp_eq (t := 63) 56 dX10_find_7 rfl rfl (b_ite h (fun hc h => ?_) (fun hc h => ?_))
  · refine x_iload 4 dX10_find_63 rfl rfl ?_
    exact y_iret dX10_find_65 rfl h
  · refine x_aload_n 0 dX10_find_10 rfl rfl rfl rfl rfl ?_
    refine y_getF 13 1 (c := 9) (z := 33) dX10_find_11 i38 rfl in_X10 q858 rfl rfl rfl fn_38_1 (Nat.le_trans (Nat.le_of_ble_eq_true rfl) hn) rfl ?_
    refine x_iload_n 2 dX10_find_14 rfl rfl rfl ?_
    refine x_aload_n 0 dX10_find_15 rfl rfl rfl rfl rfl ?_
    refine y_getF 7 0 (c := 9) (z := 27) dX10_find_16 i38 rfl in_X10 q857 rfl rfl rfl fn_38_0 (Nat.le_trans (Nat.le_of_ble_eq_true rfl) hn) rfl ?_
    refine x_iload 4 dX10_find_19 rfl rfl ?_
    refine x_iconst 2 (z := 2) dX10_find_21 rfl (by decide) rfl ?_
    refine y_Vi 19 (M := mX8_cell) (As := [(0, a4), (0, 2)]) (st := [(0, a2), (2, 33)]) dX10_find_22 i27 rfl q2620 q2010 q2011 q375 q2012 rfl hmX8_cell rfl rfl rfl rfl rfl rfl rfl rfl (k_mono h (fun r1 w2 h => ?_))
    refine x_iload_n 3 dX10_find_25 rfl rfl rfl ?_
    refine y_Vi 23 (M := mX9_compare) (As := [(0, a2), (0, r1), (0, a3)]) (st := []) dX10_find_26 i33 rfl q2940 q2076 q2077 q376 q2078 rfl hmX9_compare rfl rfl rfl rfl rfl rfl rfl rfl (k_mono h (fun r3 w4 h => ?_))
    refine x_istore 5 (ls' := [(2, 38), (9, 0), (0, a2), (0, a3), (0, a4), (0, r3)]) dX10_find_29 rfl rfl rfl ?_
    refine x_iload 5 dX10_find_31 rfl rfl ?_
    refine x_if_ne (t := 39) 6 dX10_find_33 rfl rfl (b_ite h (fun hc h => ?_) (fun hc h => ?_))
    · refine x_aload_n 0 dX10_find_39 rfl rfl rfl rfl rfl ?_
      refine y_getF 7 0 (c := 9) (z := 27) dX10_find_40 i38 rfl in_X10 q857 rfl rfl rfl fn_38_0 (Nat.le_trans (Nat.le_of_ble_eq_true rfl) hn) rfl ?_
      refine x_iload 4 dX10_find_43 rfl rfl ?_
      refine x_iload 5 dX10_find_45 rfl rfl ?_
      refine x_if_ge (t := 54) 7 dX10_find_47 rfl rfl (b_ite h (fun hc h => ?_) (fun hc h => ?_))
      · refine x_iconst 5 (z := 5) dX10_find_54 rfl (by decide) rfl ?_
        refine y_Vi 19 (M := mX8_cell) (As := [(0, a4), (0, 5)]) (st := []) dX10_find_55 i27 rfl q2620 q2010 q2011 q375 q2012 rfl hmX8_cell rfl rfl rfl rfl rfl rfl rfl rfl (k_mono h (fun r5 w6 h => ?_))
        refine x_istore 4 (ls' := [(2, 38), (9, 0), (0, a2), (0, a3), (0, r5), (0, r3)]) dX10_find_58 rfl rfl rfl ?_
        refine x_goto (-57) (q := 3) dX10_find_60 rfl ?_
        exact x_fg (fgk (fgk (fgk (fgk (fgk (fgd (fg0))))))) h
      · refine x_iconst 4 (z := 4) dX10_find_50 rfl (by decide) rfl ?_
        refine x_goto 4 (q := 55) dX10_find_51 rfl ?_
        refine y_Vi 19 (M := mX8_cell) (As := [(0, a4), (0, 4)]) (st := []) dX10_find_55 i27 rfl q2620 q2010 q2011 q375 q2012 rfl hmX8_cell rfl rfl rfl rfl rfl rfl rfl rfl (k_mono h (fun r7 w8 h => ?_))
        refine x_istore 4 (ls' := [(2, 38), (9, 0), (0, a2), (0, a3), (0, r7), (0, r3)]) dX10_find_58 rfl rfl rfl ?_
        refine x_goto (-57) (q := 3) dX10_find_60 rfl ?_
        exact x_fg (fgk (fgk (fgk (fgk (fgk (fgd (fg0))))))) h
    · refine x_iload 4 dX10_find_36 rfl rfl ?_
      exact y_iret dX10_find_38 rfl h
theorem rX10_put {d n : Nat} {w : bW} {Q : Int → bW → Prop} {X : String → bW → Prop} (hn : 143 ≤ n) (a1 : Int) (a2 : Int) (a3 : Int) (a4 : Int) (h : if a1 ≠ 12 then (b_K d mX8_cell [(2, 27), (0, a1), (0, 2)] n w (fun r1 w2 => b_K d mX9_compare [(2, 33), (0, a2), (0, r1), (0, a4)] n w2 (fun r3 w4 => if r3 ≠ 0 then (if 0 ≤ r3 then (b_K d mX10_low [(2, 38), (0, a1)] n w4 (fun r5 w6 => b_K d mX10_high [(2, 38), (0, a1)] n w6 (fun r7 w8 => b_K d mX10_put [(2, 38), (0, r7), (0, a2), (0, a3), (0, a4)] n w8 (fun r9 w10 => b_K d mX10_balance [(2, 38), (0, a1), (0, r5), (0, r9)] n w10 (fun r11 w12 => Q r11 w12) X) X) X) X) else (b_K d mX10_low [(2, 38), (0, a1)] n w4 (fun r13 w14 => b_K d mX10_put [(2, 38), (0, r13), (0, a2), (0, a3), (0, a4)] n w14 (fun r15 w16 => b_K d mX10_high [(2, 38), (0, a1)] n w16 (fun r17 w18 => b_K d mX10_balance [(2, 38), (0, a1), (0, r15), (0, r17)] n w18 (fun r19 w20 => Q r19 w20) X) X) X) X)) else (b_K d mX10_low [(2, 38), (0, a1)] n w4 (fun r21 w22 => b_K d mX10_high [(2, 38), (0, a1)] n w22 (fun r23 w24 => b_K d mX8_node [(2, 27), (0, a2), (0, a3), (0, r21), (0, r23)] n w24 (fun r25 w26 => Q r25 w26) X) X) X)) X) X) else (b_K d mX8_node [(2, 27), (0, a2), (0, a3), (0, 12), (0, 12)] n w (fun r27 w28 => Q r27 w28) X)) : b_K (d + 1) mX10_put [(2, 38), (0, a1), (0, a2), (0, a3), (0, a4)] n w Q X := by
  have i27 := iz27 (Nat.le_trans (Nat.le_of_ble_eq_true rfl) hn)
  have i33 := iz33 (Nat.le_trans (Nat.le_of_ble_eq_true rfl) hn)
  have i38 := iz38 (Nat.le_trans (Nat.le_of_ble_eq_true rfl) hn)
  refine k_of (by decide) rfl rfl rfl (ls := [(2, 38), (0, a1), (0, a2), (0, a3), (0, a4), (9, 0)]) rfl ?_
  refine x_iload_n 1 dX10_put_0 rfl rfl rfl ?_
  refine x_bipush 12 (z := 12) dX10_put_1 rfl (by decide) rfl ?_
  refine x_icmp_ne (t := 20) 17 dX10_put_3 rfl rfl (b_ite h (fun hc h => ?_) (fun hc h => ?_))
  · refine x_aload_n 0 dX10_put_20 rfl rfl rfl rfl rfl ?_
    refine y_getF 13 1 (c := 9) (z := 33) dX10_put_21 i38 rfl in_X10 q858 rfl rfl rfl fn_38_1 (Nat.le_trans (Nat.le_of_ble_eq_true rfl) hn) rfl ?_
    refine x_iload_n 2 dX10_put_24 rfl rfl rfl ?_
    refine x_aload_n 0 dX10_put_25 rfl rfl rfl rfl rfl ?_
    refine y_getF 7 0 (c := 9) (z := 27) dX10_put_26 i38 rfl in_X10 q857 rfl rfl rfl fn_38_0 (Nat.le_trans (Nat.le_of_ble_eq_true rfl) hn) rfl ?_
    refine x_iload_n 1 dX10_put_29 rfl rfl rfl ?_
    refine x_iconst 2 (z := 2) dX10_put_30 rfl (by decide) rfl ?_
    refine y_Vi 19 (M := mX8_cell) (As := [(0, a1), (0, 2)]) (st := [(0, a2), (2, 33)]) dX10_put_31 i27 rfl q2620 q2010 q2011 q375 q2012 rfl hmX8_cell rfl rfl rfl rfl rfl rfl rfl rfl (k_mono h (fun r1 w2 h => ?_))
    refine x_iload 4 dX10_put_34 rfl rfl ?_
    refine y_Vi 23 (M := mX9_compare) (As := [(0, a2), (0, r1), (0, a4)]) (st := []) dX10_put_36 i33 rfl q2940 q2076 q2077 q376 q2078 rfl hmX9_compare rfl rfl rfl rfl rfl rfl rfl rfl (k_mono h (fun r3 w4 h => ?_))
    refine x_istore 5 (ls' := [(2, 38), (0, a1), (0, a2), (0, a3), (0, a4), (0, r3)]) dX10_put_39 rfl rfl rfl ?_
    refine x_iload 5 dX10_put_41 rfl rfl ?_
    refine x_if_ne (t := 66) 23 dX10_put_43 rfl rfl (b_ite h (fun hc h => ?_) (fun hc h => ?_))
    · refine x_iload 5 dX10_put_66 rfl rfl ?_
      refine x_if_ge (t := 97) 29 dX10_put_68 rfl rfl (b_ite h (fun hc h => ?_) (fun hc h => ?_))
      · refine x_aload_n 0 dX10_put_97 rfl rfl rfl rfl rfl ?_
        refine x_iload_n 1 dX10_put_98 rfl rfl rfl ?_
        refine x_aload_n 0 dX10_put_99 rfl rfl rfl rfl rfl ?_
        refine x_iload_n 1 dX10_put_100 rfl rfl rfl ?_
        refine y_Vi 37 (M := mX10_low) (As := [(0, a1)]) (st := [(0, a1), (2, 38)]) dX10_put_101 i38 rfl q2616 q2618 qs118 q377 q2619 rfl hmX10_low rfl rfl rfl rfl rfl rfl rfl rfl (k_mono h (fun r5 w6 h => ?_))
        refine x_aload_n 0 dX10_put_104 rfl rfl rfl rfl rfl ?_
        refine x_aload_n 0 dX10_put_105 rfl rfl rfl rfl rfl ?_
        refine x_iload_n 1 dX10_put_106 rfl rfl rfl ?_
        refine y_Vi 40 (M := mX10_high) (As := [(0, a1)]) (st := [(2, 38), (0, r5), (0, a1), (2, 38)]) dX10_put_107 i38 rfl q2622 q2624 qs119 q377 q2625 rfl hmX10_high rfl rfl rfl rfl rfl rfl rfl rfl (k_mono h (fun r7 w8 h => ?_))
        refine x_iload_n 2 dX10_put_110 rfl rfl rfl ?_
        refine x_iload_n 3 dX10_put_111 rfl rfl rfl ?_
        refine x_iload 4 dX10_put_112 rfl rfl ?_
        refine y_Vi 46 (M := mX10_put) (As := [(0, r7), (0, a2), (0, a3), (0, a4)]) (st := [(0, r5), (0, a1), (2, 38)]) dX10_put_114 i38 rfl q2945 q2942 q2943 q377 q2944 rfl hmX10_put rfl rfl rfl rfl rfl rfl rfl rfl (k_mono h (fun r9 w10 h => ?_))
        refine y_Vi 49 (M := mX10_balance) (As := [(0, a1), (0, r5), (0, r9)]) (st := []) dX10_put_117 i38 rfl q2946 q2948 qs164 q377 q2949 rfl hmX10_balance rfl rfl rfl rfl rfl rfl rfl rfl (k_mono h (fun r11 w12 h => ?_))
        exact y_iret dX10_put_120 rfl h
      · refine x_aload_n 0 dX10_put_71 rfl rfl rfl rfl rfl ?_
        refine x_iload_n 1 dX10_put_72 rfl rfl rfl ?_
        refine x_aload_n 0 dX10_put_73 rfl rfl rfl rfl rfl ?_
        refine x_aload_n 0 dX10_put_74 rfl rfl rfl rfl rfl ?_
        refine x_iload_n 1 dX10_put_75 rfl rfl rfl ?_
        refine y_Vi 37 (M := mX10_low) (As := [(0, a1)]) (st := [(2, 38), (0, a1), (2, 38)]) dX10_put_76 i38 rfl q2616 q2618 qs118 q377 q2619 rfl hmX10_low rfl rfl rfl rfl rfl rfl rfl rfl (k_mono h (fun r13 w14 h => ?_))
        refine x_iload_n 2 dX10_put_79 rfl rfl rfl ?_
        refine x_iload_n 3 dX10_put_80 rfl rfl rfl ?_
        refine x_iload 4 dX10_put_81 rfl rfl ?_
        refine y_Vi 46 (M := mX10_put) (As := [(0, r13), (0, a2), (0, a3), (0, a4)]) (st := [(0, a1), (2, 38)]) dX10_put_83 i38 rfl q2945 q2942 q2943 q377 q2944 rfl hmX10_put rfl rfl rfl rfl rfl rfl rfl rfl (k_mono h (fun r15 w16 h => ?_))
        refine x_aload_n 0 dX10_put_86 rfl rfl rfl rfl rfl ?_
        refine x_iload_n 1 dX10_put_87 rfl rfl rfl ?_
        refine y_Vi 40 (M := mX10_high) (As := [(0, a1)]) (st := [(0, r15), (0, a1), (2, 38)]) dX10_put_88 i38 rfl q2622 q2624 qs119 q377 q2625 rfl hmX10_high rfl rfl rfl rfl rfl rfl rfl rfl (k_mono h (fun r17 w18 h => ?_))
        refine y_Vi 49 (M := mX10_balance) (As := [(0, a1), (0, r15), (0, r17)]) (st := []) dX10_put_91 i38 rfl q2946 q2948 qs164 q377 q2949 rfl hmX10_balance rfl rfl rfl rfl rfl rfl rfl rfl (k_mono h (fun r19 w20 h => ?_))
        refine x_goto 26 (q := 120) dX10_put_94 rfl ?_
        exact y_iret dX10_put_120 rfl h
    · refine x_aload_n 0 dX10_put_46 rfl rfl rfl rfl rfl ?_
      refine y_getF 7 0 (c := 9) (z := 27) dX10_put_47 i38 rfl in_X10 q857 rfl rfl rfl fn_38_0 (Nat.le_trans (Nat.le_of_ble_eq_true rfl) hn) rfl ?_
      refine x_iload_n 2 dX10_put_50 rfl rfl rfl ?_
      refine x_iload_n 3 dX10_put_51 rfl rfl rfl ?_
      refine x_aload_n 0 dX10_put_52 rfl rfl rfl rfl rfl ?_
      refine x_iload_n 1 dX10_put_53 rfl rfl rfl ?_
      refine y_Vi 37 (M := mX10_low) (As := [(0, a1)]) (st := [(0, a3), (0, a2), (2, 27)]) dX10_put_54 i38 rfl q2616 q2618 qs118 q377 q2619 rfl hmX10_low rfl rfl rfl rfl rfl rfl rfl rfl (k_mono h (fun r21 w22 h => ?_))
      refine x_aload_n 0 dX10_put_57 rfl rfl rfl rfl rfl ?_
      refine x_iload_n 1 dX10_put_58 rfl rfl rfl ?_
      refine y_Vi 40 (M := mX10_high) (As := [(0, a1)]) (st := [(0, r21), (0, a3), (0, a2), (2, 27)]) dX10_put_59 i38 rfl q2622 q2624 qs119 q377 q2625 rfl hmX10_high rfl rfl rfl rfl rfl rfl rfl rfl (k_mono h (fun r23 w24 h => ?_))
      refine y_Vi 29 (M := mX8_node) (As := [(0, a2), (0, a3), (0, r21), (0, r23)]) (st := []) dX10_put_62 i27 rfl q2126 q2127 q2128 q375 q2129 rfl hmX8_node rfl rfl rfl rfl rfl rfl rfl rfl (k_mono h (fun r25 w26 h => ?_))
      exact y_iret dX10_put_65 rfl h
  · refine x_aload_n 0 dX10_put_6 rfl rfl rfl rfl rfl ?_
    refine y_getF 7 0 (c := 9) (z := 27) dX10_put_7 i38 rfl in_X10 q857 rfl rfl rfl fn_38_0 (Nat.le_trans (Nat.le_of_ble_eq_true rfl) hn) rfl ?_
    refine x_iload_n 2 dX10_put_10 rfl rfl rfl ?_
    refine x_iload_n 3 dX10_put_11 rfl rfl rfl ?_
    refine x_bipush 12 (z := 12) dX10_put_12 rfl (by decide) rfl ?_
    refine x_bipush 12 (z := 12) dX10_put_14 rfl (by decide) rfl ?_
    refine y_Vi 29 (M := mX8_node) (As := [(0, a2), (0, a3), (0, 12), (0, 12)]) (st := []) dX10_put_16 i27 rfl q2126 q2127 q2128 q375 q2129 rfl hmX8_node rfl rfl rfl rfl rfl rfl rfl rfl (k_mono h (fun r27 w28 h => ?_))
    exact y_iret dX10_put_19 rfl h
theorem rX10_balance {d n : Nat} {w : bW} {Q : Int → bW → Prop} {X : String → bW → Prop} (hn : 143 ≤ n) (a1 : Int) (a2 : Int) (a3 : Int) (h : b_K d mX8_height [(2, 27), (0, a2)] n w (fun r1 w2 => b_K d mX8_height [(2, 27), (0, a3)] n w2 (fun r3 w4 => if b_i (r1 - r3) ≤ 1 then (if (-1) ≤ b_i (r1 - r3) then (b_K d mX10_like [(2, 38), (0, a1), (0, a2), (0, a3)] n w4 (fun r5 w6 => Q r5 w6) X) else (b_K d mX10_high [(2, 38), (0, a3)] n w4 (fun r7 w8 => b_K d mX8_height [(2, 27), (0, r7)] n w8 (fun r9 w10 => b_K d mX10_low [(2, 38), (0, a3)] n w10 (fun r11 w12 => b_K d mX8_height [(2, 27), (0, r11)] n w12 (fun r13 w14 => if r9 < r13 then (b_K d mX10_low [(2, 38), (0, a3)] n w14 (fun r15 w16 => b_K d mX10_low [(2, 38), (0, r15)] n w16 (fun r17 w18 => b_K d mX10_like [(2, 38), (0, a1), (0, a2), (0, r17)] n w18 (fun r19 w20 => b_K d mX10_high [(2, 38), (0, r15)] n w20 (fun r21 w22 => b_K d mX10_high [(2, 38), (0, a3)] n w22 (fun r23 w24 => b_K d mX10_like [(2, 38), (0, a3), (0, r21), (0, r23)] n w24 (fun r25 w26 => b_K d mX10_like [(2, 38), (0, r15), (0, r19), (0, r25)] n w26 (fun r27 w28 => Q r27 w28) X) X) X) X) X) X) X) else (b_K d mX10_low [(2, 38), (0, a3)] n w14 (fun r29 w30 => b_K d mX10_like [(2, 38), (0, a1), (0, a2), (0, r29)] n w30 (fun r31 w32 => b_K d mX10_high [(2, 38), (0, a3)] n w32 (fun r33 w34 => b_K d mX10_like [(2, 38), (0, a3), (0, r31), (0, r33)] n w34 (fun r35 w36 => Q r35 w36) X) X) X) X)) X) X) X) X)) else (b_K d mX10_low [(2, 38), (0, a2)] n w4 (fun r37 w38 => b_K d mX8_height [(2, 27), (0, r37)] n w38 (fun r39 w40 => b_K d mX10_high [(2, 38), (0, a2)] n w40 (fun r41 w42 => b_K d mX8_height [(2, 27), (0, r41)] n w42 (fun r43 w44 => if r39 < r43 then (b_K d mX10_high [(2, 38), (0, a2)] n w44 (fun r45 w46 => b_K d mX10_low [(2, 38), (0, a2)] n w46 (fun r47 w48 => b_K d mX10_low [(2, 38), (0, r45)] n w48 (fun r49 w50 => b_K d mX10_like [(2, 38), (0, a2), (0, r47), (0, r49)] n w50 (fun r51 w52 => b_K d mX10_high [(2, 38), (0, r45)] n w52 (fun r53 w54 => b_K d mX10_like [(2, 38), (0, a1), (0, r53), (0, a3)] n w54 (fun r55 w56 => b_K d mX10_like [(2, 38), (0, r45), (0, r51), (0, r55)] n w56 (fun r57 w58 => Q r57 w58) X) X) X) X) X) X) X) else (b_K d mX10_low [(2, 38), (0, a2)] n w44 (fun r59 w60 => b_K d mX10_high [(2, 38), (0, a2)] n w60 (fun r61 w62 => b_K d mX10_like [(2, 38), (0, a1), (0, r61), (0, a3)] n w62 (fun r63 w64 => b_K d mX10_like [(2, 38), (0, a2), (0, r59), (0, r63)] n w64 (fun r65 w66 => Q r65 w66) X) X) X) X)) X) X) X) X)) X) X) : b_K (d + 1) mX10_balance [(2, 38), (0, a1), (0, a2), (0, a3)] n w Q X := by
  have i27 := iz27 (Nat.le_trans (Nat.le_of_ble_eq_true rfl) hn)
  have i38 := iz38 (Nat.le_trans (Nat.le_of_ble_eq_true rfl) hn)
  refine k_of (by decide) rfl rfl rfl (ls := [(2, 38), (0, a1), (0, a2), (0, a3), (9, 0), (9, 0)]) rfl ?_
  refine x_aload_n 0 dX10_balance_0 rfl rfl rfl rfl rfl ?_
  refine y_getF 7 0 (c := 9) (z := 27) dX10_balance_1 i38 rfl in_X10 q857 rfl rfl rfl fn_38_0 (Nat.le_trans (Nat.le_of_ble_eq_true rfl) hn) rfl ?_
  refine x_iload_n 2 dX10_balance_4 rfl rfl rfl ?_
  refine y_Vi 33 (M := mX8_height) (As := [(0, a2)]) (st := []) dX10_balance_5 i27 rfl q2950 q2139 q2140 q375 q2141 rfl hmX8_height rfl rfl rfl rfl rfl rfl rfl rfl (k_mono h (fun r1 w2 h => ?_))
  refine x_aload_n 0 dX10_balance_8 rfl rfl rfl rfl rfl ?_
  refine y_getF 7 0 (c := 9) (z := 27) dX10_balance_9 i38 rfl in_X10 q857 rfl rfl rfl fn_38_0 (Nat.le_trans (Nat.le_of_ble_eq_true rfl) hn) rfl ?_
  refine x_iload_n 3 dX10_balance_12 rfl rfl rfl ?_
  refine y_Vi 33 (M := mX8_height) (As := [(0, a3)]) (st := [(0, r1)]) dX10_balance_13 i27 rfl q2950 q2139 q2140 q375 q2141 rfl hmX8_height rfl rfl rfl rfl rfl rfl rfl rfl (k_mono h (fun r3 w4 h => ?_))
  refine x_isub dX10_balance_16 rfl ?_
  refine x_istore 4 (ls' := [(2, 38), (0, a1), (0, a2), (0, a3), (0, b_i (r1 - r3)), (9, 0)]) dX10_balance_17 rfl rfl rfl ?_
  refine x_iload 4 dX10_balance_19 rfl rfl ?_
  refine x_iconst 1 (z := 1) dX10_balance_21 rfl (by decide) rfl ?_
  refine x_icmp_le (t := 116) 94 dX10_balance_22 rfl rfl (b_ite h (fun hc h => ?_) (fun hc h => ?_))
  · refine x_iload 4 dX10_balance_116 rfl rfl ?_
    refine x_iconst (-1) (z := (-1)) dX10_balance_118 rfl (by decide) rfl ?_
    refine x_icmp_ge (t := 213) 94 dX10_balance_119 rfl rfl (b_ite h (fun hc h => ?_) (fun hc h => ?_))
    · refine x_aload_n 0 dX10_balance_213 rfl rfl rfl rfl rfl ?_
      refine x_iload_n 1 dX10_balance_214 rfl rfl rfl ?_
      refine x_iload_n 2 dX10_balance_215 rfl rfl rfl ?_
      refine x_iload_n 3 dX10_balance_216 rfl rfl rfl ?_
      refine y_Vi 43 (M := mX10_like) (As := [(0, a1), (0, a2), (0, a3)]) (st := []) dX10_balance_217 i38 rfl q2951 q2953 qs165 q377 q2954 rfl hmX10_like rfl rfl rfl rfl rfl rfl rfl rfl (k_mono h (fun r5 w6 h => ?_))
      exact y_iret dX10_balance_220 rfl h
    · refine x_aload_n 0 dX10_balance_122 rfl rfl rfl rfl rfl ?_
      refine y_getF 7 0 (c := 9) (z := 27) dX10_balance_123 i38 rfl in_X10 q857 rfl rfl rfl fn_38_0 (Nat.le_trans (Nat.le_of_ble_eq_true rfl) hn) rfl ?_
      refine x_aload_n 0 dX10_balance_126 rfl rfl rfl rfl rfl ?_
      refine x_iload_n 3 dX10_balance_127 rfl rfl rfl ?_
      refine y_Vi 40 (M := mX10_high) (As := [(0, a3)]) (st := [(2, 27)]) dX10_balance_128 i38 rfl q2622 q2624 qs119 q377 q2625 rfl hmX10_high rfl rfl rfl rfl rfl rfl rfl rfl (k_mono h (fun r7 w8 h => ?_))
      refine y_Vi 33 (M := mX8_height) (As := [(0, r7)]) (st := []) dX10_balance_131 i27 rfl q2950 q2139 q2140 q375 q2141 rfl hmX8_height rfl rfl rfl rfl rfl rfl rfl rfl (k_mono h (fun r9 w10 h => ?_))
      refine x_aload_n 0 dX10_balance_134 rfl rfl rfl rfl rfl ?_
      refine y_getF 7 0 (c := 9) (z := 27) dX10_balance_135 i38 rfl in_X10 q857 rfl rfl rfl fn_38_0 (Nat.le_trans (Nat.le_of_ble_eq_true rfl) hn) rfl ?_
      refine x_aload_n 0 dX10_balance_138 rfl rfl rfl rfl rfl ?_
      refine x_iload_n 3 dX10_balance_139 rfl rfl rfl ?_
      refine y_Vi 37 (M := mX10_low) (As := [(0, a3)]) (st := [(2, 27), (0, r9)]) dX10_balance_140 i38 rfl q2616 q2618 qs118 q377 q2619 rfl hmX10_low rfl rfl rfl rfl rfl rfl rfl rfl (k_mono h (fun r11 w12 h => ?_))
      refine y_Vi 33 (M := mX8_height) (As := [(0, r11)]) (st := [(0, r9)]) dX10_balance_143 i27 rfl q2950 q2139 q2140 q375 q2141 rfl hmX8_height rfl rfl rfl rfl rfl rfl rfl rfl (k_mono h (fun r13 w14 h => ?_))
      refine x_icmp_lt (t := 171) 25 dX10_balance_146 rfl rfl (b_ite h (fun hc h => ?_) (fun hc h => ?_))
      · refine x_aload_n 0 dX10_balance_171 rfl rfl rfl rfl rfl ?_
        refine x_iload_n 3 dX10_balance_172 rfl rfl rfl ?_
        refine y_Vi 37 (M := mX10_low) (As := [(0, a3)]) (st := []) dX10_balance_173 i38 rfl q2616 q2618 qs118 q377 q2619 rfl hmX10_low rfl rfl rfl rfl rfl rfl rfl rfl (k_mono h (fun r15 w16 h => ?_))
        refine x_istore 5 (ls' := [(2, 38), (0, a1), (0, a2), (0, a3), (0, b_i (r1 - r3)), (0, r15)]) dX10_balance_176 rfl rfl rfl ?_
        refine x_aload_n 0 dX10_balance_178 rfl rfl rfl rfl rfl ?_
        refine x_iload 5 dX10_balance_179 rfl rfl ?_
        refine x_aload_n 0 dX10_balance_181 rfl rfl rfl rfl rfl ?_
        refine x_iload_n 1 dX10_balance_182 rfl rfl rfl ?_
        refine x_iload_n 2 dX10_balance_183 rfl rfl rfl ?_
        refine x_aload_n 0 dX10_balance_184 rfl rfl rfl rfl rfl ?_
        refine x_iload 5 dX10_balance_185 rfl rfl ?_
        refine y_Vi 37 (M := mX10_low) (As := [(0, r15)]) (st := [(0, a2), (0, a1), (2, 38), (0, r15), (2, 38)]) dX10_balance_187 i38 rfl q2616 q2618 qs118 q377 q2619 rfl hmX10_low rfl rfl rfl rfl rfl rfl rfl rfl (k_mono h (fun r17 w18 h => ?_))
        refine y_Vi 43 (M := mX10_like) (As := [(0, a1), (0, a2), (0, r17)]) (st := [(0, r15), (2, 38)]) dX10_balance_190 i38 rfl q2951 q2953 qs165 q377 q2954 rfl hmX10_like rfl rfl rfl rfl rfl rfl rfl rfl (k_mono h (fun r19 w20 h => ?_))
        refine x_aload_n 0 dX10_balance_193 rfl rfl rfl rfl rfl ?_
        refine x_iload_n 3 dX10_balance_194 rfl rfl rfl ?_
        refine x_aload_n 0 dX10_balance_195 rfl rfl rfl rfl rfl ?_
        refine x_iload 5 dX10_balance_196 rfl rfl ?_
        refine y_Vi 40 (M := mX10_high) (As := [(0, r15)]) (st := [(0, a3), (2, 38), (0, r19), (0, r15), (2, 38)]) dX10_balance_198 i38 rfl q2622 q2624 qs119 q377 q2625 rfl hmX10_high rfl rfl rfl rfl rfl rfl rfl rfl (k_mono h (fun r21 w22 h => ?_))
        refine x_aload_n 0 dX10_balance_201 rfl rfl rfl rfl rfl ?_
        refine x_iload_n 3 dX10_balance_202 rfl rfl rfl ?_
        refine y_Vi 40 (M := mX10_high) (As := [(0, a3)]) (st := [(0, r21), (0, a3), (2, 38), (0, r19), (0, r15), (2, 38)]) dX10_balance_203 i38 rfl q2622 q2624 qs119 q377 q2625 rfl hmX10_high rfl rfl rfl rfl rfl rfl rfl rfl (k_mono h (fun r23 w24 h => ?_))
        refine y_Vi 43 (M := mX10_like) (As := [(0, a3), (0, r21), (0, r23)]) (st := [(0, r19), (0, r15), (2, 38)]) dX10_balance_206 i38 rfl q2951 q2953 qs165 q377 q2954 rfl hmX10_like rfl rfl rfl rfl rfl rfl rfl rfl (k_mono h (fun r25 w26 h => ?_))
        refine y_Vi 43 (M := mX10_like) (As := [(0, r15), (0, r19), (0, r25)]) (st := []) dX10_balance_209 i38 rfl q2951 q2953 qs165 q377 q2954 rfl hmX10_like rfl rfl rfl rfl rfl rfl rfl rfl (k_mono h (fun r27 w28 h => ?_))
        exact y_iret dX10_balance_212 rfl h
      · refine x_aload_n 0 dX10_balance_149 rfl rfl rfl rfl rfl ?_
        refine x_iload_n 3 dX10_balance_150 rfl rfl rfl ?_
        refine x_aload_n 0 dX10_balance_151 rfl rfl rfl rfl rfl ?_
        refine x_iload_n 1 dX10_balance_152 rfl rfl rfl ?_
        refine x_iload_n 2 dX10_balance_153 rfl rfl rfl ?_
        refine x_aload_n 0 dX10_balance_154 rfl rfl rfl rfl rfl ?_
        refine x_iload_n 3 dX10_balance_155 rfl rfl rfl ?_
        refine y_Vi 37 (M := mX10_low) (As := [(0, a3)]) (st := [(0, a2), (0, a1), (2, 38), (0, a3), (2, 38)]) dX10_balance_156 i38 rfl q2616 q2618 qs118 q377 q2619 rfl hmX10_low rfl rfl rfl rfl rfl rfl rfl rfl (k_mono h (fun r29 w30 h => ?_))
        refine y_Vi 43 (M := mX10_like) (As := [(0, a1), (0, a2), (0, r29)]) (st := [(0, a3), (2, 38)]) dX10_balance_159 i38 rfl q2951 q2953 qs165 q377 q2954 rfl hmX10_like rfl rfl rfl rfl rfl rfl rfl rfl (k_mono h (fun r31 w32 h => ?_))
        refine x_aload_n 0 dX10_balance_162 rfl rfl rfl rfl rfl ?_
        refine x_iload_n 3 dX10_balance_163 rfl rfl rfl ?_
        refine y_Vi 40 (M := mX10_high) (As := [(0, a3)]) (st := [(0, r31), (0, a3), (2, 38)]) dX10_balance_164 i38 rfl q2622 q2624 qs119 q377 q2625 rfl hmX10_high rfl rfl rfl rfl rfl rfl rfl rfl (k_mono h (fun r33 w34 h => ?_))
        refine y_Vi 43 (M := mX10_like) (As := [(0, a3), (0, r31), (0, r33)]) (st := []) dX10_balance_167 i38 rfl q2951 q2953 qs165 q377 q2954 rfl hmX10_like rfl rfl rfl rfl rfl rfl rfl rfl (k_mono h (fun r35 w36 h => ?_))
        exact y_iret dX10_balance_170 rfl h
  · refine x_aload_n 0 dX10_balance_25 rfl rfl rfl rfl rfl ?_
    refine y_getF 7 0 (c := 9) (z := 27) dX10_balance_26 i38 rfl in_X10 q857 rfl rfl rfl fn_38_0 (Nat.le_trans (Nat.le_of_ble_eq_true rfl) hn) rfl ?_
    refine x_aload_n 0 dX10_balance_29 rfl rfl rfl rfl rfl ?_
    refine x_iload_n 2 dX10_balance_30 rfl rfl rfl ?_
    refine y_Vi 37 (M := mX10_low) (As := [(0, a2)]) (st := [(2, 27)]) dX10_balance_31 i38 rfl q2616 q2618 qs118 q377 q2619 rfl hmX10_low rfl rfl rfl rfl rfl rfl rfl rfl (k_mono h (fun r37 w38 h => ?_))
    refine y_Vi 33 (M := mX8_height) (As := [(0, r37)]) (st := []) dX10_balance_34 i27 rfl q2950 q2139 q2140 q375 q2141 rfl hmX8_height rfl rfl rfl rfl rfl rfl rfl rfl (k_mono h (fun r39 w40 h => ?_))
    refine x_aload_n 0 dX10_balance_37 rfl rfl rfl rfl rfl ?_
    refine y_getF 7 0 (c := 9) (z := 27) dX10_balance_38 i38 rfl in_X10 q857 rfl rfl rfl fn_38_0 (Nat.le_trans (Nat.le_of_ble_eq_true rfl) hn) rfl ?_
    refine x_aload_n 0 dX10_balance_41 rfl rfl rfl rfl rfl ?_
    refine x_iload_n 2 dX10_balance_42 rfl rfl rfl ?_
    refine y_Vi 40 (M := mX10_high) (As := [(0, a2)]) (st := [(2, 27), (0, r39)]) dX10_balance_43 i38 rfl q2622 q2624 qs119 q377 q2625 rfl hmX10_high rfl rfl rfl rfl rfl rfl rfl rfl (k_mono h (fun r41 w42 h => ?_))
    refine y_Vi 33 (M := mX8_height) (As := [(0, r41)]) (st := [(0, r39)]) dX10_balance_46 i27 rfl q2950 q2139 q2140 q375 q2141 rfl hmX8_height rfl rfl rfl rfl rfl rfl rfl rfl (k_mono h (fun r43 w44 h => ?_))
    refine x_icmp_lt (t := 74) 25 dX10_balance_49 rfl rfl (b_ite h (fun hc h => ?_) (fun hc h => ?_))
    · refine x_aload_n 0 dX10_balance_74 rfl rfl rfl rfl rfl ?_
      refine x_iload_n 2 dX10_balance_75 rfl rfl rfl ?_
      refine y_Vi 40 (M := mX10_high) (As := [(0, a2)]) (st := []) dX10_balance_76 i38 rfl q2622 q2624 qs119 q377 q2625 rfl hmX10_high rfl rfl rfl rfl rfl rfl rfl rfl (k_mono h (fun r45 w46 h => ?_))
      refine x_istore 5 (ls' := [(2, 38), (0, a1), (0, a2), (0, a3), (0, b_i (r1 - r3)), (0, r45)]) dX10_balance_79 rfl rfl rfl ?_
      refine x_aload_n 0 dX10_balance_81 rfl rfl rfl rfl rfl ?_
      refine x_iload 5 dX10_balance_82 rfl rfl ?_
      refine x_aload_n 0 dX10_balance_84 rfl rfl rfl rfl rfl ?_
      refine x_iload_n 2 dX10_balance_85 rfl rfl rfl ?_
      refine x_aload_n 0 dX10_balance_86 rfl rfl rfl rfl rfl ?_
      refine x_iload_n 2 dX10_balance_87 rfl rfl rfl ?_
      refine y_Vi 37 (M := mX10_low) (As := [(0, a2)]) (st := [(0, a2), (2, 38), (0, r45), (2, 38)]) dX10_balance_88 i38 rfl q2616 q2618 qs118 q377 q2619 rfl hmX10_low rfl rfl rfl rfl rfl rfl rfl rfl (k_mono h (fun r47 w48 h => ?_))
      refine x_aload_n 0 dX10_balance_91 rfl rfl rfl rfl rfl ?_
      refine x_iload 5 dX10_balance_92 rfl rfl ?_
      refine y_Vi 37 (M := mX10_low) (As := [(0, r45)]) (st := [(0, r47), (0, a2), (2, 38), (0, r45), (2, 38)]) dX10_balance_94 i38 rfl q2616 q2618 qs118 q377 q2619 rfl hmX10_low rfl rfl rfl rfl rfl rfl rfl rfl (k_mono h (fun r49 w50 h => ?_))
      refine y_Vi 43 (M := mX10_like) (As := [(0, a2), (0, r47), (0, r49)]) (st := [(0, r45), (2, 38)]) dX10_balance_97 i38 rfl q2951 q2953 qs165 q377 q2954 rfl hmX10_like rfl rfl rfl rfl rfl rfl rfl rfl (k_mono h (fun r51 w52 h => ?_))
      refine x_aload_n 0 dX10_balance_100 rfl rfl rfl rfl rfl ?_
      refine x_iload_n 1 dX10_balance_101 rfl rfl rfl ?_
      refine x_aload_n 0 dX10_balance_102 rfl rfl rfl rfl rfl ?_
      refine x_iload 5 dX10_balance_103 rfl rfl ?_
      refine y_Vi 40 (M := mX10_high) (As := [(0, r45)]) (st := [(0, a1), (2, 38), (0, r51), (0, r45), (2, 38)]) dX10_balance_105 i38 rfl q2622 q2624 qs119 q377 q2625 rfl hmX10_high rfl rfl rfl rfl rfl rfl rfl rfl (k_mono h (fun r53 w54 h => ?_))
      refine x_iload_n 3 dX10_balance_108 rfl rfl rfl ?_
      refine y_Vi 43 (M := mX10_like) (As := [(0, a1), (0, r53), (0, a3)]) (st := [(0, r51), (0, r45), (2, 38)]) dX10_balance_109 i38 rfl q2951 q2953 qs165 q377 q2954 rfl hmX10_like rfl rfl rfl rfl rfl rfl rfl rfl (k_mono h (fun r55 w56 h => ?_))
      refine y_Vi 43 (M := mX10_like) (As := [(0, r45), (0, r51), (0, r55)]) (st := []) dX10_balance_112 i38 rfl q2951 q2953 qs165 q377 q2954 rfl hmX10_like rfl rfl rfl rfl rfl rfl rfl rfl (k_mono h (fun r57 w58 h => ?_))
      exact y_iret dX10_balance_115 rfl h
    · refine x_aload_n 0 dX10_balance_52 rfl rfl rfl rfl rfl ?_
      refine x_iload_n 2 dX10_balance_53 rfl rfl rfl ?_
      refine x_aload_n 0 dX10_balance_54 rfl rfl rfl rfl rfl ?_
      refine x_iload_n 2 dX10_balance_55 rfl rfl rfl ?_
      refine y_Vi 37 (M := mX10_low) (As := [(0, a2)]) (st := [(0, a2), (2, 38)]) dX10_balance_56 i38 rfl q2616 q2618 qs118 q377 q2619 rfl hmX10_low rfl rfl rfl rfl rfl rfl rfl rfl (k_mono h (fun r59 w60 h => ?_))
      refine x_aload_n 0 dX10_balance_59 rfl rfl rfl rfl rfl ?_
      refine x_iload_n 1 dX10_balance_60 rfl rfl rfl ?_
      refine x_aload_n 0 dX10_balance_61 rfl rfl rfl rfl rfl ?_
      refine x_iload_n 2 dX10_balance_62 rfl rfl rfl ?_
      refine y_Vi 40 (M := mX10_high) (As := [(0, a2)]) (st := [(0, a1), (2, 38), (0, r59), (0, a2), (2, 38)]) dX10_balance_63 i38 rfl q2622 q2624 qs119 q377 q2625 rfl hmX10_high rfl rfl rfl rfl rfl rfl rfl rfl (k_mono h (fun r61 w62 h => ?_))
      refine x_iload_n 3 dX10_balance_66 rfl rfl rfl ?_
      refine y_Vi 43 (M := mX10_like) (As := [(0, a1), (0, r61), (0, a3)]) (st := [(0, r59), (0, a2), (2, 38)]) dX10_balance_67 i38 rfl q2951 q2953 qs165 q377 q2954 rfl hmX10_like rfl rfl rfl rfl rfl rfl rfl rfl (k_mono h (fun r63 w64 h => ?_))
      refine y_Vi 43 (M := mX10_like) (As := [(0, a2), (0, r59), (0, r63)]) (st := []) dX10_balance_70 i38 rfl q2951 q2953 qs165 q377 q2954 rfl hmX10_like rfl rfl rfl rfl rfl rfl rfl rfl (k_mono h (fun r65 w66 h => ?_))
      exact y_iret dX10_balance_73 rfl h
theorem rX10_like {d n : Nat} {w : bW} {Q : Int → bW → Prop} {X : String → bW → Prop} (hn : 143 ≤ n) (a1 : Int) (a2 : Int) (a3 : Int) (h : b_K d mX8_cell [(2, 27), (0, a1), (0, 2)] n w (fun r1 w2 => b_K d mX8_cell [(2, 27), (0, a1), (0, 3)] n w2 (fun r3 w4 => b_K d mX8_node [(2, 27), (0, r1), (0, r3), (0, a2), (0, a3)] n w4 (fun r5 w6 => Q r5 w6) X) X) X) : b_K (d + 1) mX10_like [(2, 38), (0, a1), (0, a2), (0, a3)] n w Q X := by
  have i27 := iz27 (Nat.le_trans (Nat.le_of_ble_eq_true rfl) hn)
  have i38 := iz38 (Nat.le_trans (Nat.le_of_ble_eq_true rfl) hn)
  refine k_of (by decide) rfl rfl rfl (ls := [(2, 38), (0, a1), (0, a2), (0, a3)]) rfl ?_
  refine x_aload_n 0 dX10_like_0 rfl rfl rfl rfl rfl ?_
  refine y_getF 7 0 (c := 9) (z := 27) dX10_like_1 i38 rfl in_X10 q857 rfl rfl rfl fn_38_0 (Nat.le_trans (Nat.le_of_ble_eq_true rfl) hn) rfl ?_
  refine x_aload_n 0 dX10_like_4 rfl rfl rfl rfl rfl ?_
  refine y_getF 7 0 (c := 9) (z := 27) dX10_like_5 i38 rfl in_X10 q857 rfl rfl rfl fn_38_0 (Nat.le_trans (Nat.le_of_ble_eq_true rfl) hn) rfl ?_
  refine x_iload_n 1 dX10_like_8 rfl rfl rfl ?_
  refine x_iconst 2 (z := 2) dX10_like_9 rfl (by decide) rfl ?_
  refine y_Vi 19 (M := mX8_cell) (As := [(0, a1), (0, 2)]) (st := [(2, 27)]) dX10_like_10 i27 rfl q2620 q2010 q2011 q375 q2012 rfl hmX8_cell rfl rfl rfl rfl rfl rfl rfl rfl (k_mono h (fun r1 w2 h => ?_))
  refine x_aload_n 0 dX10_like_13 rfl rfl rfl rfl rfl ?_
  refine y_getF 7 0 (c := 9) (z := 27) dX10_like_14 i38 rfl in_X10 q857 rfl rfl rfl fn_38_0 (Nat.le_trans (Nat.le_of_ble_eq_true rfl) hn) rfl ?_
  refine x_iload_n 1 dX10_like_17 rfl rfl rfl ?_
  refine x_iconst 3 (z := 3) dX10_like_18 rfl (by decide) rfl ?_
  refine y_Vi 19 (M := mX8_cell) (As := [(0, a1), (0, 3)]) (st := [(0, r1), (2, 27)]) dX10_like_19 i27 rfl q2620 q2010 q2011 q375 q2012 rfl hmX8_cell rfl rfl rfl rfl rfl rfl rfl rfl (k_mono h (fun r3 w4 h => ?_))
  refine x_iload_n 2 dX10_like_22 rfl rfl rfl ?_
  refine x_iload_n 3 dX10_like_23 rfl rfl rfl ?_
  refine y_Vi 29 (M := mX8_node) (As := [(0, r1), (0, r3), (0, a2), (0, a3)]) (st := []) dX10_like_24 i27 rfl q2126 q2127 q2128 q375 q2129 rfl hmX8_node rfl rfl rfl rfl rfl rfl rfl rfl (k_mono h (fun r5 w6 h => ?_))
  exact y_iret dX10_like_27 rfl h
theorem rX10_remove {d n : Nat} {w : bW} {Q : Int → bW → Prop} {X : String → bW → Prop} (hn : 143 ≤ n) (a1 : Int) (a2 : Int) (a3 : Int) (h : b_K d mX8_cell [(2, 27), (0, a1), (0, 2)] n w (fun r1 w2 => b_K d mX9_compare [(2, 33), (0, a2), (0, r1), (0, a3)] n w2 (fun r3 w4 => if 0 ≤ r3 then (if r3 ≤ 0 then (b_K d mX10_low [(2, 38), (0, a1)] n w4 (fun r5 w6 => if r5 ≠ 12 then (b_K d mX10_high [(2, 38), (0, a1)] n w6 (fun r7 w8 => if r7 ≠ 12 then (b_K d mX10_high [(2, 38), (0, a1)] n w8 (fun r9 w10 => b_K d mX10_first [(2, 38), (0, r9)] n w10 (fun r11 w12 => b_K d mX10_low [(2, 38), (0, a1)] n w12 (fun r13 w14 => b_K d mX10_high [(2, 38), (0, a1)] n w14 (fun r15 w16 => b_K d mX10_withoutFirst [(2, 38), (0, r15)] n w16 (fun r17 w18 => b_K d mX10_balance [(2, 38), (0, r11), (0, r13), (0, r17)] n w18 (fun r19 w20 => Q r19 w20) X) X) X) X) X) X) else (b_K d mX10_low [(2, 38), (0, a1)] n w8 (fun r21 w22 => Q r21 w22) X)) X) else (b_K d mX10_high [(2, 38), (0, a1)] n w6 (fun r23 w24 => Q r23 w24) X)) X) else (b_K d mX10_low [(2, 38), (0, a1)] n w4 (fun r25 w26 => b_K d mX10_high [(2, 38), (0, a1)] n w26 (fun r27 w28 => b_K d mX10_remove [(2, 38), (0, r27), (0, a2), (0, a3)] n w28 (fun r29 w30 => b_K d mX10_balance [(2, 38), (0, a1), (0, r25), (0, r29)] n w30 (fun r31 w32 => Q r31 w32) X) X) X) X)) else (b_K d mX10_low [(2, 38), (0, a1)] n w4 (fun r33 w34 => b_K d mX10_remove [(2, 38), (0, r33), (0, a2), (0, a3)] n w34 (fun r35 w36 => b_K d mX10_high [(2, 38), (0, a1)] n w36 (fun r37 w38 => b_K d mX10_balance [(2, 38), (0, a1), (0, r35), (0, r37)] n w38 (fun r39 w40 => Q r39 w40) X) X) X) X)) X) X) : b_K (d + 1) mX10_remove [(2, 38), (0, a1), (0, a2), (0, a3)] n w Q X := by
  have i27 := iz27 (Nat.le_trans (Nat.le_of_ble_eq_true rfl) hn)
  have i33 := iz33 (Nat.le_trans (Nat.le_of_ble_eq_true rfl) hn)
  have i38 := iz38 (Nat.le_trans (Nat.le_of_ble_eq_true rfl) hn)
  refine k_of (by decide) rfl rfl rfl (ls := [(2, 38), (0, a1), (0, a2), (0, a3), (9, 0)]) rfl ?_
  refine x_aload_n 0 dX10_remove_0 rfl rfl rfl rfl rfl ?_
  refine y_getF 13 1 (c := 9) (z := 33) dX10_remove_1 i38 rfl in_X10 q858 rfl rfl rfl fn_38_1 (Nat.le_trans (Nat.le_of_ble_eq_true rfl) hn) rfl ?_
  refine x_iload_n 2 dX10_remove_4 rfl rfl rfl ?_
  refine x_aload_n 0 dX10_remove_5 rfl rfl rfl rfl rfl ?_
  refine y_getF 7 0 (c := 9) (z := 27) dX10_remove_6 i38 rfl in_X10 q857 rfl rfl rfl fn_38_0 (Nat.le_trans (Nat.le_of_ble_eq_true rfl) hn) rfl ?_
  refine x_iload_n 1 dX10_remove_9 rfl rfl rfl ?_
  refine x_iconst 2 (z := 2) dX10_remove_10 rfl (by decide) rfl ?_
  refine y_Vi 19 (M := mX8_cell) (As := [(0, a1), (0, 2)]) (st := [(0, a2), (2, 33)]) dX10_remove_11 i27 rfl q2620 q2010 q2011 q375 q2012 rfl hmX8_cell rfl rfl rfl rfl rfl rfl rfl rfl (k_mono h (fun r1 w2 h => ?_))
  refine x_iload_n 3 dX10_remove_14 rfl rfl rfl ?_
  refine y_Vi 23 (M := mX9_compare) (As := [(0, a2), (0, r1), (0, a3)]) (st := []) dX10_remove_15 i33 rfl q2940 q2076 q2077 q376 q2078 rfl hmX9_compare rfl rfl rfl rfl rfl rfl rfl rfl (k_mono h (fun r3 w4 h => ?_))
  refine x_istore 4 (ls' := [(2, 38), (0, a1), (0, a2), (0, a3), (0, r3)]) dX10_remove_18 rfl rfl rfl ?_
  refine x_iload 4 dX10_remove_20 rfl rfl ?_
  refine x_if_ge (t := 47) 25 dX10_remove_22 rfl rfl (b_ite h (fun hc h => ?_) (fun hc h => ?_))
  · refine x_iload 4 dX10_remove_47 rfl rfl ?_
    refine x_if_le (t := 74) 25 dX10_remove_49 rfl rfl (b_ite h (fun hc h => ?_) (fun hc h => ?_))
    · refine x_aload_n 0 dX10_remove_74 rfl rfl rfl rfl rfl ?_
      refine x_iload_n 1 dX10_remove_75 rfl rfl rfl ?_
      refine y_Vi 37 (M := mX10_low) (As := [(0, a1)]) (st := []) dX10_remove_76 i38 rfl q2616 q2618 qs118 q377 q2619 rfl hmX10_low rfl rfl rfl rfl rfl rfl rfl rfl (k_mono h (fun r5 w6 h => ?_))
      refine x_bipush 12 (z := 12) dX10_remove_79 rfl (by decide) rfl ?_
      refine x_icmp_ne (t := 90) 9 dX10_remove_81 rfl rfl (b_ite h (fun hc h => ?_) (fun hc h => ?_))
      · refine x_aload_n 0 dX10_remove_90 rfl rfl rfl rfl rfl ?_
        refine x_iload_n 1 dX10_remove_91 rfl rfl rfl ?_
        refine y_Vi 40 (M := mX10_high) (As := [(0, a1)]) (st := []) dX10_remove_92 i38 rfl q2622 q2624 qs119 q377 q2625 rfl hmX10_high rfl rfl rfl rfl rfl rfl rfl rfl (k_mono h (fun r7 w8 h => ?_))
        refine x_bipush 12 (z := 12) dX10_remove_95 rfl (by decide) rfl ?_
        refine x_icmp_ne (t := 106) 9 dX10_remove_97 rfl rfl (b_ite h (fun hc h => ?_) (fun hc h => ?_))
        · refine x_aload_n 0 dX10_remove_106 rfl rfl rfl rfl rfl ?_
          refine x_aload_n 0 dX10_remove_107 rfl rfl rfl rfl rfl ?_
          refine x_aload_n 0 dX10_remove_108 rfl rfl rfl rfl rfl ?_
          refine x_iload_n 1 dX10_remove_109 rfl rfl rfl ?_
          refine y_Vi 40 (M := mX10_high) (As := [(0, a1)]) (st := [(2, 38), (2, 38)]) dX10_remove_110 i38 rfl q2622 q2624 qs119 q377 q2625 rfl hmX10_high rfl rfl rfl rfl rfl rfl rfl rfl (k_mono h (fun r9 w10 h => ?_))
          refine y_Vi 58 (M := mX10_first) (As := [(0, r9)]) (st := [(2, 38)]) dX10_remove_113 i38 rfl q2960 q2962 qs166 q377 q2963 rfl hmX10_first rfl rfl rfl rfl rfl rfl rfl rfl (k_mono h (fun r11 w12 h => ?_))
          refine x_aload_n 0 dX10_remove_116 rfl rfl rfl rfl rfl ?_
          refine x_iload_n 1 dX10_remove_117 rfl rfl rfl ?_
          refine y_Vi 37 (M := mX10_low) (As := [(0, a1)]) (st := [(0, r11), (2, 38)]) dX10_remove_118 i38 rfl q2616 q2618 qs118 q377 q2619 rfl hmX10_low rfl rfl rfl rfl rfl rfl rfl rfl (k_mono h (fun r13 w14 h => ?_))
          refine x_aload_n 0 dX10_remove_121 rfl rfl rfl rfl rfl ?_
          refine x_aload_n 0 dX10_remove_122 rfl rfl rfl rfl rfl ?_
          refine x_iload_n 1 dX10_remove_123 rfl rfl rfl ?_
          refine y_Vi 40 (M := mX10_high) (As := [(0, a1)]) (st := [(2, 38), (0, r13), (0, r11), (2, 38)]) dX10_remove_124 i38 rfl q2622 q2624 qs119 q377 q2625 rfl hmX10_high rfl rfl rfl rfl rfl rfl rfl rfl (k_mono h (fun r15 w16 h => ?_))
          refine y_Vi 52 (M := mX10_withoutFirst) (As := [(0, r15)]) (st := [(0, r13), (0, r11), (2, 38)]) dX10_remove_127 i38 rfl q2964 q2966 qs167 q377 q2967 rfl hmX10_withoutFirst rfl rfl rfl rfl rfl rfl rfl rfl (k_mono h (fun r17 w18 h => ?_))
          refine y_Vi 49 (M := mX10_balance) (As := [(0, r11), (0, r13), (0, r17)]) (st := []) dX10_remove_130 i38 rfl q2946 q2948 qs164 q377 q2949 rfl hmX10_balance rfl rfl rfl rfl rfl rfl rfl rfl (k_mono h (fun r19 w20 h => ?_))
          exact y_iret dX10_remove_133 rfl h
        · refine x_aload_n 0 dX10_remove_100 rfl rfl rfl rfl rfl ?_
          refine x_iload_n 1 dX10_remove_101 rfl rfl rfl ?_
          refine y_Vi 37 (M := mX10_low) (As := [(0, a1)]) (st := []) dX10_remove_102 i38 rfl q2616 q2618 qs118 q377 q2619 rfl hmX10_low rfl rfl rfl rfl rfl rfl rfl rfl (k_mono h (fun r21 w22 h => ?_))
          exact y_iret dX10_remove_105 rfl h
      · refine x_aload_n 0 dX10_remove_84 rfl rfl rfl rfl rfl ?_
        refine x_iload_n 1 dX10_remove_85 rfl rfl rfl ?_
        refine y_Vi 40 (M := mX10_high) (As := [(0, a1)]) (st := []) dX10_remove_86 i38 rfl q2622 q2624 qs119 q377 q2625 rfl hmX10_high rfl rfl rfl rfl rfl rfl rfl rfl (k_mono h (fun r23 w24 h => ?_))
        exact y_iret dX10_remove_89 rfl h
    · refine x_aload_n 0 dX10_remove_52 rfl rfl rfl rfl rfl ?_
      refine x_iload_n 1 dX10_remove_53 rfl rfl rfl ?_
      refine x_aload_n 0 dX10_remove_54 rfl rfl rfl rfl rfl ?_
      refine x_iload_n 1 dX10_remove_55 rfl rfl rfl ?_
      refine y_Vi 37 (M := mX10_low) (As := [(0, a1)]) (st := [(0, a1), (2, 38)]) dX10_remove_56 i38 rfl q2616 q2618 qs118 q377 q2619 rfl hmX10_low rfl rfl rfl rfl rfl rfl rfl rfl (k_mono h (fun r25 w26 h => ?_))
      refine x_aload_n 0 dX10_remove_59 rfl rfl rfl rfl rfl ?_
      refine x_aload_n 0 dX10_remove_60 rfl rfl rfl rfl rfl ?_
      refine x_iload_n 1 dX10_remove_61 rfl rfl rfl ?_
      refine y_Vi 40 (M := mX10_high) (As := [(0, a1)]) (st := [(2, 38), (0, r25), (0, a1), (2, 38)]) dX10_remove_62 i38 rfl q2622 q2624 qs119 q377 q2625 rfl hmX10_high rfl rfl rfl rfl rfl rfl rfl rfl (k_mono h (fun r27 w28 h => ?_))
      refine x_iload_n 2 dX10_remove_65 rfl rfl rfl ?_
      refine x_iload_n 3 dX10_remove_66 rfl rfl rfl ?_
      refine y_Vi 55 (M := mX10_remove) (As := [(0, r27), (0, a2), (0, a3)]) (st := [(0, r25), (0, a1), (2, 38)]) dX10_remove_67 i38 rfl q2959 q2956 q2957 q377 q2958 rfl hmX10_remove rfl rfl rfl rfl rfl rfl rfl rfl (k_mono h (fun r29 w30 h => ?_))
      refine y_Vi 49 (M := mX10_balance) (As := [(0, a1), (0, r25), (0, r29)]) (st := []) dX10_remove_70 i38 rfl q2946 q2948 qs164 q377 q2949 rfl hmX10_balance rfl rfl rfl rfl rfl rfl rfl rfl (k_mono h (fun r31 w32 h => ?_))
      exact y_iret dX10_remove_73 rfl h
  · refine x_aload_n 0 dX10_remove_25 rfl rfl rfl rfl rfl ?_
    refine x_iload_n 1 dX10_remove_26 rfl rfl rfl ?_
    refine x_aload_n 0 dX10_remove_27 rfl rfl rfl rfl rfl ?_
    refine x_aload_n 0 dX10_remove_28 rfl rfl rfl rfl rfl ?_
    refine x_iload_n 1 dX10_remove_29 rfl rfl rfl ?_
    refine y_Vi 37 (M := mX10_low) (As := [(0, a1)]) (st := [(2, 38), (0, a1), (2, 38)]) dX10_remove_30 i38 rfl q2616 q2618 qs118 q377 q2619 rfl hmX10_low rfl rfl rfl rfl rfl rfl rfl rfl (k_mono h (fun r33 w34 h => ?_))
    refine x_iload_n 2 dX10_remove_33 rfl rfl rfl ?_
    refine x_iload_n 3 dX10_remove_34 rfl rfl rfl ?_
    refine y_Vi 55 (M := mX10_remove) (As := [(0, r33), (0, a2), (0, a3)]) (st := [(0, a1), (2, 38)]) dX10_remove_35 i38 rfl q2959 q2956 q2957 q377 q2958 rfl hmX10_remove rfl rfl rfl rfl rfl rfl rfl rfl (k_mono h (fun r35 w36 h => ?_))
    refine x_aload_n 0 dX10_remove_38 rfl rfl rfl rfl rfl ?_
    refine x_iload_n 1 dX10_remove_39 rfl rfl rfl ?_
    refine y_Vi 40 (M := mX10_high) (As := [(0, a1)]) (st := [(0, r35), (0, a1), (2, 38)]) dX10_remove_40 i38 rfl q2622 q2624 qs119 q377 q2625 rfl hmX10_high rfl rfl rfl rfl rfl rfl rfl rfl (k_mono h (fun r37 w38 h => ?_))
    refine y_Vi 49 (M := mX10_balance) (As := [(0, a1), (0, r35), (0, r37)]) (st := []) dX10_remove_43 i38 rfl q2946 q2948 qs164 q377 q2949 rfl hmX10_balance rfl rfl rfl rfl rfl rfl rfl rfl (k_mono h (fun r39 w40 h => ?_))
    exact y_iret dX10_remove_46 rfl h
abbrev LX10_first_2 (d n : Nat) (Q : Int → bW → Prop) (X : String → bW → Prop) (a2 : Int) (w : bW) : Prop := b_Y (d + 1) mX10_first n Q X 2 [(2, 38), (9, 0), (0, a2)] [] w
theorem rX10_first {d n : Nat} {w : bW} {Q : Int → bW → Prop} {X : String → bW → Prop} (hn : 39 ≤ n) (a1 : Int) (h : LX10_first_2 d n Q X a1 w) : b_K (d + 1) mX10_first [(2, 38), (0, a1)] n w Q X := by
  refine k_of (by decide) rfl rfl rfl (ls := [(2, 38), (0, a1), (9, 0)]) rfl ?_
  refine x_iload_n 1 dX10_first_0 rfl rfl rfl ?_
  refine x_istore_n 2 (ls' := [(2, 38), (0, a1), (0, a1)]) dX10_first_1 rfl rfl rfl rfl ?_
  exact x_fg (fgk (fgd (fgk (fg0)))) h
theorem sX10_first_2 {d n : Nat} {w : bW} {Q : Int → bW → Prop} {X : String → bW → Prop} (hn : 39 ≤ n) (a2 : Int) (h : b_K d mX10_low [(2, 38), (0, a2)] n w (fun r1 w2 => if r1 = 12 then (Q a2 w2) else (b_K d mX10_low [(2, 38), (0, a2)] n w2 (fun r3 w4 => LX10_first_2 d n Q X r3 w4) X)) X) : LX10_first_2 d n Q X a2 w := by
  have i38 := iz38 (Nat.le_trans (Nat.le_of_ble_eq_true rfl) hn)
  refine x_aload_n 0 dX10_first_2 rfl rfl rfl rfl rfl ?_
  refine x_iload_n 2 dX10_first_3 rfl rfl rfl ?_
  refine y_Vi 37 (M := mX10_low) (As := [(0, a2)]) (st := []) dX10_first_4 i38 rfl q2616 q2618 qs118 q377 q2619 rfl hmX10_low rfl rfl rfl rfl rfl rfl rfl rfl (k_mono h (fun r1 w2 h => ?_))
  refine x_bipush 12 (z := 12) dX10_first_7 rfl (by decide) rfl ?_
  refine x_icmp_eq (t := 21) 12 dX10_first_9 rfl rfl (b_ite h (fun hc h => ?_) (fun hc h => ?_))
  · refine x_iload_n 2 dX10_first_21 rfl rfl rfl ?_
    exact y_iret dX10_first_22 rfl h
  · refine x_aload_n 0 dX10_first_12 rfl rfl rfl rfl rfl ?_
    refine x_iload_n 2 dX10_first_13 rfl rfl rfl ?_
    refine y_Vi 37 (M := mX10_low) (As := [(0, a2)]) (st := []) dX10_first_14 i38 rfl q2616 q2618 qs118 q377 q2619 rfl hmX10_low rfl rfl rfl rfl rfl rfl rfl rfl (k_mono h (fun r3 w4 h => ?_))
    refine x_istore_n 2 (ls' := [(2, 38), (9, 0), (0, r3)]) dX10_first_17 rfl rfl rfl rfl ?_
    refine x_goto (-16) (q := 2) dX10_first_18 rfl ?_
    exact x_fg (fgk (fgk (fgk (fg0)))) h
theorem rX10_withoutFirst {d n : Nat} {w : bW} {Q : Int → bW → Prop} {X : String → bW → Prop} (hn : 39 ≤ n) (a1 : Int) (h : b_K d mX10_low [(2, 38), (0, a1)] n w (fun r1 w2 => if r1 ≠ 12 then (b_K d mX10_low [(2, 38), (0, a1)] n w2 (fun r3 w4 => b_K d mX10_withoutFirst [(2, 38), (0, r3)] n w4 (fun r5 w6 => b_K d mX10_high [(2, 38), (0, a1)] n w6 (fun r7 w8 => b_K d mX10_balance [(2, 38), (0, a1), (0, r5), (0, r7)] n w8 (fun r9 w10 => Q r9 w10) X) X) X) X) else (b_K d mX10_high [(2, 38), (0, a1)] n w2 (fun r11 w12 => Q r11 w12) X)) X) : b_K (d + 1) mX10_withoutFirst [(2, 38), (0, a1)] n w Q X := by
  have i38 := iz38 (Nat.le_trans (Nat.le_of_ble_eq_true rfl) hn)
  refine k_of (by decide) rfl rfl rfl (ls := [(2, 38), (0, a1)]) rfl ?_
  refine x_aload_n 0 dX10_withoutFirst_0 rfl rfl rfl rfl rfl ?_
  refine x_iload_n 1 dX10_withoutFirst_1 rfl rfl rfl ?_
  refine y_Vi 37 (M := mX10_low) (As := [(0, a1)]) (st := []) dX10_withoutFirst_2 i38 rfl q2616 q2618 qs118 q377 q2619 rfl hmX10_low rfl rfl rfl rfl rfl rfl rfl rfl (k_mono h (fun r1 w2 h => ?_))
  refine x_bipush 12 (z := 12) dX10_withoutFirst_5 rfl (by decide) rfl ?_
  refine x_icmp_ne (t := 18) 11 dX10_withoutFirst_7 rfl rfl (b_ite h (fun hc h => ?_) (fun hc h => ?_))
  · refine x_aload_n 0 dX10_withoutFirst_18 rfl rfl rfl rfl rfl ?_
    refine x_iload_n 1 dX10_withoutFirst_19 rfl rfl rfl ?_
    refine x_aload_n 0 dX10_withoutFirst_20 rfl rfl rfl rfl rfl ?_
    refine x_aload_n 0 dX10_withoutFirst_21 rfl rfl rfl rfl rfl ?_
    refine x_iload_n 1 dX10_withoutFirst_22 rfl rfl rfl ?_
    refine y_Vi 37 (M := mX10_low) (As := [(0, a1)]) (st := [(2, 38), (0, a1), (2, 38)]) dX10_withoutFirst_23 i38 rfl q2616 q2618 qs118 q377 q2619 rfl hmX10_low rfl rfl rfl rfl rfl rfl rfl rfl (k_mono h (fun r3 w4 h => ?_))
    refine y_Vi 52 (M := mX10_withoutFirst) (As := [(0, r3)]) (st := [(0, a1), (2, 38)]) dX10_withoutFirst_26 i38 rfl q2964 q2966 qs167 q377 q2967 rfl hmX10_withoutFirst rfl rfl rfl rfl rfl rfl rfl rfl (k_mono h (fun r5 w6 h => ?_))
    refine x_aload_n 0 dX10_withoutFirst_29 rfl rfl rfl rfl rfl ?_
    refine x_iload_n 1 dX10_withoutFirst_30 rfl rfl rfl ?_
    refine y_Vi 40 (M := mX10_high) (As := [(0, a1)]) (st := [(0, r5), (0, a1), (2, 38)]) dX10_withoutFirst_31 i38 rfl q2622 q2624 qs119 q377 q2625 rfl hmX10_high rfl rfl rfl rfl rfl rfl rfl rfl (k_mono h (fun r7 w8 h => ?_))
    refine y_Vi 49 (M := mX10_balance) (As := [(0, a1), (0, r5), (0, r7)]) (st := []) dX10_withoutFirst_34 i38 rfl q2946 q2948 qs164 q377 q2949 rfl hmX10_balance rfl rfl rfl rfl rfl rfl rfl rfl (k_mono h (fun r9 w10 h => ?_))
    exact y_iret dX10_withoutFirst_37 rfl h
  · refine x_aload_n 0 dX10_withoutFirst_10 rfl rfl rfl rfl rfl ?_
    refine x_iload_n 1 dX10_withoutFirst_11 rfl rfl rfl ?_
    refine y_Vi 40 (M := mX10_high) (As := [(0, a1)]) (st := []) dX10_withoutFirst_12 i38 rfl q2622 q2624 qs119 q377 q2625 rfl hmX10_high rfl rfl rfl rfl rfl rfl rfl rfl (k_mono h (fun r11 w12 h => ?_))
    refine x_goto 22 (q := 37) dX10_withoutFirst_15 rfl ?_
    exact y_iret dX10_withoutFirst_37 rfl h
end RulesX10
