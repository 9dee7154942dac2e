section RulesX8
set_option maxRecDepth 100000
theorem rX8_fixedTop {d n : Nat} {w : bW} {Q : Int → bW → Prop} {X : String → bW → Prop} (hn : 28 ≤ n) (h : Q (w 27 4) w) : b_K (d + 1) mX8_fixedTop [(2, 27)] n w Q X := by
  have i27 := iz27 (Nat.le_trans (Nat.le_of_ble_eq_true rfl) hn)
  refine k_of (by decide) rfl rfl rfl (ls := [(2, 27)]) rfl ?_
  refine x_aload_n 0 dX8_fixedTop_0 rfl rfl rfl rfl rfl ?_
  refine y_get 27 4 (c := 7) (z := w 27 4) dX8_fixedTop_1 i27 rfl in_X8 q807 rfl rfl rfl rfl rfl ?_
  exact y_iret dX8_fixedTop_4 rfl h
abbrev LX8_ofWhole_21 (d n : Nat) (Q : Int → bW → Prop) (X : String → bW → Prop) (a1 : Int) (a2 : Int) (s0 : Int) (w : bW) : Prop := b_Y (d + 1) mX8_ofWhole n Q X 21 [(2, 27), (2, a1), (0, a2), (9, 0), (9, 0), (9, 0)] [(0, s0), (2, 2)] w
abbrev LX8_ofWhole_111 (d n : Nat) (Q : Int → bW → Prop) (X : String → bW → Prop) (a1 : Int) (a3 : Int) (a4 : Int) (a5 : Int) (w : bW) : Prop := b_Y (d + 1) mX8_ofWhole n Q X 111 [(2, 27), (2, a1), (9, 0), (0, a3), (0, a4), (0, a5)] [] w
theorem rX8_ofWhole {d n : Nat} {w : bW} {Q : Int → bW → Prop} {X : String → bW → Prop} (hn : 143 ≤ n) (a1 : Int) (ha1 : b_is n a1 0 5 3) (h : b_K d mX6_bits [(2, a1)] n w (fun r1 w2 => if 1024 < r1 then (LX8_ofWhole_21 d n Q X a1 r1 0 w2) else (LX8_ofWhole_21 d n Q X a1 r1 1 w2)) X) : b_K (d + 1) mX8_ofWhole [(2, 27), (2, a1)] n w Q X := by
  have i27 := iz27 (Nat.le_trans (Nat.le_of_ble_eq_true rfl) hn)
  refine k_of (by decide) rfl rfl rfl (ls := [(2, 27), (2, a1), (9, 0), (9, 0), (9, 0), (9, 0)]) rfl ?_
  refine x_aload_n 1 dX8_ofWhole_0 rfl rfl rfl rfl rfl ?_
  refine y_Vi 125 (M := mX6_bits) (As := []) (st := []) dX8_ofWhole_1 ha1 rfl q1952 q1752 q1753 q373 q1754 rfl hmX6_bits rfl rfl rfl rfl rfl rfl rfl rfl (k_mono h (fun r1 w2 h => ?_))
  refine x_istore_n 2 (ls' := [(2, 27), (2, a1), (0, r1), (9, 0), (9, 0), (9, 0)]) dX8_ofWhole_4 rfl rfl rfl rfl ?_
  refine x_aload_n 0 dX8_ofWhole_5 rfl rfl rfl rfl rfl ?_
  refine y_getF 39 6 (c := 7) (z := 2) dX8_ofWhole_6 i27 rfl in_X8 q811 rfl rfl rfl fn_27_6 (Nat.le_trans (Nat.le_of_ble_eq_true rfl) hn) rfl ?_
  refine x_iload_n 2 dX8_ofWhole_9 rfl rfl rfl ?_
  refine x_sipush 1024 (z := 1024) dX8_ofWhole_10 rfl (by decide) rfl ?_
  refine x_icmp_gt (t := 20) 7 dX8_ofWhole_13 rfl rfl (b_ite h (fun hc h => ?_) (fun hc h => ?_))
  · refine x_iconst 0 (z := 0) dX8_ofWhole_20 rfl (by decide) rfl ?_
    exact x_fg (fgk (fgk (fgk (fgk (fgk (fgk (fg0))))))) h
  · refine x_iconst 1 (z := 1) dX8_ofWhole_16 rfl (by decide) rfl ?_
    refine x_goto 4 (q := 21) dX8_ofWhole_17 rfl ?_
    exact x_fg (fgk (fgk (fgk (fgk (fgk (fgk (fg0))))))) h
theorem sX8_ofWhole_21 {d n : Nat} {w : bW} {Q : Int → bW → Prop} {X : String → bW → Prop} (hn : 143 ≤ n) (a1 : Int) (a2 : Int) (s0 : Int) (ha1 : b_is n a1 0 5 3) (h : b_K d mX2_want [(2, 2), (0, s0), (0, 2)] n w (fun r1 w2 => if 30 < a2 then (b_K d mX8_numberLength [(0, a2)] n w2 (fun r3 w4 => b_K d mX8_make [(2, 27), (0, 1), (0, r3), (0, b_i (3 + (b_shr (b_i ((w2 a1 1) + 1)) 1)))] n w4 (fun r5 w6 => if w6 a1 2 = 0 then (b_K d mX8_set [(2, 27), (0, r5), (0, 2), (0, b_or (w2 a1 1) 0)] n w6 (fun r7 w8 => LX8_ofWhole_111 d n Q X a1 (w2 a1 1) r5 0 w8) X) else (b_K d mX8_set [(2, 27), (0, r5), (0, 2), (0, b_or (w2 a1 1) 65536)] n w6 (fun r9 w10 => LX8_ofWhole_111 d n Q X a1 (w2 a1 1) r5 0 w10) X)) X) X) else (b_K d mX6_at [(2, a1), (0, 0)] n w2 (fun r11 w12 => b_K d mX6_at [(2, a1), (0, 1)] n w12 (fun r13 w14 => if w14 a1 2 = 0 then (b_K d mX8_small [(0, b_or r11 (b_shl r13 16))] n w14 (fun r15 w16 => Q r15 w16) X) else (b_K d mX8_small [(0, b_i (-(b_or r11 (b_shl r13 16))))] n w14 (fun r17 w18 => Q r17 w18) X)) X) X)) X) : LX8_ofWhole_21 d n Q X a1 a2 s0 w := by
  have i2 := iz2 (Nat.le_trans (Nat.le_of_ble_eq_true rfl) hn)
  have i27 := iz27 (Nat.le_trans (Nat.le_of_ble_eq_true rfl) hn)
  refine x_iconst 2 (z := 2) dX8_ofWhole_21 rfl (by decide) rfl ?_
  refine y_Vv 131 (M := mX2_want) (As := [(0, s0), (0, 2)]) (st := []) dX8_ofWhole_22 i2 rfl q1953 q1954 q1955 q359 q1956 rfl hmX2_want rfl rfl rfl rfl rfl rfl rfl (k_mono h (fun r1 w2 h => ?_))
  refine x_iload_n 2 dX8_ofWhole_25 rfl rfl rfl ?_
  refine x_bipush 30 (z := 30) dX8_ofWhole_26 rfl (by decide) rfl ?_
  refine x_icmp_gt (t := 63) 35 dX8_ofWhole_28 rfl rfl (b_ite h (fun hc h => ?_) (fun hc h => ?_))
  · refine x_aload_n 1 dX8_ofWhole_63 rfl rfl rfl rfl rfl ?_
    refine y_get 141 1 (c := 5) (z := w2 a1 1) dX8_ofWhole_64 ha1 rfl in_X6 q634 rfl rfl rfl rfl rfl ?_
    refine x_istore_n 3 (ls' := [(2, 27), (2, a1), (0, a2), (0, w2 a1 1), (9, 0), (9, 0)]) dX8_ofWhole_67 rfl rfl rfl rfl ?_
    refine x_aload_n 0 dX8_ofWhole_68 rfl rfl rfl rfl rfl ?_
    refine x_iconst 1 (z := 1) dX8_ofWhole_69 rfl (by decide) rfl ?_
    refine x_iload_n 2 dX8_ofWhole_70 rfl rfl rfl ?_
    refine y_Si 102 (M := mX8_numberLength) (As := [(0, a2)]) (st := [(0, 1), (2, 27)]) dX8_ofWhole_71 q1968 q1969 q375 q1970 hmX8_numberLength rfl rfl rfl rfl rfl rfl rfl rfl (k_mono h (fun r3 w4 h => ?_))
    refine x_iconst 3 (z := 3) dX8_ofWhole_74 rfl (by decide) rfl ?_
    refine x_iload_n 3 dX8_ofWhole_75 rfl rfl rfl ?_
    refine x_iconst 1 (z := 1) dX8_ofWhole_76 rfl (by decide) rfl ?_
    refine x_iadd dX8_ofWhole_77 rfl ?_
    refine x_iconst 1 (z := 1) dX8_ofWhole_78 rfl (by decide) rfl ?_
    refine x_ishr dX8_ofWhole_79 rfl ?_
    refine x_iadd dX8_ofWhole_80 rfl ?_
    refine y_Vi 144 (M := mX8_make) (As := [(0, 1), (0, r3), (0, b_i (3 + (b_shr (b_i ((w2 a1 1) + 1)) 1)))]) (st := []) dX8_ofWhole_81 i27 rfl q1971 q1973 qs37 q375 q1974 rfl hmX8_make rfl rfl rfl rfl rfl rfl rfl rfl (k_mono h (fun r5 w6 h => ?_))
    refine x_istore 4 (ls' := [(2, 27), (2, a1), (0, a2), (0, w2 a1 1), (0, r5), (9, 0)]) dX8_ofWhole_84 rfl rfl rfl ?_
    refine x_aload_n 0 dX8_ofWhole_86 rfl rfl rfl rfl rfl ?_
    refine x_iload 4 dX8_ofWhole_87 rfl rfl ?_
    refine x_iconst 2 (z := 2) dX8_ofWhole_89 rfl (by decide) rfl ?_
    refine x_iload_n 3 dX8_ofWhole_90 rfl rfl rfl ?_
    refine x_aload_n 1 dX8_ofWhole_91 rfl rfl rfl rfl rfl ?_
    refine y_get 138 2 (c := 5) (z := w6 a1 2) dX8_ofWhole_92 ha1 rfl in_X6 q641 rfl rfl rfl rfl rfl ?_
    refine x_if_eq (t := 103) 8 dX8_ofWhole_95 rfl rfl (b_ite h (fun hc h => ?_) (fun hc h => ?_))
    · refine x_iconst 0 (z := 0) dX8_ofWhole_103 rfl (by decide) rfl ?_
      refine x_ior dX8_ofWhole_104 rfl ?_
      refine y_Vv 55 (M := mX8_set) (As := [(0, r5), (0, 2), (0, b_or (w2 a1 1) 0)]) (st := []) dX8_ofWhole_105 i27 rfl q1975 q1977 qs38 q375 q1978 rfl hmX8_set rfl rfl rfl rfl rfl rfl rfl (k_mono h (fun r7 w8 h => ?_))
      refine x_iconst 0 (z := 0) dX8_ofWhole_108 rfl (by decide) rfl ?_
      refine x_istore 5 (ls' := [(2, 27), (2, a1), (0, a2), (0, w2 a1 1), (0, r5), (0, 0)]) dX8_ofWhole_109 rfl rfl rfl ?_
      exact x_fg (fgk (fgk (fgd (fgk (fgk (fgk (fg0))))))) h
    · refine x_ldc 148 (x := 65536) dX8_ofWhole_98 q1979 rfl (by decide) rfl ?_
      refine x_goto 4 (q := 104) dX8_ofWhole_100 rfl ?_
      refine x_ior dX8_ofWhole_104 rfl ?_
      refine y_Vv 55 (M := mX8_set) (As := [(0, r5), (0, 2), (0, b_or (w2 a1 1) 65536)]) (st := []) dX8_ofWhole_105 i27 rfl q1975 q1977 qs38 q375 q1978 rfl hmX8_set rfl rfl rfl rfl rfl rfl rfl (k_mono h (fun r9 w10 h => ?_))
      refine x_iconst 0 (z := 0) dX8_ofWhole_108 rfl (by decide) rfl ?_
      refine x_istore 5 (ls' := [(2, 27), (2, a1), (0, a2), (0, w2 a1 1), (0, r5), (0, 0)]) dX8_ofWhole_109 rfl rfl rfl ?_
      exact x_fg (fgk (fgk (fgd (fgk (fgk (fgk (fg0))))))) h
  · refine x_aload_n 1 dX8_ofWhole_31 rfl rfl rfl rfl rfl ?_
    refine x_iconst 0 (z := 0) dX8_ofWhole_32 rfl (by decide) rfl ?_
    refine y_Vi 135 (M := mX6_at) (As := [(0, 0)]) (st := []) dX8_ofWhole_33 ha1 rfl q1961 q1962 q1963 q373 q1964 rfl hmX6_at rfl rfl rfl rfl rfl rfl rfl rfl (k_mono h (fun r11 w12 h => ?_))
    refine x_aload_n 1 dX8_ofWhole_36 rfl rfl rfl rfl rfl ?_
    refine x_iconst 1 (z := 1) dX8_ofWhole_37 rfl (by decide) rfl ?_
    refine y_Vi 135 (M := mX6_at) (As := [(0, 1)]) (st := [(0, r11)]) dX8_ofWhole_38 ha1 rfl q1961 q1962 q1963 q373 q1964 rfl hmX6_at rfl rfl rfl rfl rfl rfl rfl rfl (k_mono h (fun r13 w14 h => ?_))
    refine x_bipush 16 (z := 16) dX8_ofWhole_41 rfl (by decide) rfl ?_
    refine x_ishl dX8_ofWhole_43 rfl ?_
    refine x_ior dX8_ofWhole_44 rfl ?_
    refine x_istore_n 3 (ls' := [(2, 27), (2, a1), (0, a2), (0, b_or r11 (b_shl r13 16)), (9, 0), (9, 0)]) dX8_ofWhole_45 rfl rfl rfl rfl ?_
    refine x_aload_n 1 dX8_ofWhole_46 rfl rfl rfl rfl rfl ?_
    refine y_get 138 2 (c := 5) (z := w14 a1 2) dX8_ofWhole_47 ha1 rfl in_X6 q641 rfl rfl rfl rfl rfl ?_
    refine x_if_eq (t := 58) 8 dX8_ofWhole_50 rfl rfl (b_ite h (fun hc h => ?_) (fun hc h => ?_))
    · refine x_iload_n 3 dX8_ofWhole_58 rfl rfl rfl ?_
      refine y_Si 115 (M := mX8_small) (As := [(0, b_or r11 (b_shl r13 16))]) (st := []) dX8_ofWhole_59 q1965 q1966 q375 q1967 hmX8_small rfl rfl rfl rfl rfl rfl rfl rfl (k_mono h (fun r15 w16 h => ?_))
      exact y_iret dX8_ofWhole_62 rfl h
    · refine x_iload_n 3 dX8_ofWhole_53 rfl rfl rfl ?_
      refine x_ineg dX8_ofWhole_54 rfl ?_
      refine x_goto 4 (q := 59) dX8_ofWhole_55 rfl ?_
      refine y_Si 115 (M := mX8_small) (As := [(0, b_i (-(b_or r11 (b_shl r13 16))))]) (st := []) dX8_ofWhole_59 q1965 q1966 q375 q1967 hmX8_small rfl rfl rfl rfl rfl rfl rfl rfl (k_mono h (fun r17 w18 h => ?_))
      exact y_iret dX8_ofWhole_62 rfl h
theorem sX8_ofWhole_111 {d n : Nat} {w : bW} {Q : Int → bW → Prop} {X : String → bW → Prop} (hn : 143 ≤ n) (a1 : Int) (a3 : Int) (a4 : Int) (a5 : Int) (ha1 : b_is n a1 0 5 3) (h : if a3 ≤ a5 then (Q a4 w) else (b_K d mX6_at [(2, a1), (0, a5)] n w (fun r1 w2 => b_K d mX6_at [(2, a1), (0, b_i (a5 + 1))] n w2 (fun r3 w4 => b_K d mX8_set [(2, 27), (0, a4), (0, b_i (3 + (b_shr a5 1))), (0, b_or r1 (b_shl r3 16))] n w4 (fun r5 w6 => LX8_ofWhole_111 d n Q X a1 a3 a4 (b_i (a5 + 2)) w6) X) X) X)) : LX8_ofWhole_111 d n Q X a1 a3 a4 a5 w := by
  have i27 := iz27 (Nat.le_trans (Nat.le_of_ble_eq_true rfl) hn)
  refine x_iload 5 dX8_ofWhole_111 rfl rfl ?_
  refine x_iload_n 3 dX8_ofWhole_113 rfl rfl rfl ?_
  refine x_icmp_ge (t := 153) 39 dX8_ofWhole_114 rfl rfl (b_ite h (fun hc h => ?_) (fun hc h => ?_))
  · refine x_iload 4 dX8_ofWhole_153 rfl rfl ?_
    exact y_iret dX8_ofWhole_155 rfl h
  · refine x_aload_n 0 dX8_ofWhole_117 rfl rfl rfl rfl rfl ?_
    refine x_iload 4 dX8_ofWhole_118 rfl rfl ?_
    refine x_iconst 3 (z := 3) dX8_ofWhole_120 rfl (by decide) rfl ?_
    refine x_iload 5 dX8_ofWhole_121 rfl rfl ?_
    refine x_iconst 1 (z := 1) dX8_ofWhole_123 rfl (by decide) rfl ?_
    refine x_ishr dX8_ofWhole_124 rfl ?_
    refine x_iadd dX8_ofWhole_125 rfl ?_
    refine x_aload_n 1 dX8_ofWhole_126 rfl rfl rfl rfl rfl ?_
    refine x_iload 5 dX8_ofWhole_127 rfl rfl ?_
    refine y_Vi 135 (M := mX6_at) (As := [(0, a5)]) (st := [(0, b_i (3 + (b_shr a5 1))), (0, a4), (2, 27)]) dX8_ofWhole_129 ha1 rfl q1961 q1962 q1963 q373 q1964 rfl hmX6_at rfl rfl rfl rfl rfl rfl rfl rfl (k_mono h (fun r1 w2 h => ?_))
    refine x_aload_n 1 dX8_ofWhole_132 rfl rfl rfl rfl rfl ?_
    refine x_iload 5 dX8_ofWhole_133 rfl rfl ?_
    refine x_iconst 1 (z := 1) dX8_ofWhole_135 rfl (by decide) rfl ?_
    refine x_iadd dX8_ofWhole_136 rfl ?_
    refine y_Vi 135 (M := mX6_at) (As := [(0, b_i (a5 + 1))]) (st := [(0, r1), (0, b_i (3 + (b_shr a5 1))), (0, a4), (2, 27)]) dX8_ofWhole_137 ha1 rfl q1961 q1962 q1963 q373 q1964 rfl hmX6_at rfl rfl rfl rfl rfl rfl rfl rfl (k_mono h (fun r3 w4 h => ?_))
    refine x_bipush 16 (z := 16) dX8_ofWhole_140 rfl (by decide) rfl ?_
    refine x_ishl dX8_ofWhole_142 rfl ?_
    refine x_ior dX8_ofWhole_143 rfl ?_
    refine y_Vv 55 (M := mX8_set) (As := [(0, a4), (0, b_i (3 + (b_shr a5 1))), (0, b_or r1 (b_shl r3 16))]) (st := []) dX8_ofWhole_144 i27 rfl q1975 q1977 qs38 q375 q1978 rfl hmX8_set rfl rfl rfl rfl rfl rfl rfl (k_mono h (fun r5 w6 h => ?_))
    refine x_iinc 5 2 (ls' := [(2, 27), (2, a1), (9, 0), (0, a3), (0, a4), (0, b_i (a5 + 2))]) dX8_ofWhole_147 rfl rfl rfl rfl ?_
    refine x_goto (-39) (q := 111) dX8_ofWhole_150 rfl ?_
    exact x_fg (fgk (fgk (fgk (fgk (fgk (fgk (fg0))))))) h
theorem rX8_small {d n : Nat} {w : bW} {Q : Int → bW → Prop} {X : String → bW → Prop} (a0 : Int) (h : Q (b_or (b_shl a0 1) 1) w) : b_K (d + 1) mX8_small [(0, a0)] n w Q X := by
  refine k_of (by decide) rfl rfl rfl (ls := [(0, a0)]) rfl ?_
  refine x_iload_n 0 dX8_small_0 rfl rfl rfl ?_
  refine x_iconst 1 (z := 1) dX8_small_1 rfl (by decide) rfl ?_
  refine x_ishl dX8_small_2 rfl ?_
  refine x_iconst 1 (z := 1) dX8_small_3 rfl (by decide) rfl ?_
  refine x_ior dX8_small_4 rfl ?_
  exact y_iret dX8_small_5 rfl h
theorem rX8_numberLength {d n : Nat} {w : bW} {Q : Int → bW → Prop} {X : String → bW → Prop} (a0 : Int) (h : if 6 < a0 then (Q (b_i (2 + (b_div (b_i ((b_i (a0 - 6)) + 6)) 7))) w) else (Q (b_i (2 + 0)) w)) : b_K (d + 1) mX8_numberLength [(0, a0)] n w Q X := by
  refine k_of (by decide) rfl rfl rfl (ls := [(0, a0)]) rfl ?_
  refine x_iconst 2 (z := 2) dX8_numberLength_0 rfl (by decide) rfl ?_
  refine x_iload_n 0 dX8_numberLength_1 rfl rfl rfl ?_
  refine x_bipush 6 (z := 6) dX8_numberLength_2 rfl (by decide) rfl ?_
  refine x_icmp_gt (t := 11) 7 dX8_numberLength_4 rfl rfl (b_ite h (fun hc h => ?_) (fun hc h => ?_))
  · refine x_iload_n 0 dX8_numberLength_11 rfl rfl rfl ?_
    refine x_bipush 6 (z := 6) dX8_numberLength_12 rfl (by decide) rfl ?_
    refine x_isub dX8_numberLength_14 rfl ?_
    refine x_bipush 6 (z := 6) dX8_numberLength_15 rfl (by decide) rfl ?_
    refine x_iadd dX8_numberLength_17 rfl ?_
    refine x_bipush 7 (z := 7) dX8_numberLength_18 rfl (by decide) rfl ?_
    refine x_idiv dX8_numberLength_20 (by decide) rfl ?_
    refine x_iadd dX8_numberLength_21 rfl ?_
    exact y_iret dX8_numberLength_22 rfl h
  · refine x_iconst 0 (z := 0) dX8_numberLength_7 rfl (by decide) rfl ?_
    refine x_goto 13 (q := 21) dX8_numberLength_8 rfl ?_
    refine x_iadd dX8_numberLength_21 rfl ?_
    exact y_iret dX8_numberLength_22 rfl h
theorem rX8_make {d n : Nat} {w : bW} {Q : Int → bW → Prop} {X : String → bW → Prop} (hn : 28 ≤ n) (a1 : Int) (a2 : Int) (a3 : Int) (h : if w 27 5 = 0 then (b_K d mX8_set [(2, 27), (0, b_i (2 * (w 27 2))), (0, 0), (0, a1)] n (b_up w 27 2 (b_i ((w 27 2) + a3))) (fun r1 w2 => b_K d mX8_set [(2, 27), (0, b_i (2 * (w 27 2))), (0, 1), (0, a2)] n w2 (fun r3 w4 => Q (b_i (2 * (w 27 2))) w4) X) X) else (b_K d mX8_set [(2, 27), (0, b_i (2 * (b_i (-(w 27 4))))), (0, 0), (0, a1)] n (b_up w 27 4 (b_i ((w 27 4) + a3))) (fun r5 w6 => b_K d mX8_set [(2, 27), (0, b_i (2 * (b_i (-(w 27 4))))), (0, 1), (0, a2)] n w6 (fun r7 w8 => Q (b_i (2 * (b_i (-(w 27 4))))) w8) X) X)) : b_K (d + 1) mX8_make [(2, 27), (0, a1), (0, a2), (0, a3)] n w Q X := by
  have i27 := iz27 (Nat.le_trans (Nat.le_of_ble_eq_true rfl) hn)
  refine k_of (by decide) rfl rfl rfl (ls := [(2, 27), (0, a1), (0, a2), (0, a3), (9, 0)]) rfl ?_
  refine x_aload_n 0 dX8_make_0 rfl rfl rfl rfl rfl ?_
  refine y_get 51 5 (c := 7) (z := w 27 5) dX8_make_1 i27 rfl in_X8 q809 rfl rfl rfl rfl rfl ?_
  refine x_if_eq (t := 27) 23 dX8_make_4 rfl rfl (b_ite h (fun hc h => ?_) (fun hc h => ?_))
  · refine x_aload_n 0 dX8_make_27 rfl rfl rfl rfl rfl ?_
    refine y_get 19 2 (c := 7) (z := w 27 2) dX8_make_28 i27 rfl in_X8 q805 rfl rfl rfl rfl rfl ?_
    refine x_istore 4 (ls' := [(2, 27), (0, a1), (0, a2), (0, a3), (0, w 27 2)]) dX8_make_31 rfl rfl rfl ?_
    refine x_aload_n 0 dX8_make_33 rfl rfl rfl rfl rfl ?_
    refine x_dup dX8_make_34 rfl rfl ?_
    refine y_get 19 2 (c := 7) (z := w 27 2) dX8_make_35 i27 rfl in_X8 q805 rfl rfl rfl rfl rfl ?_
    refine x_iload_n 3 dX8_make_38 rfl rfl rfl ?_
    refine x_iadd dX8_make_39 rfl ?_
    refine x_put 19 2 (c := 7) dX8_make_40 i27 rfl in_X8 tyX8_ok nmX8 q805 rfl rfl rfl (Or.inl rfl) (Or.inl ⟨rfl, rfl⟩) rfl ?_
    refine x_aload_n 0 dX8_make_43 rfl rfl rfl rfl rfl ?_
    refine x_iconst 2 (z := 2) dX8_make_44 rfl (by decide) rfl ?_
    refine x_iload 4 dX8_make_45 rfl rfl ?_
    refine x_imul dX8_make_47 rfl ?_
    refine x_iconst 0 (z := 0) dX8_make_48 rfl (by decide) rfl ?_
    refine x_iload_n 1 dX8_make_49 rfl rfl rfl ?_
    refine y_Vv 55 (M := mX8_set) (As := [(0, b_i (2 * (w 27 2))), (0, 0), (0, a1)]) (st := []) dX8_make_50 i27 rfl q1975 q1977 qs38 q375 q1978 rfl hmX8_set rfl rfl rfl rfl rfl rfl rfl (k_mono h (fun r1 w2 h => ?_))
    refine x_aload_n 0 dX8_make_53 rfl rfl rfl rfl rfl ?_
    refine x_iconst 2 (z := 2) dX8_make_54 rfl (by decide) rfl ?_
    refine x_iload 4 dX8_make_55 rfl rfl ?_
    refine x_imul dX8_make_57 rfl ?_
    refine x_iconst 1 (z := 1) dX8_make_58 rfl (by decide) rfl ?_
    refine x_iload_n 2 dX8_make_59 rfl rfl rfl ?_
    refine y_Vv 55 (M := mX8_set) (As := [(0, b_i (2 * (w 27 2))), (0, 1), (0, a2)]) (st := []) dX8_make_60 i27 rfl q1975 q1977 qs38 q375 q1978 rfl hmX8_set rfl rfl rfl rfl rfl rfl rfl (k_mono h (fun r3 w4 h => ?_))
    refine x_iconst 2 (z := 2) dX8_make_63 rfl (by decide) rfl ?_
    refine x_iload 4 dX8_make_64 rfl rfl ?_
    refine x_imul dX8_make_66 rfl ?_
    exact y_iret dX8_make_67 rfl h
  · refine x_aload_n 0 dX8_make_7 rfl rfl rfl rfl rfl ?_
    refine y_get 27 4 (c := 7) (z := w 27 4) dX8_make_8 i27 rfl in_X8 q807 rfl rfl rfl rfl rfl ?_
    refine x_ineg dX8_make_11 rfl ?_
    refine x_istore 4 (ls' := [(2, 27), (0, a1), (0, a2), (0, a3), (0, b_i (-(w 27 4)))]) dX8_make_12 rfl rfl rfl ?_
    refine x_aload_n 0 dX8_make_14 rfl rfl rfl rfl rfl ?_
    refine x_dup dX8_make_15 rfl rfl ?_
    refine y_get 27 4 (c := 7) (z := w 27 4) dX8_make_16 i27 rfl in_X8 q807 rfl rfl rfl rfl rfl ?_
    refine x_iload_n 3 dX8_make_19 rfl rfl rfl ?_
    refine x_iadd dX8_make_20 rfl ?_
    refine x_put 27 4 (c := 7) dX8_make_21 i27 rfl in_X8 tyX8_ok nmX8 q807 rfl rfl rfl (Or.inl rfl) (Or.inl ⟨rfl, rfl⟩) rfl ?_
    refine x_goto 19 (q := 43) dX8_make_24 rfl ?_
    refine x_aload_n 0 dX8_make_43 rfl rfl rfl rfl rfl ?_
    refine x_iconst 2 (z := 2) dX8_make_44 rfl (by decide) rfl ?_
    refine x_iload 4 dX8_make_45 rfl rfl ?_
    refine x_imul dX8_make_47 rfl ?_
    refine x_iconst 0 (z := 0) dX8_make_48 rfl (by decide) rfl ?_
    refine x_iload_n 1 dX8_make_49 rfl rfl rfl ?_
    refine y_Vv 55 (M := mX8_set) (As := [(0, b_i (2 * (b_i (-(w 27 4))))), (0, 0), (0, a1)]) (st := []) dX8_make_50 i27 rfl q1975 q1977 qs38 q375 q1978 rfl hmX8_set rfl rfl rfl rfl rfl rfl rfl (k_mono h (fun r5 w6 h => ?_))
    refine x_aload_n 0 dX8_make_53 rfl rfl rfl rfl rfl ?_
    refine x_iconst 2 (z := 2) dX8_make_54 rfl (by decide) rfl ?_
    refine x_iload 4 dX8_make_55 rfl rfl ?_
    refine x_imul dX8_make_57 rfl ?_
    refine x_iconst 1 (z := 1) dX8_make_58 rfl (by decide) rfl ?_
    refine x_iload_n 2 dX8_make_59 rfl rfl rfl ?_
    refine y_Vv 55 (M := mX8_set) (As := [(0, b_i (2 * (b_i (-(w 27 4))))), (0, 1), (0, a2)]) (st := []) dX8_make_60 i27 rfl q1975 q1977 qs38 q375 q1978 rfl hmX8_set rfl rfl rfl rfl rfl rfl rfl (k_mono h (fun r7 w8 h => ?_))
    refine x_iconst 2 (z := 2) dX8_make_63 rfl (by decide) rfl ?_
    refine x_iload 4 dX8_make_64 rfl rfl ?_
    refine x_imul dX8_make_66 rfl ?_
    exact y_iret dX8_make_67 rfl h
theorem rX8_set {d n : Nat} {w : bW} {Q : Int → bW → Prop} {X : String → bW → Prop} (hn : 143 ≤ n) (a1 : Int) (a2 : Int) (a3 : Int) (h : if a1 ≤ 0 then ((0 ≤ b_i ((b_shr (b_i (-a1)) 1) + a2) ∧ b_i ((b_shr (b_i (-a1)) 1) + a2) < 280000) ∧ (Q 0 (b_up w 30 (b_i ((b_shr (b_i (-a1)) 1) + a2)) a3))) else (b_ai n (w 27 0) 1 0 (b_i ((b_shr a1 1) + a2)) ∧ (Q 0 (b_up w (w 27 0) (b_i ((b_shr a1 1) + a2)) a3)))) : b_K (d + 1) mX8_set [(2, 27), (0, a1), (0, a2), (0, a3)] n w Q X := by
  have i27 := iz27 (Nat.le_trans (Nat.le_of_ble_eq_true rfl) hn)
  have i30 := iz30 (Nat.le_trans (Nat.le_of_ble_eq_true rfl) hn)
  refine k_of (by decide) rfl rfl rfl (ls := [(2, 27), (0, a1), (0, a2), (0, a3)]) rfl ?_
  refine x_iload_n 1 dX8_set_0 rfl rfl rfl ?_
  refine x_if_le (t := 18) 17 dX8_set_1 rfl rfl (b_ite h (fun hc h => ?_) (fun hc h => ?_))
  · refine x_aload_n 0 dX8_set_18 rfl rfl rfl rfl rfl ?_
    refine y_getF 24 3 (c := 7) (z := 30) dX8_set_19 i27 rfl in_X8 q806 rfl rfl rfl fn_27_3 (Nat.le_trans (Nat.le_of_ble_eq_true rfl) hn) rfl ?_
    refine x_iload_n 1 dX8_set_22 rfl rfl rfl ?_
    refine x_ineg dX8_set_23 rfl ?_
    refine x_iconst 1 (z := 1) dX8_set_24 rfl (by decide) rfl ?_
    refine x_ishr dX8_set_25 rfl ?_
    refine x_iload_n 2 dX8_set_26 rfl rfl rfl ?_
    refine x_iadd dX8_set_27 rfl ?_
    refine x_iload_n 3 dX8_set_28 rfl rfl rfl ?_
    obtain ⟨e1, h⟩ := h
    refine y_iast (x' := a3) dX8_set_29 ⟨280000, i30, e1⟩ rfl rfl ?_
    exact y_vret dX8_set_30 rfl h
  · refine x_aload_n 0 dX8_set_4 rfl rfl rfl rfl rfl ?_
    refine y_get 10 0 (c := 7) (z := w 27 0) dX8_set_5 i27 rfl in_X8 q803 rfl rfl rfl rfl rfl ?_
    refine x_iload_n 1 dX8_set_8 rfl rfl rfl ?_
    refine x_iconst 1 (z := 1) dX8_set_9 rfl (by decide) rfl ?_
    refine x_ishr dX8_set_10 rfl ?_
    refine x_iload_n 2 dX8_set_11 rfl rfl rfl ?_
    refine x_iadd dX8_set_12 rfl ?_
    refine x_iload_n 3 dX8_set_13 rfl rfl rfl ?_
    obtain ⟨e2, h⟩ := h
    refine y_iast (x' := a3) dX8_set_14 e2 rfl rfl ?_
    refine x_goto 15 (q := 30) dX8_set_15 rfl ?_
    exact y_vret dX8_set_30 rfl h
abbrev LX8_ofBytes_10 (d n : Nat) (Q : Int → bW → Prop) (X : String → bW → Prop) (a1 : Int) (a2 : Int) (a3 : Int) (a4 : Int) (a5 : Int) (w : bW) : Prop := b_Y (d + 1) mX8_ofBytes n Q X 10 [(2, 27), (2, a1), (0, a2), (0, a3), (0, a4), (0, a5)] [] w
theorem rX8_ofBytes {d n : Nat} {w : bW} {Q : Int → bW → Prop} {X : String → bW → Prop} (hn : 28 ≤ n) (a1 : Int) (a2 : Int) (a3 : Int) (h : b_K d mX8_bytes [(2, 27), (0, a3)] n w (fun r1 w2 => LX8_ofBytes_10 d n Q X a1 a2 a3 r1 0 w2) X) : b_K (d + 1) mX8_ofBytes [(2, 27), (2, a1), (0, a2), (0, a3)] n w Q X := by
  have i27 := iz27 (Nat.le_trans (Nat.le_of_ble_eq_true rfl) hn)
  refine k_of (by decide) rfl rfl rfl (ls := [(2, 27), (2, a1), (0, a2), (0, a3), (9, 0), (9, 0)]) rfl ?_
  refine x_aload_n 0 dX8_ofBytes_0 rfl rfl rfl rfl rfl ?_
  refine x_iload_n 3 dX8_ofBytes_1 rfl rfl rfl ?_
  refine y_Vi 159 (M := mX8_bytes) (As := [(0, a3)]) (st := []) dX8_ofBytes_2 i27 rfl q2001 q2002 q2003 q375 q2004 rfl hmX8_bytes rfl rfl rfl rfl rfl rfl rfl rfl (k_mono h (fun r1 w2 h => ?_))
  refine x_istore 4 (ls' := [(2, 27), (2, a1), (0, a2), (0, a3), (0, r1), (9, 0)]) dX8_ofBytes_5 rfl rfl rfl ?_
  refine x_iconst 0 (z := 0) dX8_ofBytes_7 rfl (by decide) rfl ?_
  refine x_istore 5 (ls' := [(2, 27), (2, a1), (0, a2), (0, a3), (0, r1), (0, 0)]) dX8_ofBytes_8 rfl rfl rfl ?_
  exact x_fg (fgk (fgk (fgk (fgk (fgk (fgk (fg0))))))) h
theorem sX8_ofBytes_10 {d n : Nat} {w : bW} {Q : Int → bW → Prop} {X : String → bW → Prop} (hn : 28 ≤ n) (a1 : Int) (a2 : Int) (a3 : Int) (a4 : Int) (a5 : Int) (h : if a3 ≤ a5 then (Q a4 w) else (b_ai n a1 1 1 (b_i (a2 + a5)) ∧ (b_K d mX8_setByte [(2, 27), (0, a4), (0, a5), (0, w a1 (b_i (a2 + a5)))] n w (fun r2 w3 => LX8_ofBytes_10 d n Q X a1 a2 a3 a4 (b_i (a5 + 1)) w3) X))) : LX8_ofBytes_10 d n Q X a1 a2 a3 a4 a5 w := by
  have i27 := iz27 (Nat.le_trans (Nat.le_of_ble_eq_true rfl) hn)
  refine x_iload 5 dX8_ofBytes_10 rfl rfl ?_
  refine x_iload_n 3 dX8_ofBytes_12 rfl rfl rfl ?_
  refine x_icmp_ge (t := 36) 23 dX8_ofBytes_13 rfl rfl (b_ite h (fun hc h => ?_) (fun hc h => ?_))
  · refine x_iload 4 dX8_ofBytes_36 rfl rfl ?_
    exact y_iret dX8_ofBytes_38 rfl h
  · refine x_aload_n 0 dX8_ofBytes_16 rfl rfl rfl rfl rfl ?_
    refine x_iload 4 dX8_ofBytes_17 rfl rfl ?_
    refine x_iload 5 dX8_ofBytes_19 rfl rfl ?_
    refine x_aload_n 1 dX8_ofBytes_21 rfl rfl rfl rfl rfl ?_
    refine x_iload_n 2 dX8_ofBytes_22 rfl rfl rfl ?_
    refine x_iload 5 dX8_ofBytes_23 rfl rfl ?_
    refine x_iadd dX8_ofBytes_25 rfl ?_
    obtain ⟨e1, h⟩ := h
    refine y_bald (z := w a1 (b_i (a2 + a5))) dX8_ofBytes_26 e1 rfl rfl ?_
    refine y_Vv 162 (M := mX8_setByte) (As := [(0, a4), (0, a5), (0, w a1 (b_i (a2 + a5)))]) (st := []) dX8_ofBytes_27 i27 rfl q2005 q2006 q2007 q375 q2008 rfl hmX8_setByte rfl rfl rfl rfl rfl rfl rfl (k_mono h (fun r2 w3 h => ?_))
    refine x_iinc 5 1 (ls' := [(2, 27), (2, a1), (0, a2), (0, a3), (0, a4), (0, b_i (a5 + 1))]) dX8_ofBytes_30 rfl rfl rfl rfl ?_
    refine x_goto (-23) (q := 10) dX8_ofBytes_33 rfl ?_
    exact x_fg (fgk (fgk (fgk (fgk (fgk (fgk (fg0))))))) h
abbrev LX8_bytes_48 (d n : Nat) (Q : Int → bW → Prop) (X : String → bW → Prop) (a2 : Int) (a3 : Int) (a4 : Int) (w : bW) : Prop := b_Y (d + 1) mX8_bytes n Q X 48 [(2, 27), (9, 0), (0, a2), (0, a3), (0, a4)] [] w
theorem rX8_bytes {d n : Nat} {w : bW} {Q : Int → bW → Prop} {X : String → bW → Prop} (hn : 143 ≤ n) (a1 : Int) (h : if 8192 < a1 then (b_K d mX2_want [(2, 2), (0, 0), (0, 2)] n w (fun r1 w2 => b_K d mX8_make [(2, 27), (0, 2), (0, b_i (5 + a1)), (0, b_i (3 + (b_shr (b_i (a1 + 3)) 2)))] n w2 (fun r3 w4 => b_K d mX8_set [(2, 27), (0, r3), (0, 2), (0, a1)] n w4 (fun r5 w6 => LX8_bytes_48 d n Q X (b_shr (b_i (a1 + 3)) 2) r3 0 w6) X) X) X) else (b_K d mX2_want [(2, 2), (0, 1), (0, 2)] n w (fun r7 w8 => b_K d mX8_make [(2, 27), (0, 2), (0, b_i (5 + a1)), (0, b_i (3 + (b_shr (b_i (a1 + 3)) 2)))] n w8 (fun r9 w10 => b_K d mX8_set [(2, 27), (0, r9), (0, 2), (0, a1)] n w10 (fun r11 w12 => LX8_bytes_48 d n Q X (b_shr (b_i (a1 + 3)) 2) r9 0 w12) X) X) X)) : b_K (d + 1) mX8_bytes [(2, 27), (0, a1)] n w Q X := by
  have i2 := iz2 (Nat.le_trans (Nat.le_of_ble_eq_true rfl) hn)
  have i27 := iz27 (Nat.le_trans (Nat.le_of_ble_eq_true rfl) hn)
  refine k_of (by decide) rfl rfl rfl (ls := [(2, 27), (0, a1), (9, 0), (9, 0), (9, 0)]) rfl ?_
  refine x_aload_n 0 dX8_bytes_0 rfl rfl rfl rfl rfl ?_
  refine y_getF 39 6 (c := 7) (z := 2) dX8_bytes_1 i27 rfl in_X8 q811 rfl rfl rfl fn_27_6 (Nat.le_trans (Nat.le_of_ble_eq_true rfl) hn) rfl ?_
  refine x_iload_n 1 dX8_bytes_4 rfl rfl rfl ?_
  refine x_sipush 8192 (z := 8192) dX8_bytes_5 rfl (by decide) rfl ?_
  refine x_icmp_gt (t := 15) 7 dX8_bytes_8 rfl rfl (b_ite h (fun hc h => ?_) (fun hc h => ?_))
  · refine x_iconst 0 (z := 0) dX8_bytes_15 rfl (by decide) rfl ?_
    refine x_iconst 2 (z := 2) dX8_bytes_16 rfl (by decide) rfl ?_
    refine y_Vv 131 (M := mX2_want) (As := [(0, 0), (0, 2)]) (st := []) dX8_bytes_17 i2 rfl q1953 q1954 q1955 q359 q1956 rfl hmX2_want rfl rfl rfl rfl rfl rfl rfl (k_mono h (fun r1 w2 h => ?_))
    refine x_iload_n 1 dX8_bytes_20 rfl rfl rfl ?_
    refine x_iconst 3 (z := 3) dX8_bytes_21 rfl (by decide) rfl ?_
    refine x_iadd dX8_bytes_22 rfl ?_
    refine x_iconst 2 (z := 2) dX8_bytes_23 rfl (by decide) rfl ?_
    refine x_ishr dX8_bytes_24 rfl ?_
    refine x_istore_n 2 (ls' := [(2, 27), (0, a1), (0, b_shr (b_i (a1 + 3)) 2), (9, 0), (9, 0)]) dX8_bytes_25 rfl rfl rfl rfl ?_
    refine x_aload_n 0 dX8_bytes_26 rfl rfl rfl rfl rfl ?_
    refine x_iconst 2 (z := 2) dX8_bytes_27 rfl (by decide) rfl ?_
    refine x_iconst 5 (z := 5) dX8_bytes_28 rfl (by decide) rfl ?_
    refine x_iload_n 1 dX8_bytes_29 rfl rfl rfl ?_
    refine x_iadd dX8_bytes_30 rfl ?_
    refine x_iconst 3 (z := 3) dX8_bytes_31 rfl (by decide) rfl ?_
    refine x_iload_n 2 dX8_bytes_32 rfl rfl rfl ?_
    refine x_iadd dX8_bytes_33 rfl ?_
    refine y_Vi 144 (M := mX8_make) (As := [(0, 2), (0, b_i (5 + a1)), (0, b_i (3 + (b_shr (b_i (a1 + 3)) 2)))]) (st := []) dX8_bytes_34 i27 rfl q1971 q1973 qs37 q375 q1974 rfl hmX8_make rfl rfl rfl rfl rfl rfl rfl rfl (k_mono h (fun r3 w4 h => ?_))
    refine x_istore_n 3 (ls' := [(2, 27), (0, a1), (0, b_shr (b_i (a1 + 3)) 2), (0, r3), (9, 0)]) dX8_bytes_37 rfl rfl rfl rfl ?_
    refine x_aload_n 0 dX8_bytes_38 rfl rfl rfl rfl rfl ?_
    refine x_iload_n 3 dX8_bytes_39 rfl rfl rfl ?_
    refine x_iconst 2 (z := 2) dX8_bytes_40 rfl (by decide) rfl ?_
    refine x_iload_n 1 dX8_bytes_41 rfl rfl rfl ?_
    refine y_Vv 55 (M := mX8_set) (As := [(0, r3), (0, 2), (0, a1)]) (st := []) dX8_bytes_42 i27 rfl q1975 q1977 qs38 q375 q1978 rfl hmX8_set rfl rfl rfl rfl rfl rfl rfl (k_mono h (fun r5 w6 h => ?_))
    refine x_iconst 0 (z := 0) dX8_bytes_45 rfl (by decide) rfl ?_
    refine x_istore 4 (ls' := [(2, 27), (0, a1), (0, b_shr (b_i (a1 + 3)) 2), (0, r3), (0, 0)]) dX8_bytes_46 rfl rfl rfl ?_
    exact x_fg (fgk (fgd (fgk (fgk (fgk (fg0)))))) h
  · refine x_iconst 1 (z := 1) dX8_bytes_11 rfl (by decide) rfl ?_
    refine x_goto 4 (q := 16) dX8_bytes_12 rfl ?_
    refine x_iconst 2 (z := 2) dX8_bytes_16 rfl (by decide) rfl ?_
    refine y_Vv 131 (M := mX2_want) (As := [(0, 1), (0, 2)]) (st := []) dX8_bytes_17 i2 rfl q1953 q1954 q1955 q359 q1956 rfl hmX2_want rfl rfl rfl rfl rfl rfl rfl (k_mono h (fun r7 w8 h => ?_))
    refine x_iload_n 1 dX8_bytes_20 rfl rfl rfl ?_
    refine x_iconst 3 (z := 3) dX8_bytes_21 rfl (by decide) rfl ?_
    refine x_iadd dX8_bytes_22 rfl ?_
    refine x_iconst 2 (z := 2) dX8_bytes_23 rfl (by decide) rfl ?_
    refine x_ishr dX8_bytes_24 rfl ?_
    refine x_istore_n 2 (ls' := [(2, 27), (0, a1), (0, b_shr (b_i (a1 + 3)) 2), (9, 0), (9, 0)]) dX8_bytes_25 rfl rfl rfl rfl ?_
    refine x_aload_n 0 dX8_bytes_26 rfl rfl rfl rfl rfl ?_
    refine x_iconst 2 (z := 2) dX8_bytes_27 rfl (by decide) rfl ?_
    refine x_iconst 5 (z := 5) dX8_bytes_28 rfl (by decide) rfl ?_
    refine x_iload_n 1 dX8_bytes_29 rfl rfl rfl ?_
    refine x_iadd dX8_bytes_30 rfl ?_
    refine x_iconst 3 (z := 3) dX8_bytes_31 rfl (by decide) rfl ?_
    refine x_iload_n 2 dX8_bytes_32 rfl rfl rfl ?_
    refine x_iadd dX8_bytes_33 rfl ?_
    refine y_Vi 144 (M := mX8_make) (As := [(0, 2), (0, b_i (5 + a1)), (0, b_i (3 + (b_shr (b_i (a1 + 3)) 2)))]) (st := []) dX8_bytes_34 i27 rfl q1971 q1973 qs37 q375 q1974 rfl hmX8_make rfl rfl rfl rfl rfl rfl rfl rfl (k_mono h (fun r9 w10 h => ?_))
    refine x_istore_n 3 (ls' := [(2, 27), (0, a1), (0, b_shr (b_i (a1 + 3)) 2), (0, r9), (9, 0)]) dX8_bytes_37 rfl rfl rfl rfl ?_
    refine x_aload_n 0 dX8_bytes_38 rfl rfl rfl rfl rfl ?_
    refine x_iload_n 3 dX8_bytes_39 rfl rfl rfl ?_
    refine x_iconst 2 (z := 2) dX8_bytes_40 rfl (by decide) rfl ?_
    refine x_iload_n 1 dX8_bytes_41 rfl rfl rfl ?_
    refine y_Vv 55 (M := mX8_set) (As := [(0, r9), (0, 2), (0, a1)]) (st := []) dX8_bytes_42 i27 rfl q1975 q1977 qs38 q375 q1978 rfl hmX8_set rfl rfl rfl rfl rfl rfl rfl (k_mono h (fun r11 w12 h => ?_))
    refine x_iconst 0 (z := 0) dX8_bytes_45 rfl (by decide) rfl ?_
    refine x_istore 4 (ls' := [(2, 27), (0, a1), (0, b_shr (b_i (a1 + 3)) 2), (0, r9), (0, 0)]) dX8_bytes_46 rfl rfl rfl ?_
    exact x_fg (fgk (fgd (fgk (fgk (fgk (fg0)))))) h
theorem sX8_bytes_48 {d n : Nat} {w : bW} {Q : Int → bW → Prop} {X : String → bW → Prop} (hn : 143 ≤ n) (a2 : Int) (a3 : Int) (a4 : Int) (h : if a2 ≤ a4 then (Q a3 w) else (b_K d mX8_set [(2, 27), (0, a3), (0, b_i (3 + a4)), (0, 0)] n w (fun r1 w2 => LX8_bytes_48 d n Q X a2 a3 (b_i (a4 + 1)) w2) X)) : LX8_bytes_48 d n Q X a2 a3 a4 w := by
  have i27 := iz27 (Nat.le_trans (Nat.le_of_ble_eq_true rfl) hn)
  refine x_iload 4 dX8_bytes_48 rfl rfl ?_
  refine x_iload_n 2 dX8_bytes_50 rfl rfl rfl ?_
  refine x_icmp_ge (t := 70) 19 dX8_bytes_51 rfl rfl (b_ite h (fun hc h => ?_) (fun hc h => ?_))
  · refine x_iload_n 3 dX8_bytes_70 rfl rfl rfl ?_
    exact y_iret dX8_bytes_71 rfl h
  · refine x_aload_n 0 dX8_bytes_54 rfl rfl rfl rfl rfl ?_
    refine x_iload_n 3 dX8_bytes_55 rfl rfl rfl ?_
    refine x_iconst 3 (z := 3) dX8_bytes_56 rfl (by decide) rfl ?_
    refine x_iload 4 dX8_bytes_57 rfl rfl ?_
    refine x_iadd dX8_bytes_59 rfl ?_
    refine x_iconst 0 (z := 0) dX8_bytes_60 rfl (by decide) rfl ?_
    refine y_Vv 55 (M := mX8_set) (As := [(0, a3), (0, b_i (3 + a4)), (0, 0)]) (st := []) dX8_bytes_61 i27 rfl q1975 q1977 qs38 q375 q1978 rfl hmX8_set rfl rfl rfl rfl rfl rfl rfl (k_mono h (fun r1 w2 h => ?_))
    refine x_iinc 4 1 (ls' := [(2, 27), (9, 0), (0, a2), (0, a3), (0, b_i (a4 + 1))]) dX8_bytes_64 rfl rfl rfl rfl ?_
    refine x_goto (-19) (q := 48) dX8_bytes_67 rfl ?_
    exact x_fg (fgk (fgk (fgk (fgk (fgk (fg0)))))) h
theorem rX8_setByte {d n : Nat} {w : bW} {Q : Int → bW → Prop} {X : String → bW → Prop} (hn : 28 ≤ n) (a1 : Int) (a2 : Int) (a3 : Int) (h : b_K d mX8_cell [(2, 27), (0, a1), (0, b_i (3 + (b_shr a2 2)))] n w (fun r1 w2 => b_K d mX8_set [(2, 27), (0, a1), (0, b_i (3 + (b_shr a2 2))), (0, b_or (b_and r1 (b_xor (b_shl 255 (b_i (8 * (b_and a2 3)))) (-1))) (b_shl (b_and a3 255) (b_i (8 * (b_and a2 3)))))] n w2 (fun r3 w4 => Q 0 w4) X) X) : b_K (d + 1) mX8_setByte [(2, 27), (0, a1), (0, a2), (0, a3)] n w Q X := by
  have i27 := iz27 (Nat.le_trans (Nat.le_of_ble_eq_true rfl) hn)
  refine k_of (by decide) rfl rfl rfl (ls := [(2, 27), (0, a1), (0, a2), (0, a3), (9, 0), (9, 0)]) rfl ?_
  refine x_bipush 8 (z := 8) dX8_setByte_0 rfl (by decide) rfl ?_
  refine x_iload_n 2 dX8_setByte_2 rfl rfl rfl ?_
  refine x_iconst 3 (z := 3) dX8_setByte_3 rfl (by decide) rfl ?_
  refine x_iand dX8_setByte_4 rfl ?_
  refine x_imul dX8_setByte_5 rfl ?_
  refine x_istore 4 (ls' := [(2, 27), (0, a1), (0, a2), (0, a3), (0, b_i (8 * (b_and a2 3))), (9, 0)]) dX8_setByte_6 rfl rfl rfl ?_
  refine x_iconst 3 (z := 3) dX8_setByte_8 rfl (by decide) rfl ?_
  refine x_iload_n 2 dX8_setByte_9 rfl rfl rfl ?_
  refine x_iconst 2 (z := 2) dX8_setByte_10 rfl (by decide) rfl ?_
  refine x_ishr dX8_setByte_11 rfl ?_
  refine x_iadd dX8_setByte_12 rfl ?_
  refine x_istore 5 (ls' := [(2, 27), (0, a1), (0, a2), (0, a3), (0, b_i (8 * (b_and a2 3))), (0, b_i (3 + (b_shr a2 2)))]) dX8_setByte_13 rfl rfl rfl ?_
  refine x_aload_n 0 dX8_setByte_15 rfl rfl rfl rfl rfl ?_
  refine x_iload_n 1 dX8_setByte_16 rfl rfl rfl ?_
  refine x_iload 5 dX8_setByte_17 rfl rfl ?_
  refine x_aload_n 0 dX8_setByte_19 rfl rfl rfl rfl rfl ?_
  refine x_iload_n 1 dX8_setByte_20 rfl rfl rfl ?_
  refine x_iload 5 dX8_setByte_21 rfl rfl ?_
  refine y_Vi 47 (M := mX8_cell) (As := [(0, a1), (0, b_i (3 + (b_shr a2 2)))]) (st := [(0, b_i (3 + (b_shr a2 2))), (0, a1), (2, 27)]) dX8_setByte_23 i27 rfl q2009 q2010 q2011 q375 q2012 rfl hmX8_cell rfl rfl rfl rfl rfl rfl rfl rfl (k_mono h (fun r1 w2 h => ?_))
  refine x_sipush 255 (z := 255) dX8_setByte_26 rfl (by decide) rfl ?_
  refine x_iload 4 dX8_setByte_29 rfl rfl ?_
  refine x_ishl dX8_setByte_31 rfl ?_
  refine x_iconst (-1) (z := (-1)) dX8_setByte_32 rfl (by decide) rfl ?_
  refine x_ixor dX8_setByte_33 rfl ?_
  refine x_iand dX8_setByte_34 rfl ?_
  refine x_iload_n 3 dX8_setByte_35 rfl rfl rfl ?_
  refine x_sipush 255 (z := 255) dX8_setByte_36 rfl (by decide) rfl ?_
  refine x_iand dX8_setByte_39 rfl ?_
  refine x_iload 4 dX8_setByte_40 rfl rfl ?_
  refine x_ishl dX8_setByte_42 rfl ?_
  refine x_ior dX8_setByte_43 rfl ?_
  refine y_Vv 55 (M := mX8_set) (As := [(0, a1), (0, b_i (3 + (b_shr a2 2))), (0, b_or (b_and r1 (b_xor (b_shl 255 (b_i (8 * (b_and a2 3)))) (-1))) (b_shl (b_and a3 255) (b_i (8 * (b_and a2 3)))))]) (st := []) dX8_setByte_44 i27 rfl q1975 q1977 qs38 q375 q1978 rfl hmX8_set rfl rfl rfl rfl rfl rfl rfl (k_mono h (fun r3 w4 h => ?_))
  exact y_vret dX8_setByte_47 rfl h
theorem rX8_cell {d n : Nat} {w : bW} {Q : Int → bW → Prop} {X : String → bW → Prop} (hn : 143 ≤ n) (a1 : Int) (a2 : Int) (h : if a1 ≤ 0 then ((0 ≤ b_i ((b_shr (b_i (-a1)) 1) + a2) ∧ b_i ((b_shr (b_i (-a1)) 1) + a2) < 280000) ∧ (Q (w 30 (b_i ((b_shr (b_i (-a1)) 1) + a2))) w)) else (b_ai n (w 27 0) 1 0 (b_i ((b_shr a1 1) + a2)) ∧ (Q (w (w 27 0) (b_i ((b_shr a1 1) + a2))) w))) : b_K (d + 1) mX8_cell [(2, 27), (0, a1), (0, a2)] n w Q X := by
  have i27 := iz27 (Nat.le_trans (Nat.le_of_ble_eq_true rfl) hn)
  have i30 := iz30 (Nat.le_trans (Nat.le_of_ble_eq_true rfl) hn)
  refine k_of (by decide) rfl rfl rfl (ls := [(2, 27), (0, a1), (0, a2)]) rfl ?_
  refine x_iload_n 1 dX8_cell_0 rfl rfl rfl ?_
  refine x_if_le (t := 17) 16 dX8_cell_1 rfl rfl (b_ite h (fun hc h => ?_) (fun hc h => ?_))
  · refine x_aload_n 0 dX8_cell_17 rfl rfl rfl rfl rfl ?_
    refine y_getF 24 3 (c := 7) (z := 30) dX8_cell_18 i27 rfl in_X8 q806 rfl rfl rfl fn_27_3 (Nat.le_trans (Nat.le_of_ble_eq_true rfl) hn) rfl ?_
    refine x_iload_n 1 dX8_cell_21 rfl rfl rfl ?_
    refine x_ineg dX8_cell_22 rfl ?_
    refine x_iconst 1 (z := 1) dX8_cell_23 rfl (by decide) rfl ?_
    refine x_ishr dX8_cell_24 rfl ?_
    refine x_iload_n 2 dX8_cell_25 rfl rfl rfl ?_
    refine x_iadd dX8_cell_26 rfl ?_
    obtain ⟨e1, h⟩ := h
    refine y_iald (z := w 30 (b_i ((b_shr (b_i (-a1)) 1) + a2))) dX8_cell_27 ⟨280000, i30, e1⟩ rfl rfl ?_
    exact y_iret dX8_cell_28 rfl h
  · refine x_aload_n 0 dX8_cell_4 rfl rfl rfl rfl rfl ?_
    refine y_get 10 0 (c := 7) (z := w 27 0) dX8_cell_5 i27 rfl in_X8 q803 rfl rfl rfl rfl rfl ?_
    refine x_iload_n 1 dX8_cell_8 rfl rfl rfl ?_
    refine x_iconst 1 (z := 1) dX8_cell_9 rfl (by decide) rfl ?_
    refine x_ishr dX8_cell_10 rfl ?_
    refine x_iload_n 2 dX8_cell_11 rfl rfl rfl ?_
    refine x_iadd dX8_cell_12 rfl ?_
    obtain ⟨e2, h⟩ := h
    refine y_iald (z := w (w 27 0) (b_i ((b_shr a1 1) + a2))) dX8_cell_13 e2 rfl rfl ?_
    refine x_goto 14 (q := 28) dX8_cell_14 rfl ?_
    exact y_iret dX8_cell_28 rfl h
theorem rX8_wrap {d n : Nat} {w : bW} {Q : Int → bW → Prop} {X : String → bW → Prop} (hn : 28 ≤ n) (a1 : Int) (a2 : Int) (h : b_K d mX8_length [(2, 27), (0, a2)] n w (fun r1 w2 => b_K d mX8_sum [(0, 2), (0, r1)] n w2 (fun r3 w4 => b_K d mX8_make [(2, 27), (0, a1), (0, r3), (0, 3)] n w4 (fun r5 w6 => b_K d mX8_set [(2, 27), (0, r5), (0, 2), (0, a2)] n w6 (fun r7 w8 => Q r5 w8) X) X) X) X) : b_K (d + 1) mX8_wrap [(2, 27), (0, a1), (0, a2)] n w Q X := by
  have i27 := iz27 (Nat.le_trans (Nat.le_of_ble_eq_true rfl) hn)
  refine k_of (by decide) rfl rfl rfl (ls := [(2, 27), (0, a1), (0, a2), (9, 0)]) rfl ?_
  refine x_aload_n 0 dX8_wrap_0 rfl rfl rfl rfl rfl ?_
  refine x_iload_n 1 dX8_wrap_1 rfl rfl rfl ?_
  refine x_iconst 2 (z := 2) dX8_wrap_2 rfl (by decide) rfl ?_
  refine x_aload_n 0 dX8_wrap_3 rfl rfl rfl rfl rfl ?_
  refine x_iload_n 2 dX8_wrap_4 rfl rfl rfl ?_
  refine y_Vi 165 (M := mX8_length) (As := [(0, a2)]) (st := [(0, 2), (0, a1), (2, 27)]) dX8_wrap_5 i27 rfl q2027 q2028 q2029 q375 q2030 rfl hmX8_length rfl rfl rfl rfl rfl rfl rfl rfl (k_mono h (fun r1 w2 h => ?_))
  refine y_Si 108 (M := mX8_sum) (As := [(0, 2), (0, r1)]) (st := [(0, a1), (2, 27)]) dX8_wrap_8 q2045 q2046 q375 q2047 hmX8_sum rfl rfl rfl rfl rfl rfl rfl rfl (k_mono h (fun r3 w4 h => ?_))
  refine x_iconst 3 (z := 3) dX8_wrap_11 rfl (by decide) rfl ?_
  refine y_Vi 144 (M := mX8_make) (As := [(0, a1), (0, r3), (0, 3)]) (st := []) dX8_wrap_12 i27 rfl q1971 q1973 qs37 q375 q1974 rfl hmX8_make rfl rfl rfl rfl rfl rfl rfl rfl (k_mono h (fun r5 w6 h => ?_))
  refine x_istore_n 3 (ls' := [(2, 27), (0, a1), (0, a2), (0, r5)]) dX8_wrap_15 rfl rfl rfl rfl ?_
  refine x_aload_n 0 dX8_wrap_16 rfl rfl rfl rfl rfl ?_
  refine x_iload_n 3 dX8_wrap_17 rfl rfl rfl ?_
  refine x_iconst 2 (z := 2) dX8_wrap_18 rfl (by decide) rfl ?_
  refine x_iload_n 2 dX8_wrap_19 rfl rfl rfl ?_
  refine y_Vv 55 (M := mX8_set) (As := [(0, r5), (0, 2), (0, a2)]) (st := []) dX8_wrap_20 i27 rfl q1975 q1977 qs38 q375 q1978 rfl hmX8_set rfl rfl rfl rfl rfl rfl rfl (k_mono h (fun r7 w8 h => ?_))
  refine x_iload_n 3 dX8_wrap_23 rfl rfl rfl ?_
  exact y_iret dX8_wrap_24 rfl h
theorem rX8_length {d n : Nat} {w : bW} {Q : Int → bW → Prop} {X : String → bW → Prop} (hn : 28 ≤ n) (a1 : Int) (h : b_K d mX8_isSmall [(0, a1)] n w (fun r1 w2 => if r1 = 0 then (b_K d mX8_isPlace [(0, a1)] n w2 (fun r3 w4 => if r3 ≠ 0 then (b_K d mX8_cell [(2, 27), (0, a1), (0, 1)] n w4 (fun r5 w6 => b_K d mX8_kind [(2, 27), (0, a1)] n w6 (fun r7 w8 => if r7 ≠ 8 then (Q r5 w8) else (b_K d mX8_sum [(0, r5), (0, 5)] n w8 (fun r9 w10 => Q r9 w10) X)) X) X) else (if a1 = 10 then (Q 5 w4) else (if a1 ≠ 12 then (Q 2 w4) else (Q 5 w4)))) X) else (b_K d mJ11_numberOfLeadingZeros [(0, (if 0 ≤ (b_shr a1 1) then (b_shr a1 1) else b_i (-(b_shr a1 1))))] n w2 (fun r11 w12 => b_K d mX8_numberLength [(0, b_i (32 - r11))] n w12 (fun r13 w14 => Q r13 w14) X) X)) X) : b_K (d + 1) mX8_length [(2, 27), (0, a1)] n w Q X := by
  have i27 := iz27 (Nat.le_trans (Nat.le_of_ble_eq_true rfl) hn)
  refine k_of (by decide) rfl rfl rfl (ls := [(2, 27), (0, a1), (9, 0)]) rfl ?_
  refine x_iload_n 1 dX8_length_0 rfl rfl rfl ?_
  refine y_Si 89 (M := mX8_isSmall) (As := [(0, a1)]) (st := []) dX8_length_1 q2031 q2032 q375 q2033 hmX8_isSmall rfl rfl rfl rfl rfl rfl rfl rfl (k_mono h (fun r1 w2 h => ?_))
  refine x_if_eq (t := 23) 19 dX8_length_4 rfl rfl (b_ite h (fun hc h => ?_) (fun hc h => ?_))
  · refine x_iload_n 1 dX8_length_23 rfl rfl rfl ?_
    refine y_Si 43 (M := mX8_isPlace) (As := [(0, a1)]) (st := []) dX8_length_24 q2038 q2039 q375 q2040 hmX8_isPlace rfl rfl rfl rfl rfl rfl rfl rfl (k_mono h (fun r3 w4 h => ?_))
    refine x_if_ne (t := 48) 21 dX8_length_27 rfl rfl (b_ite h (fun hc h => ?_) (fun hc h => ?_))
    · refine x_aload_n 0 dX8_length_48 rfl rfl rfl rfl rfl ?_
      refine x_iload_n 1 dX8_length_49 rfl rfl rfl ?_
      refine x_iconst 1 (z := 1) dX8_length_50 rfl (by decide) rfl ?_
      refine y_Vi 47 (M := mX8_cell) (As := [(0, a1), (0, 1)]) (st := []) dX8_length_51 i27 rfl q2009 q2010 q2011 q375 q2012 rfl hmX8_cell rfl rfl rfl rfl rfl rfl rfl rfl (k_mono h (fun r5 w6 h => ?_))
      refine x_istore_n 2 (ls' := [(2, 27), (0, a1), (0, r5)]) dX8_length_54 rfl rfl rfl rfl ?_
      refine x_aload_n 0 dX8_length_55 rfl rfl rfl rfl rfl ?_
      refine x_iload_n 1 dX8_length_56 rfl rfl rfl ?_
      refine y_Vi 105 (M := mX8_kind) (As := [(0, a1)]) (st := []) dX8_length_57 i27 rfl q2041 q2042 q2043 q375 q2044 rfl hmX8_kind rfl rfl rfl rfl rfl rfl rfl rfl (k_mono h (fun r7 w8 h => ?_))
      refine x_bipush 8 (z := 8) dX8_length_60 rfl (by decide) rfl ?_
      refine x_icmp_ne (t := 73) 11 dX8_length_62 rfl rfl (b_ite h (fun hc h => ?_) (fun hc h => ?_))
      · refine x_iload_n 2 dX8_length_73 rfl rfl rfl ?_
        exact y_iret dX8_length_74 rfl h
      · refine x_iload_n 2 dX8_length_65 rfl rfl rfl ?_
        refine x_iconst 5 (z := 5) dX8_length_66 rfl (by decide) rfl ?_
        refine y_Si 108 (M := mX8_sum) (As := [(0, r5), (0, 5)]) (st := []) dX8_length_67 q2045 q2046 q375 q2047 hmX8_sum rfl rfl rfl rfl rfl rfl rfl rfl (k_mono h (fun r9 w10 h => ?_))
        refine x_goto 4 (q := 74) dX8_length_70 rfl ?_
        exact y_iret dX8_length_74 rfl h
    · refine x_iload_n 1 dX8_length_30 rfl rfl rfl ?_
      refine x_bipush 10 (z := 10) dX8_length_31 rfl (by decide) rfl ?_
      refine x_icmp_eq (t := 42) 9 dX8_length_33 rfl rfl (b_ite h (fun hc h => ?_) (fun hc h => ?_))
      · refine x_iconst 5 (z := 5) dX8_length_42 rfl (by decide) rfl ?_
        refine x_goto 4 (q := 47) dX8_length_43 rfl ?_
        exact y_iret dX8_length_47 rfl h
      · refine x_iload_n 1 dX8_length_36 rfl rfl rfl ?_
        refine x_bipush 12 (z := 12) dX8_length_37 rfl (by decide) rfl ?_
        refine x_icmp_ne (t := 46) 7 dX8_length_39 rfl rfl (b_ite h (fun hc h => ?_) (fun hc h => ?_))
        · refine x_iconst 2 (z := 2) dX8_length_46 rfl (by decide) rfl ?_
          exact y_iret dX8_length_47 rfl h
        · refine x_iconst 5 (z := 5) dX8_length_42 rfl (by decide) rfl ?_
          refine x_goto 4 (q := 47) dX8_length_43 rfl ?_
          exact y_iret dX8_length_47 rfl h
  · refine x_bipush 32 (z := 32) dX8_length_7 rfl (by decide) rfl ?_
    refine x_iload_n 1 dX8_length_9 rfl rfl rfl ?_
    refine x_iconst 1 (z := 1) dX8_length_10 rfl (by decide) rfl ?_
    refine x_ishr dX8_length_11 rfl ?_
    refine y_mabs 92 dX8_length_12 q2034 q2035 q367 q2036 rfl rfl ?_
    refine y_Si 97 (M := mJ11_numberOfLeadingZeros) (As := [(0, (if 0 ≤ (b_shr a1 1) then (b_shr a1 1) else b_i (-(b_shr a1 1))))]) (st := [(0, 32)]) dX8_length_15 q2037 q1756 q399 q1757 hmJ11_numberOfLeadingZeros rfl rfl rfl rfl rfl rfl rfl rfl (k_mono h (fun r11 w12 h => ?_))
    refine x_isub dX8_length_18 rfl ?_
    refine y_Si 102 (M := mX8_numberLength) (As := [(0, b_i (32 - r11))]) (st := []) dX8_length_19 q1968 q1969 q375 q1970 hmX8_numberLength rfl rfl rfl rfl rfl rfl rfl rfl (k_mono h (fun r13 w14 h => ?_))
    exact y_iret dX8_length_22 rfl h
theorem rX8_isSmall {d n : Nat} {w : bW} {Q : Int → bW → Prop} {X : String → bW → Prop} (a0 : Int) (h : if b_and a0 1 = 0 then (Q 0 w) else (Q 1 w)) : b_K (d + 1) mX8_isSmall [(0, a0)] n w Q X := by
  refine k_of (by decide) rfl rfl rfl (ls := [(0, a0)]) rfl ?_
  refine x_iload_n 0 dX8_isSmall_0 rfl rfl rfl ?_
  refine x_iconst 1 (z := 1) dX8_isSmall_1 rfl (by decide) rfl ?_
  refine x_iand dX8_isSmall_2 rfl ?_
  refine x_if_eq (t := 10) 7 dX8_isSmall_3 rfl rfl (b_ite h (fun hc h => ?_) (fun hc h => ?_))
  · refine x_iconst 0 (z := 0) dX8_isSmall_10 rfl (by decide) rfl ?_
    exact y_zret dX8_isSmall_11 rfl (by decide) h
  · refine x_iconst 1 (z := 1) dX8_isSmall_6 rfl (by decide) rfl ?_
    refine x_goto 4 (q := 11) dX8_isSmall_7 rfl ?_
    exact y_zret dX8_isSmall_11 rfl (by decide) h
theorem rX8_isPlace {d n : Nat} {w : bW} {Q : Int → bW → Prop} {X : String → bW → Prop} (a0 : Int) (h : if b_and a0 1 ≠ 0 then (Q 0 w) else (if a0 < 0 then (Q 1 w) else (if a0 < 32 then (Q 0 w) else (Q 1 w)))) : b_K (d + 1) mX8_isPlace [(0, a0)] n w Q X := by
  refine k_of (by decide) rfl rfl rfl (ls := [(0, a0)]) rfl ?_
  refine x_iload_n 0 dX8_isPlace_0 rfl rfl rfl ?_
  refine x_iconst 1 (z := 1) dX8_isPlace_1 rfl (by decide) rfl ?_
  refine x_iand dX8_isPlace_2 rfl ?_
  refine x_if_ne (t := 20) 17 dX8_isPlace_3 rfl rfl (b_ite h (fun hc h => ?_) (fun hc h => ?_))
  · refine x_iconst 0 (z := 0) dX8_isPlace_20 rfl (by decide) rfl ?_
    exact y_zret dX8_isPlace_21 rfl (by decide) h
  · refine x_iload_n 0 dX8_isPlace_6 rfl rfl rfl ?_
    refine x_if_lt (t := 16) 9 dX8_isPlace_7 rfl rfl (b_ite h (fun hc h => ?_) (fun hc h => ?_))
    · refine x_iconst 1 (z := 1) dX8_isPlace_16 rfl (by decide) rfl ?_
      refine x_goto 4 (q := 21) dX8_isPlace_17 rfl ?_
      exact y_zret dX8_isPlace_21 rfl (by decide) h
    · refine x_iload_n 0 dX8_isPlace_10 rfl rfl rfl ?_
      refine x_bipush 32 (z := 32) dX8_isPlace_11 rfl (by decide) rfl ?_
      refine x_icmp_lt (t := 20) 7 dX8_isPlace_13 rfl rfl (b_ite h (fun hc h => ?_) (fun hc h => ?_))
      · refine x_iconst 0 (z := 0) dX8_isPlace_20 rfl (by decide) rfl ?_
        exact y_zret dX8_isPlace_21 rfl (by decide) h
      · refine x_iconst 1 (z := 1) dX8_isPlace_16 rfl (by decide) rfl ?_
        refine x_goto 4 (q := 21) dX8_isPlace_17 rfl ?_
        exact y_zret dX8_isPlace_21 rfl (by decide) h
theorem rX8_kind {d n : Nat} {w : bW} {Q : Int → bW → Prop} {X : String → bW → Prop} (hn : 28 ≤ n) (a1 : Int) (h : b_K d mX8_isPlace [(0, a1)] n w (fun r1 w2 => if r1 = 0 then (Q 0 w2) else (b_K d mX8_cell [(2, 27), (0, a1), (0, 0)] n w2 (fun r3 w4 => Q r3 w4) X)) X) : b_K (d + 1) mX8_kind [(2, 27), (0, a1)] n w Q X := by
  have i27 := iz27 (Nat.le_trans (Nat.le_of_ble_eq_true rfl) hn)
  refine k_of (by decide) rfl rfl rfl (ls := [(2, 27), (0, a1)]) rfl ?_
  refine x_iload_n 1 dX8_kind_0 rfl rfl rfl ?_
  refine y_Si 43 (M := mX8_isPlace) (As := [(0, a1)]) (st := []) dX8_kind_1 q2038 q2039 q375 q2040 hmX8_isPlace rfl rfl rfl rfl rfl rfl rfl rfl (k_mono h (fun r1 w2 h => ?_))
  refine x_if_eq (t := 16) 12 dX8_kind_4 rfl rfl (b_ite h (fun hc h => ?_) (fun hc h => ?_))
  · refine x_iconst 0 (z := 0) dX8_kind_16 rfl (by decide) rfl ?_
    exact y_iret dX8_kind_17 rfl h
  · refine x_aload_n 0 dX8_kind_7 rfl rfl rfl rfl rfl ?_
    refine x_iload_n 1 dX8_kind_8 rfl rfl rfl ?_
    refine x_iconst 0 (z := 0) dX8_kind_9 rfl (by decide) rfl ?_
    refine y_Vi 47 (M := mX8_cell) (As := [(0, a1), (0, 0)]) (st := []) dX8_kind_10 i27 rfl q2009 q2010 q2011 q375 q2012 rfl hmX8_cell rfl rfl rfl rfl rfl rfl rfl rfl (k_mono h (fun r3 w4 h => ?_))
    refine x_goto 4 (q := 17) dX8_kind_13 rfl ?_
    exact y_iret dX8_kind_17 rfl h
theorem rX8_sum {d n : Nat} {w : bW} {Q : Int → bW → Prop} {X : String → bW → Prop} (a0 : Int) (a1 : Int) (h : if a0 < b_i (1073741824 - a1) then (Q (b_i (a0 + a1)) w) else (Q 1073741824 w)) : b_K (d + 1) mX8_sum [(0, a0), (0, a1)] n w Q X := by
  refine k_of (by decide) rfl rfl rfl (ls := [(0, a0), (0, a1)]) rfl ?_
  refine x_iload_n 0 dX8_sum_0 rfl rfl rfl ?_
  refine x_ldc 88 (x := 1073741824) dX8_sum_1 q2048 rfl (by decide) rfl ?_
  refine x_iload_n 1 dX8_sum_3 rfl rfl rfl ?_
  refine x_isub dX8_sum_4 rfl ?_
  refine x_icmp_lt (t := 13) 8 dX8_sum_5 rfl rfl (b_ite h (fun hc h => ?_) (fun hc h => ?_))
  · refine x_iload_n 0 dX8_sum_13 rfl rfl rfl ?_
    refine x_iload_n 1 dX8_sum_14 rfl rfl rfl ?_
    refine x_iadd dX8_sum_15 rfl ?_
    exact y_iret dX8_sum_16 rfl h
  · refine x_ldc 88 (x := 1073741824) dX8_sum_8 q2048 rfl (by decide) rfl ?_
    refine x_goto 6 (q := 16) dX8_sum_10 rfl ?_
    exact y_iret dX8_sum_16 rfl h
theorem rX8_pair {d n : Nat} {w : bW} {Q : Int → bW → Prop} {X : String → bW → Prop} (hn : 28 ≤ n) (a1 : Int) (a2 : Int) (h : b_K d mX8_length [(2, 27), (0, a1)] n w (fun r1 w2 => b_K d mX8_length [(2, 27), (0, a2)] n w2 (fun r3 w4 => b_K d mX8_sum [(0, r1), (0, r3)] n w4 (fun r5 w6 => b_K d mX8_sum [(0, 2), (0, r5)] n w6 (fun r7 w8 => b_K d mX8_make [(2, 27), (0, 3), (0, r7), (0, 4)] n w8 (fun r9 w10 => b_K d mX8_set [(2, 27), (0, r9), (0, 2), (0, a1)] n w10 (fun r11 w12 => b_K d mX8_set [(2, 27), (0, r9), (0, 3), (0, a2)] n w12 (fun r13 w14 => Q r9 w14) X) X) X) X) X) X) X) : b_K (d + 1) mX8_pair [(2, 27), (0, a1), (0, a2)] n w Q X := by
  have i27 := iz27 (Nat.le_trans (Nat.le_of_ble_eq_true rfl) hn)
  refine k_of (by decide) rfl rfl rfl (ls := [(2, 27), (0, a1), (0, a2), (9, 0)]) rfl ?_
  refine x_aload_n 0 dX8_pair_0 rfl rfl rfl rfl rfl ?_
  refine x_iconst 3 (z := 3) dX8_pair_1 rfl (by decide) rfl ?_
  refine x_iconst 2 (z := 2) dX8_pair_2 rfl (by decide) rfl ?_
  refine x_aload_n 0 dX8_pair_3 rfl rfl rfl rfl rfl ?_
  refine x_iload_n 1 dX8_pair_4 rfl rfl rfl ?_
  refine y_Vi 165 (M := mX8_length) (As := [(0, a1)]) (st := [(0, 2), (0, 3), (2, 27)]) dX8_pair_5 i27 rfl q2027 q2028 q2029 q375 q2030 rfl hmX8_length rfl rfl rfl rfl rfl rfl rfl rfl (k_mono h (fun r1 w2 h => ?_))
  refine x_aload_n 0 dX8_pair_8 rfl rfl rfl rfl rfl ?_
  refine x_iload_n 2 dX8_pair_9 rfl rfl rfl ?_
  refine y_Vi 165 (M := mX8_length) (As := [(0, a2)]) (st := [(0, r1), (0, 2), (0, 3), (2, 27)]) dX8_pair_10 i27 rfl q2027 q2028 q2029 q375 q2030 rfl hmX8_length rfl rfl rfl rfl rfl rfl rfl rfl (k_mono h (fun r3 w4 h => ?_))
  refine y_Si 108 (M := mX8_sum) (As := [(0, r1), (0, r3)]) (st := [(0, 2), (0, 3), (2, 27)]) dX8_pair_13 q2045 q2046 q375 q2047 hmX8_sum rfl rfl rfl rfl rfl rfl rfl rfl (k_mono h (fun r5 w6 h => ?_))
  refine y_Si 108 (M := mX8_sum) (As := [(0, 2), (0, r5)]) (st := [(0, 3), (2, 27)]) dX8_pair_16 q2045 q2046 q375 q2047 hmX8_sum rfl rfl rfl rfl rfl rfl rfl rfl (k_mono h (fun r7 w8 h => ?_))
  refine x_iconst 4 (z := 4) dX8_pair_19 rfl (by decide) rfl ?_
  refine y_Vi 144 (M := mX8_make) (As := [(0, 3), (0, r7), (0, 4)]) (st := []) dX8_pair_20 i27 rfl q1971 q1973 qs37 q375 q1974 rfl hmX8_make rfl rfl rfl rfl rfl rfl rfl rfl (k_mono h (fun r9 w10 h => ?_))
  refine x_istore_n 3 (ls' := [(2, 27), (0, a1), (0, a2), (0, r9)]) dX8_pair_23 rfl rfl rfl rfl ?_
  refine x_aload_n 0 dX8_pair_24 rfl rfl rfl rfl rfl ?_
  refine x_iload_n 3 dX8_pair_25 rfl rfl rfl ?_
  refine x_iconst 2 (z := 2) dX8_pair_26 rfl (by decide) rfl ?_
  refine x_iload_n 1 dX8_pair_27 rfl rfl rfl ?_
  refine y_Vv 55 (M := mX8_set) (As := [(0, r9), (0, 2), (0, a1)]) (st := []) dX8_pair_28 i27 rfl q1975 q1977 qs38 q375 q1978 rfl hmX8_set rfl rfl rfl rfl rfl rfl rfl (k_mono h (fun r11 w12 h => ?_))
  refine x_aload_n 0 dX8_pair_31 rfl rfl rfl rfl rfl ?_
  refine x_iload_n 3 dX8_pair_32 rfl rfl rfl ?_
  refine x_iconst 3 (z := 3) dX8_pair_33 rfl (by decide) rfl ?_
  refine x_iload_n 2 dX8_pair_34 rfl rfl rfl ?_
  refine y_Vv 55 (M := mX8_set) (As := [(0, r9), (0, 3), (0, a2)]) (st := []) dX8_pair_35 i27 rfl q1975 q1977 qs38 q375 q1978 rfl hmX8_set rfl rfl rfl rfl rfl rfl rfl (k_mono h (fun r13 w14 h => ?_))
  refine x_iload_n 3 dX8_pair_38 rfl rfl rfl ?_
  exact y_iret dX8_pair_39 rfl h
theorem rX8_cons {d n : Nat} {w : bW} {Q : Int → bW → Prop} {X : String → bW → Prop} (hn : 28 ≤ n) (a1 : Int) (a2 : Int) (h : b_K d mX8_length [(2, 27), (0, a1)] n w (fun r1 w2 => b_K d mX8_length [(2, 27), (0, a2)] n w2 (fun r3 w4 => b_K d mX8_sum [(0, r1), (0, r3)] n w4 (fun r5 w6 => b_K d mX8_make [(2, 27), (0, 7), (0, r5), (0, 5)] n w6 (fun r7 w8 => b_K d mX8_set [(2, 27), (0, r7), (0, 2), (0, a1)] n w8 (fun r9 w10 => b_K d mX8_set [(2, 27), (0, r7), (0, 3), (0, a2)] n w10 (fun r11 w12 => b_K d mX8_listCount [(2, 27), (0, a2)] n w12 (fun r13 w14 => b_K d mX8_set [(2, 27), (0, r7), (0, 4), (0, b_i (1 + r13))] n w14 (fun r15 w16 => Q r7 w16) X) X) X) X) X) X) X) X) : b_K (d + 1) mX8_cons [(2, 27), (0, a1), (0, a2)] n w Q X := by
  have i27 := iz27 (Nat.le_trans (Nat.le_of_ble_eq_true rfl) hn)
  refine k_of (by decide) rfl rfl rfl (ls := [(2, 27), (0, a1), (0, a2), (9, 0)]) rfl ?_
  refine x_aload_n 0 dX8_cons_0 rfl rfl rfl rfl rfl ?_
  refine x_bipush 7 (z := 7) dX8_cons_1 rfl (by decide) rfl ?_
  refine x_aload_n 0 dX8_cons_3 rfl rfl rfl rfl rfl ?_
  refine x_iload_n 1 dX8_cons_4 rfl rfl rfl ?_
  refine y_Vi 165 (M := mX8_length) (As := [(0, a1)]) (st := [(0, 7), (2, 27)]) dX8_cons_5 i27 rfl q2027 q2028 q2029 q375 q2030 rfl hmX8_length rfl rfl rfl rfl rfl rfl rfl rfl (k_mono h (fun r1 w2 h => ?_))
  refine x_aload_n 0 dX8_cons_8 rfl rfl rfl rfl rfl ?_
  refine x_iload_n 2 dX8_cons_9 rfl rfl rfl ?_
  refine y_Vi 165 (M := mX8_length) (As := [(0, a2)]) (st := [(0, r1), (0, 7), (2, 27)]) dX8_cons_10 i27 rfl q2027 q2028 q2029 q375 q2030 rfl hmX8_length rfl rfl rfl rfl rfl rfl rfl rfl (k_mono h (fun r3 w4 h => ?_))
  refine y_Si 108 (M := mX8_sum) (As := [(0, r1), (0, r3)]) (st := [(0, 7), (2, 27)]) dX8_cons_13 q2045 q2046 q375 q2047 hmX8_sum rfl rfl rfl rfl rfl rfl rfl rfl (k_mono h (fun r5 w6 h => ?_))
  refine x_iconst 5 (z := 5) dX8_cons_16 rfl (by decide) rfl ?_
  refine y_Vi 144 (M := mX8_make) (As := [(0, 7), (0, r5), (0, 5)]) (st := []) dX8_cons_17 i27 rfl q1971 q1973 qs37 q375 q1974 rfl hmX8_make rfl rfl rfl rfl rfl rfl rfl rfl (k_mono h (fun r7 w8 h => ?_))
  refine x_istore_n 3 (ls' := [(2, 27), (0, a1), (0, a2), (0, r7)]) dX8_cons_20 rfl rfl rfl rfl ?_
  refine x_aload_n 0 dX8_cons_21 rfl rfl rfl rfl rfl ?_
  refine x_iload_n 3 dX8_cons_22 rfl rfl rfl ?_
  refine x_iconst 2 (z := 2) dX8_cons_23 rfl (by decide) rfl ?_
  refine x_iload_n 1 dX8_cons_24 rfl rfl rfl ?_
  refine y_Vv 55 (M := mX8_set) (As := [(0, r7), (0, 2), (0, a1)]) (st := []) dX8_cons_25 i27 rfl q1975 q1977 qs38 q375 q1978 rfl hmX8_set rfl rfl rfl rfl rfl rfl rfl (k_mono h (fun r9 w10 h => ?_))
  refine x_aload_n 0 dX8_cons_28 rfl rfl rfl rfl rfl ?_
  refine x_iload_n 3 dX8_cons_29 rfl rfl rfl ?_
  refine x_iconst 3 (z := 3) dX8_cons_30 rfl (by decide) rfl ?_
  refine x_iload_n 2 dX8_cons_31 rfl rfl rfl ?_
  refine y_Vv 55 (M := mX8_set) (As := [(0, r7), (0, 3), (0, a2)]) (st := []) dX8_cons_32 i27 rfl q1975 q1977 qs38 q375 q1978 rfl hmX8_set rfl rfl rfl rfl rfl rfl rfl (k_mono h (fun r11 w12 h => ?_))
  refine x_aload_n 0 dX8_cons_35 rfl rfl rfl rfl rfl ?_
  refine x_iload_n 3 dX8_cons_36 rfl rfl rfl ?_
  refine x_iconst 4 (z := 4) dX8_cons_37 rfl (by decide) rfl ?_
  refine x_iconst 1 (z := 1) dX8_cons_38 rfl (by decide) rfl ?_
  refine x_aload_n 0 dX8_cons_39 rfl rfl rfl rfl rfl ?_
  refine x_iload_n 2 dX8_cons_40 rfl rfl rfl ?_
  refine y_Vi 168 (M := mX8_listCount) (As := [(0, a2)]) (st := [(0, 1), (0, 4), (0, r7), (2, 27)]) dX8_cons_41 i27 rfl q2066 q2067 q2068 q375 q2069 rfl hmX8_listCount rfl rfl rfl rfl rfl rfl rfl rfl (k_mono h (fun r13 w14 h => ?_))
  refine x_iadd dX8_cons_44 rfl ?_
  refine y_Vv 55 (M := mX8_set) (As := [(0, r7), (0, 4), (0, b_i (1 + r13))]) (st := []) dX8_cons_45 i27 rfl q1975 q1977 qs38 q375 q1978 rfl hmX8_set rfl rfl rfl rfl rfl rfl rfl (k_mono h (fun r15 w16 h => ?_))
  refine x_iload_n 3 dX8_cons_48 rfl rfl rfl ?_
  exact y_iret dX8_cons_49 rfl h
theorem rX8_listCount {d n : Nat} {w : bW} {Q : Int → bW → Prop} {X : String → bW → Prop} (hn : 28 ≤ n) (a1 : Int) (h : if a1 ≠ 10 then (b_K d mX8_cell [(2, 27), (0, a1), (0, 4)] n w (fun r1 w2 => Q r1 w2) X) else (Q 0 w)) : b_K (d + 1) mX8_listCount [(2, 27), (0, a1)] n w Q X := by
  have i27 := iz27 (Nat.le_trans (Nat.le_of_ble_eq_true rfl) hn)
  refine k_of (by decide) rfl rfl rfl (ls := [(2, 27), (0, a1)]) rfl ?_
  refine x_iload_n 1 dX8_listCount_0 rfl rfl rfl ?_
  refine x_bipush 10 (z := 10) dX8_listCount_1 rfl (by decide) rfl ?_
  refine x_icmp_ne (t := 10) 7 dX8_listCount_3 rfl rfl (b_ite h (fun hc h => ?_) (fun hc h => ?_))
  · refine x_aload_n 0 dX8_listCount_10 rfl rfl rfl rfl rfl ?_
    refine x_iload_n 1 dX8_listCount_11 rfl rfl rfl ?_
    refine x_iconst 4 (z := 4) dX8_listCount_12 rfl (by decide) rfl ?_
    refine y_Vi 47 (M := mX8_cell) (As := [(0, a1), (0, 4)]) (st := []) dX8_listCount_13 i27 rfl q2009 q2010 q2011 q375 q2012 rfl hmX8_cell rfl rfl rfl rfl rfl rfl rfl rfl (k_mono h (fun r1 w2 h => ?_))
    exact y_iret dX8_listCount_16 rfl h
  · refine x_iconst 0 (z := 0) dX8_listCount_6 rfl (by decide) rfl ?_
    refine x_goto 9 (q := 16) dX8_listCount_7 rfl ?_
    exact y_iret dX8_listCount_16 rfl h
theorem rX8_count {d n : Nat} {w : bW} {Q : Int → bW → Prop} {X : String → bW → Prop} (hn : 28 ≤ n) (a1 : Int) (h : b_K d mX8_cell [(2, 27), (0, a1), (0, 2)] n w (fun r1 w2 => Q r1 w2) X) : b_K (d + 1) mX8_count [(2, 27), (0, a1)] n w Q X := by
  have i27 := iz27 (Nat.le_trans (Nat.le_of_ble_eq_true rfl) hn)
  refine k_of (by decide) rfl rfl rfl (ls := [(2, 27), (0, a1)]) rfl ?_
  refine x_aload_n 0 dX8_count_0 rfl rfl rfl rfl rfl ?_
  refine x_iload_n 1 dX8_count_1 rfl rfl rfl ?_
  refine x_iconst 2 (z := 2) dX8_count_2 rfl (by decide) rfl ?_
  refine y_Vi 47 (M := mX8_cell) (As := [(0, a1), (0, 2)]) (st := []) dX8_count_3 i27 rfl q2009 q2010 q2011 q375 q2012 rfl hmX8_cell rfl rfl rfl rfl rfl rfl rfl rfl (k_mono h (fun r1 w2 h => ?_))
  exact y_iret dX8_count_6 rfl h
theorem rX8_byteAt {d n : Nat} {w : bW} {Q : Int → bW → Prop} {X : String → bW → Prop} (hn : 28 ≤ n) (a1 : Int) (a2 : Int) (h : b_K d mX8_cell [(2, 27), (0, a1), (0, b_i (3 + (b_shr a2 2)))] n w (fun r1 w2 => Q (b_and (b_ush r1 (b_i (8 * (b_and a2 3)))) 255) w2) X) : b_K (d + 1) mX8_byteAt [(2, 27), (0, a1), (0, a2)] n w Q X := by
  have i27 := iz27 (Nat.le_trans (Nat.le_of_ble_eq_true rfl) hn)
  refine k_of (by decide) rfl rfl rfl (ls := [(2, 27), (0, a1), (0, a2)]) rfl ?_
  refine x_aload_n 0 dX8_byteAt_0 rfl rfl rfl rfl rfl ?_
  refine x_iload_n 1 dX8_byteAt_1 rfl rfl rfl ?_
  refine x_iconst 3 (z := 3) dX8_byteAt_2 rfl (by decide) rfl ?_
  refine x_iload_n 2 dX8_byteAt_3 rfl rfl rfl ?_
  refine x_iconst 2 (z := 2) dX8_byteAt_4 rfl (by decide) rfl ?_
  refine x_ishr dX8_byteAt_5 rfl ?_
  refine x_iadd dX8_byteAt_6 rfl ?_
  refine y_Vi 47 (M := mX8_cell) (As := [(0, a1), (0, b_i (3 + (b_shr a2 2)))]) (st := []) dX8_byteAt_7 i27 rfl q2009 q2010 q2011 q375 q2012 rfl hmX8_cell rfl rfl rfl rfl rfl rfl rfl rfl (k_mono h (fun r1 w2 h => ?_))
  refine x_bipush 8 (z := 8) dX8_byteAt_10 rfl (by decide) rfl ?_
  refine x_iload_n 2 dX8_byteAt_12 rfl rfl rfl ?_
  refine x_iconst 3 (z := 3) dX8_byteAt_13 rfl (by decide) rfl ?_
  refine x_iand dX8_byteAt_14 rfl ?_
  refine x_imul dX8_byteAt_15 rfl ?_
  refine x_iushr dX8_byteAt_16 rfl ?_
  refine x_sipush 255 (z := 255) dX8_byteAt_17 rfl (by decide) rfl ?_
  refine x_iand dX8_byteAt_20 rfl ?_
  exact y_iret dX8_byteAt_21 rfl h
abbrev LX8_load_29 (d n : Nat) (Q : Int → bW → Prop) (X : String → bW → Prop) (a1 : Int) (a2 : Int) (a3 : Int) (a4 : Int) (w : bW) : Prop := b_Y (d + 1) mX8_load n Q X 29 [(2, 27), (0, a1), (2, a2), (0, a3), (0, a4)] [] w
theorem rX8_load {d n : Nat} {w : bW} {Q : Int → bW → Prop} {X : String → bW → Prop} (hn : 143 ≤ n) (a1 : Int) (a2 : Int) (ha2 : b_is n a2 0 5 3) (h : b_K d mX8_isSmall [(0, a1)] n w (fun r1 w2 => if r1 = 0 then (b_K d mX8_cell [(2, 27), (0, a1), (0, 2)] n w2 (fun r3 w4 => LX8_load_29 d n Q X a1 a2 (b_and r3 65535) 0 w4) X) else (b_K d mX6_set [(2, a2), (1, b_shr a1 1)] n w2 (fun r5 w6 => Q 0 w6) X)) X) : b_K (d + 1) mX8_load [(2, 27), (0, a1), (2, a2)] n w Q X := by
  have i27 := iz27 (Nat.le_trans (Nat.le_of_ble_eq_true rfl) hn)
  refine k_of (by decide) rfl rfl rfl (ls := [(2, 27), (0, a1), (2, a2), (9, 0), (9, 0)]) rfl ?_
  refine x_iload_n 1 dX8_load_0 rfl rfl rfl ?_
  refine y_Si 89 (M := mX8_isSmall) (As := [(0, a1)]) (st := []) dX8_load_1 q2031 q2032 q375 q2033 hmX8_isSmall rfl rfl rfl rfl rfl rfl rfl rfl (k_mono h (fun r1 w2 h => ?_))
  refine x_if_eq (t := 16) 12 dX8_load_4 rfl rfl (b_ite h (fun hc h => ?_) (fun hc h => ?_))
  · refine x_aload_n 0 dX8_load_16 rfl rfl rfl rfl rfl ?_
    refine x_iload_n 1 dX8_load_17 rfl rfl rfl ?_
    refine x_iconst 2 (z := 2) dX8_load_18 rfl (by decide) rfl ?_
    refine y_Vi 47 (M := mX8_cell) (As := [(0, a1), (0, 2)]) (st := []) dX8_load_19 i27 rfl q2009 q2010 q2011 q375 q2012 rfl hmX8_cell rfl rfl rfl rfl rfl rfl rfl rfl (k_mono h (fun r3 w4 h => ?_))
    refine x_ldc 59 (x := 65535) dX8_load_22 q2108 rfl (by decide) rfl ?_
    refine x_iand dX8_load_24 rfl ?_
    refine x_istore_n 3 (ls' := [(2, 27), (0, a1), (2, a2), (0, b_and r3 65535), (9, 0)]) dX8_load_25 rfl rfl rfl rfl ?_
    refine x_iconst 0 (z := 0) dX8_load_26 rfl (by decide) rfl ?_
    refine x_istore 4 (ls' := [(2, 27), (0, a1), (2, a2), (0, b_and r3 65535), (0, 0)]) dX8_load_27 rfl rfl rfl ?_
    exact x_fg (fgk (fgk (fgk (fgk (fgk (fg0)))))) h
  · refine x_aload_n 2 dX8_load_7 rfl rfl rfl rfl rfl ?_
    refine x_iload_n 1 dX8_load_8 rfl rfl rfl ?_
    refine x_iconst 1 (z := 1) dX8_load_9 rfl (by decide) rfl ?_
    refine x_ishr dX8_load_10 rfl ?_
    refine x_i2l dX8_load_11 rfl ?_
    refine y_Vv 118 (M := mX6_set) (As := [(1, b_shr a1 1)]) (st := []) dX8_load_12 ha2 rfl q2107 q1743 q1744 q373 q1745 rfl hmX6_set rfl rfl rfl rfl rfl rfl rfl (k_mono h (fun r5 w6 h => ?_))
    exact y_vret dX8_load_15 rfl h
theorem sX8_load_29 {d n : Nat} {w : bW} {Q : Int → bW → Prop} {X : String → bW → Prop} (hn : 143 ≤ n) (a1 : Int) (a2 : Int) (a3 : Int) (a4 : Int) (ha2 : b_is n a2 0 5 3) (h : if a3 ≤ a4 then (b_K d mX8_cell [(2, 27), (0, a1), (0, 2)] n w (fun r1 w2 => if b_shr r1 16 = 0 then (b_K d mX6_trim [(2, a2), (0, a3)] n (b_up w2 a2 2 0) (fun r3 w4 => Q 0 w4) X) else (b_K d mX6_trim [(2, a2), (0, a3)] n (b_up w2 a2 2 1) (fun r5 w6 => Q 0 w6) X)) X) else (b_K d mX8_cell [(2, 27), (0, a1), (0, b_i (3 + (b_shr a4 1)))] n w (fun r8 w9 => (0 ≤ a4 ∧ a4 < 200) ∧ (LX8_load_29 d n Q X a1 a2 a3 (b_i (a4 + 1)) (b_up w9 (a2 + 1) a4 (b_and (b_ush r8 (b_i (16 * (b_and a4 1)))) 65535)))) X)) : LX8_load_29 d n Q X a1 a2 a3 a4 w := by
  have i27 := iz27 (Nat.le_trans (Nat.le_of_ble_eq_true rfl) hn)
  refine x_iload 4 dX8_load_29 rfl rfl ?_
  refine x_iload_n 3 dX8_load_31 rfl rfl rfl ?_
  refine x_icmp_ge (t := 70) 38 dX8_load_32 rfl rfl (b_ite h (fun hc h => ?_) (fun hc h => ?_))
  · refine x_aload_n 2 dX8_load_70 rfl rfl rfl rfl rfl ?_
    refine x_aload_n 0 dX8_load_71 rfl rfl rfl rfl rfl ?_
    refine x_iload_n 1 dX8_load_72 rfl rfl rfl ?_
    refine x_iconst 2 (z := 2) dX8_load_73 rfl (by decide) rfl ?_
    refine y_Vi 47 (M := mX8_cell) (As := [(0, a1), (0, 2)]) (st := [(2, a2)]) dX8_load_74 i27 rfl q2009 q2010 q2011 q375 q2012 rfl hmX8_cell rfl rfl rfl rfl rfl rfl rfl rfl (k_mono h (fun r1 w2 h => ?_))
    refine x_bipush 16 (z := 16) dX8_load_77 rfl (by decide) rfl ?_
    refine x_ishr dX8_load_79 rfl ?_
    refine x_if_eq (t := 87) 7 dX8_load_80 rfl rfl (b_ite h (fun hc h => ?_) (fun hc h => ?_))
    · refine x_iconst 0 (z := 0) dX8_load_87 rfl (by decide) rfl ?_
      refine x_put 138 2 (c := 5) dX8_load_88 ha2 rfl in_X6 tyX6_ok nmX6 q641 rfl rfl rfl (Or.inl rfl) (Or.inr (Or.inl ⟨rfl, rfl, by decide⟩)) rfl ?_
      refine x_aload_n 2 dX8_load_91 rfl rfl rfl rfl rfl ?_
      refine x_iload_n 3 dX8_load_92 rfl rfl rfl ?_
      refine y_Vv 152 (M := mX6_trim) (As := [(0, a3)]) (st := []) dX8_load_93 ha2 rfl q2109 q2110 q2111 q373 q2112 rfl hmX6_trim rfl rfl rfl rfl rfl rfl rfl (k_mono h (fun r3 w4 h => ?_))
      exact y_vret dX8_load_96 rfl h
    · refine x_iconst 1 (z := 1) dX8_load_83 rfl (by decide) rfl ?_
      refine x_goto 4 (q := 88) dX8_load_84 rfl ?_
      refine x_put 138 2 (c := 5) dX8_load_88 ha2 rfl in_X6 tyX6_ok nmX6 q641 rfl rfl rfl (Or.inl rfl) (Or.inr (Or.inl ⟨rfl, rfl, by decide⟩)) rfl ?_
      refine x_aload_n 2 dX8_load_91 rfl rfl rfl rfl rfl ?_
      refine x_iload_n 3 dX8_load_92 rfl rfl rfl ?_
      refine y_Vv 152 (M := mX6_trim) (As := [(0, a3)]) (st := []) dX8_load_93 ha2 rfl q2109 q2110 q2111 q373 q2112 rfl hmX6_trim rfl rfl rfl rfl rfl rfl rfl (k_mono h (fun r5 w6 h => ?_))
      exact y_vret dX8_load_96 rfl h
  · refine x_aload_n 2 dX8_load_35 rfl rfl rfl rfl rfl ?_
    refine y_getO 149 0 (c := 5) dX8_load_36 ha2 rfl in_X6 q630 rfl rfl rfl (fun h5 hf => of_X6_0 (Nat.le_trans (Nat.le_of_ble_eq_true rfl) hn) h5 ha2 hf) rfl (fun e7 => ?_)
    refine x_iload 4 dX8_load_39 rfl rfl ?_
    refine x_aload_n 0 dX8_load_41 rfl rfl rfl rfl rfl ?_
    refine x_iload_n 1 dX8_load_42 rfl rfl rfl ?_
    refine x_iconst 3 (z := 3) dX8_load_43 rfl (by decide) rfl ?_
    refine x_iload 4 dX8_load_44 rfl rfl ?_
    refine x_iconst 1 (z := 1) dX8_load_46 rfl (by decide) rfl ?_
    refine x_ishr dX8_load_47 rfl ?_
    refine x_iadd dX8_load_48 rfl ?_
    refine y_Vi 47 (M := mX8_cell) (As := [(0, a1), (0, b_i (3 + (b_shr a4 1)))]) (st := [(0, a4), (2, a2 + 1)]) dX8_load_49 i27 rfl q2009 q2010 q2011 q375 q2012 rfl hmX8_cell rfl rfl rfl rfl rfl rfl rfl rfl (k_mono h (fun r8 w9 h => ?_))
    refine x_bipush 16 (z := 16) dX8_load_52 rfl (by decide) rfl ?_
    refine x_iload 4 dX8_load_54 rfl rfl ?_
    refine x_iconst 1 (z := 1) dX8_load_56 rfl (by decide) rfl ?_
    refine x_iand dX8_load_57 rfl ?_
    refine x_imul dX8_load_58 rfl ?_
    refine x_iushr dX8_load_59 rfl ?_
    refine x_ldc 59 (x := 65535) dX8_load_60 q2108 rfl (by decide) rfl ?_
    refine x_iand dX8_load_62 rfl ?_
    obtain ⟨e10, h⟩ := h
    refine y_iast (x' := b_and (b_ush r8 (b_i (16 * (b_and a4 1)))) 65535) dX8_load_63 ⟨200, e7, e10⟩ rfl rfl ?_
    refine x_iinc 4 1 (ls' := [(2, 27), (0, a1), (2, a2), (0, a3), (0, b_i (a4 + 1))]) dX8_load_64 rfl rfl rfl rfl ?_
    refine x_goto (-38) (q := 29) dX8_load_67 rfl ?_
    exact x_fg (fgk (fgk (fgk (fgk (fgk (fg0)))))) h
abbrev LX8_node_29 (d n : Nat) (Q : Int → bW → Prop) (X : String → bW → Prop) (a1 : Int) (a2 : Int) (a3 : Int) (a4 : Int) (s0 : Int) (w : bW) : Prop := b_Y (d + 1) mX8_node n Q X 29 [(2, 27), (0, a1), (0, a2), (0, a3), (0, a4), (9, 0), (9, 0)] [(0, s0)] w
theorem rX8_node {d n : Nat} {w : bW} {Q : Int → bW → Prop} {X : String → bW → Prop} (hn : 28 ≤ n) (a1 : Int) (a2 : Int) (a3 : Int) (a4 : Int) (h : if a2 ≠ 0 then (b_K d mX8_length [(2, 27), (0, a1)] n w (fun r1 w2 => b_K d mX8_length [(2, 27), (0, a2)] n w2 (fun r3 w4 => b_K d mX8_sum [(0, r1), (0, r3)] n w4 (fun r5 w6 => b_K d mX8_sum [(0, 2), (0, r5)] n w6 (fun r7 w8 => LX8_node_29 d n Q X a1 a2 a3 a4 r7 w8) X) X) X) X) else (b_K d mX8_length [(2, 27), (0, a1)] n w (fun r9 w10 => LX8_node_29 d n Q X a1 a2 a3 a4 r9 w10) X)) : b_K (d + 1) mX8_node [(2, 27), (0, a1), (0, a2), (0, a3), (0, a4)] n w Q X := by
  have i27 := iz27 (Nat.le_trans (Nat.le_of_ble_eq_true rfl) hn)
  refine k_of (by decide) rfl rfl rfl (ls := [(2, 27), (0, a1), (0, a2), (0, a3), (0, a4), (9, 0), (9, 0)]) rfl ?_
  refine x_iload_n 2 dX8_node_0 rfl rfl rfl ?_
  refine x_if_ne (t := 12) 11 dX8_node_1 rfl rfl (b_ite h (fun hc h => ?_) (fun hc h => ?_))
  · refine x_iconst 2 (z := 2) dX8_node_12 rfl (by decide) rfl ?_
    refine x_aload_n 0 dX8_node_13 rfl rfl rfl rfl rfl ?_
    refine x_iload_n 1 dX8_node_14 rfl rfl rfl ?_
    refine y_Vi 165 (M := mX8_length) (As := [(0, a1)]) (st := [(0, 2)]) dX8_node_15 i27 rfl q2027 q2028 q2029 q375 q2030 rfl hmX8_length rfl rfl rfl rfl rfl rfl rfl rfl (k_mono h (fun r1 w2 h => ?_))
    refine x_aload_n 0 dX8_node_18 rfl rfl rfl rfl rfl ?_
    refine x_iload_n 2 dX8_node_19 rfl rfl rfl ?_
    refine y_Vi 165 (M := mX8_length) (As := [(0, a2)]) (st := [(0, r1), (0, 2)]) dX8_node_20 i27 rfl q2027 q2028 q2029 q375 q2030 rfl hmX8_length rfl rfl rfl rfl rfl rfl rfl rfl (k_mono h (fun r3 w4 h => ?_))
    refine y_Si 108 (M := mX8_sum) (As := [(0, r1), (0, r3)]) (st := [(0, 2)]) dX8_node_23 q2045 q2046 q375 q2047 hmX8_sum rfl rfl rfl rfl rfl rfl rfl rfl (k_mono h (fun r5 w6 h => ?_))
    refine y_Si 108 (M := mX8_sum) (As := [(0, 2), (0, r5)]) (st := []) dX8_node_26 q2045 q2046 q375 q2047 hmX8_sum rfl rfl rfl rfl rfl rfl rfl rfl (k_mono h (fun r7 w8 h => ?_))
    exact x_fg (fgk (fgk (fgk (fgk (fgk (fgk (fgk (fg0)))))))) h
  · refine x_aload_n 0 dX8_node_4 rfl rfl rfl rfl rfl ?_
    refine x_iload_n 1 dX8_node_5 rfl rfl rfl ?_
    refine y_Vi 165 (M := mX8_length) (As := [(0, a1)]) (st := []) dX8_node_6 i27 rfl q2027 q2028 q2029 q375 q2030 rfl hmX8_length rfl rfl rfl rfl rfl rfl rfl rfl (k_mono h (fun r9 w10 h => ?_))
    refine x_goto 20 (q := 29) dX8_node_9 rfl ?_
    exact x_fg (fgk (fgk (fgk (fgk (fgk (fgk (fgk (fg0)))))))) h
theorem sX8_node_29 {d n : Nat} {w : bW} {Q : Int → bW → Prop} {X : String → bW → Prop} (hn : 28 ≤ n) (a1 : Int) (a2 : Int) (a3 : Int) (a4 : Int) (s0 : Int) (h : b_K d mX8_total [(2, 27), (0, a3)] n w (fun r1 w2 => b_K d mX8_total [(2, 27), (0, a4)] n w2 (fun r3 w4 => b_K d mX8_sum [(0, r1), (0, r3)] n w4 (fun r5 w6 => b_K d mX8_sum [(0, s0), (0, r5)] n w6 (fun r7 w8 => b_K d mX8_make [(2, 27), (0, 8), (0, r7), (0, 8)] n w8 (fun r9 w10 => b_K d mX8_set [(2, 27), (0, r9), (0, 2), (0, a1)] n w10 (fun r11 w12 => b_K d mX8_set [(2, 27), (0, r9), (0, 3), (0, a2)] n w12 (fun r13 w14 => b_K d mX8_set [(2, 27), (0, r9), (0, 4), (0, a3)] n w14 (fun r15 w16 => b_K d mX8_set [(2, 27), (0, r9), (0, 5), (0, a4)] n w16 (fun r17 w18 => b_K d mX8_many [(2, 27), (0, a3)] n w18 (fun r19 w20 => b_K d mX8_many [(2, 27), (0, a4)] n w20 (fun r21 w22 => b_K d mX8_set [(2, 27), (0, r9), (0, 6), (0, b_i ((b_i (1 + r19)) + r21))] n w22 (fun r23 w24 => b_K d mX8_height [(2, 27), (0, a3)] n w24 (fun r25 w26 => b_K d mX8_height [(2, 27), (0, a4)] n w26 (fun r27 w28 => b_K d mX8_set [(2, 27), (0, r9), (0, 7), (0, b_i (1 + (max r25 r27)))] n w28 (fun r29 w30 => Q r9 w30) X) X) X) X) X) X) X) X) X) X) X) X) X) X) X) : LX8_node_29 d n Q X a1 a2 a3 a4 s0 w := by
  have i27 := iz27 (Nat.le_trans (Nat.le_of_ble_eq_true rfl) hn)
  refine x_istore 5 (ls' := [(2, 27), (0, a1), (0, a2), (0, a3), (0, a4), (0, s0), (9, 0)]) dX8_node_29 rfl rfl rfl ?_
  refine x_aload_n 0 dX8_node_31 rfl rfl rfl rfl rfl ?_
  refine x_bipush 8 (z := 8) dX8_node_32 rfl (by decide) rfl ?_
  refine x_iload 5 dX8_node_34 rfl rfl ?_
  refine x_aload_n 0 dX8_node_36 rfl rfl rfl rfl rfl ?_
  refine x_iload_n 3 dX8_node_37 rfl rfl rfl ?_
  refine y_Vi 171 (M := mX8_total) (As := [(0, a3)]) (st := [(0, s0), (0, 8), (2, 27)]) dX8_node_38 i27 rfl q2130 q2132 qs48 q375 q2133 rfl hmX8_total rfl rfl rfl rfl rfl rfl rfl rfl (k_mono h (fun r1 w2 h => ?_))
  refine x_aload_n 0 dX8_node_41 rfl rfl rfl rfl rfl ?_
  refine x_iload 4 dX8_node_42 rfl rfl ?_
  refine y_Vi 171 (M := mX8_total) (As := [(0, a4)]) (st := [(0, r1), (0, s0), (0, 8), (2, 27)]) dX8_node_44 i27 rfl q2130 q2132 qs48 q375 q2133 rfl hmX8_total rfl rfl rfl rfl rfl rfl rfl rfl (k_mono h (fun r3 w4 h => ?_))
  refine y_Si 108 (M := mX8_sum) (As := [(0, r1), (0, r3)]) (st := [(0, s0), (0, 8), (2, 27)]) dX8_node_47 q2045 q2046 q375 q2047 hmX8_sum rfl rfl rfl rfl rfl rfl rfl rfl (k_mono h (fun r5 w6 h => ?_))
  refine y_Si 108 (M := mX8_sum) (As := [(0, s0), (0, r5)]) (st := [(0, 8), (2, 27)]) dX8_node_50 q2045 q2046 q375 q2047 hmX8_sum rfl rfl rfl rfl rfl rfl rfl rfl (k_mono h (fun r7 w8 h => ?_))
  refine x_bipush 8 (z := 8) dX8_node_53 rfl (by decide) rfl ?_
  refine y_Vi 144 (M := mX8_make) (As := [(0, 8), (0, r7), (0, 8)]) (st := []) dX8_node_55 i27 rfl q1971 q1973 qs37 q375 q1974 rfl hmX8_make rfl rfl rfl rfl rfl rfl rfl rfl (k_mono h (fun r9 w10 h => ?_))
  refine x_istore 6 (ls' := [(2, 27), (0, a1), (0, a2), (0, a3), (0, a4), (0, s0), (0, r9)]) dX8_node_58 rfl rfl rfl ?_
  refine x_aload_n 0 dX8_node_60 rfl rfl rfl rfl rfl ?_
  refine x_iload 6 dX8_node_61 rfl rfl ?_
  refine x_iconst 2 (z := 2) dX8_node_63 rfl (by decide) rfl ?_
  refine x_iload_n 1 dX8_node_64 rfl rfl rfl ?_
  refine y_Vv 55 (M := mX8_set) (As := [(0, r9), (0, 2), (0, a1)]) (st := []) dX8_node_65 i27 rfl q1975 q1977 qs38 q375 q1978 rfl hmX8_set rfl rfl rfl rfl rfl rfl rfl (k_mono h (fun r11 w12 h => ?_))
  refine x_aload_n 0 dX8_node_68 rfl rfl rfl rfl rfl ?_
  refine x_iload 6 dX8_node_69 rfl rfl ?_
  refine x_iconst 3 (z := 3) dX8_node_71 rfl (by decide) rfl ?_
  refine x_iload_n 2 dX8_node_72 rfl rfl rfl ?_
  refine y_Vv 55 (M := mX8_set) (As := [(0, r9), (0, 3), (0, a2)]) (st := []) dX8_node_73 i27 rfl q1975 q1977 qs38 q375 q1978 rfl hmX8_set rfl rfl rfl rfl rfl rfl rfl (k_mono h (fun r13 w14 h => ?_))
  refine x_aload_n 0 dX8_node_76 rfl rfl rfl rfl rfl ?_
  refine x_iload 6 dX8_node_77 rfl rfl ?_
  refine x_iconst 4 (z := 4) dX8_node_79 rfl (by decide) rfl ?_
  refine x_iload_n 3 dX8_node_80 rfl rfl rfl ?_
  refine y_Vv 55 (M := mX8_set) (As := [(0, r9), (0, 4), (0, a3)]) (st := []) dX8_node_81 i27 rfl q1975 q1977 qs38 q375 q1978 rfl hmX8_set rfl rfl rfl rfl rfl rfl rfl (k_mono h (fun r15 w16 h => ?_))
  refine x_aload_n 0 dX8_node_84 rfl rfl rfl rfl rfl ?_
  refine x_iload 6 dX8_node_85 rfl rfl ?_
  refine x_iconst 5 (z := 5) dX8_node_87 rfl (by decide) rfl ?_
  refine x_iload 4 dX8_node_88 rfl rfl ?_
  refine y_Vv 55 (M := mX8_set) (As := [(0, r9), (0, 5), (0, a4)]) (st := []) dX8_node_90 i27 rfl q1975 q1977 qs38 q375 q1978 rfl hmX8_set rfl rfl rfl rfl rfl rfl rfl (k_mono h (fun r17 w18 h => ?_))
  refine x_aload_n 0 dX8_node_93 rfl rfl rfl rfl rfl ?_
  refine x_iload 6 dX8_node_94 rfl rfl ?_
  refine x_bipush 6 (z := 6) dX8_node_96 rfl (by decide) rfl ?_
  refine x_iconst 1 (z := 1) dX8_node_98 rfl (by decide) rfl ?_
  refine x_aload_n 0 dX8_node_99 rfl rfl rfl rfl rfl ?_
  refine x_iload_n 3 dX8_node_100 rfl rfl rfl ?_
  refine y_Vi 174 (M := mX8_many) (As := [(0, a3)]) (st := [(0, 1), (0, 6), (0, r9), (2, 27)]) dX8_node_101 i27 rfl q2134 q2135 q2136 q375 q2137 rfl hmX8_many rfl rfl rfl rfl rfl rfl rfl rfl (k_mono h (fun r19 w20 h => ?_))
  refine x_iadd dX8_node_104 rfl ?_
  refine x_aload_n 0 dX8_node_105 rfl rfl rfl rfl rfl ?_
  refine x_iload 4 dX8_node_106 rfl rfl ?_
  refine y_Vi 174 (M := mX8_many) (As := [(0, a4)]) (st := [(0, b_i (1 + r19)), (0, 6), (0, r9), (2, 27)]) dX8_node_108 i27 rfl q2134 q2135 q2136 q375 q2137 rfl hmX8_many rfl rfl rfl rfl rfl rfl rfl rfl (k_mono h (fun r21 w22 h => ?_))
  refine x_iadd dX8_node_111 rfl ?_
  refine y_Vv 55 (M := mX8_set) (As := [(0, r9), (0, 6), (0, b_i ((b_i (1 + r19)) + r21))]) (st := []) dX8_node_112 i27 rfl q1975 q1977 qs38 q375 q1978 rfl hmX8_set rfl rfl rfl rfl rfl rfl rfl (k_mono h (fun r23 w24 h => ?_))
  refine x_aload_n 0 dX8_node_115 rfl rfl rfl rfl rfl ?_
  refine x_iload 6 dX8_node_116 rfl rfl ?_
  refine x_bipush 7 (z := 7) dX8_node_118 rfl (by decide) rfl ?_
  refine x_iconst 1 (z := 1) dX8_node_120 rfl (by decide) rfl ?_
  refine x_aload_n 0 dX8_node_121 rfl rfl rfl rfl rfl ?_
  refine x_iload_n 3 dX8_node_122 rfl rfl rfl ?_
  refine y_Vi 177 (M := mX8_height) (As := [(0, a3)]) (st := [(0, 1), (0, 7), (0, r9), (2, 27)]) dX8_node_123 i27 rfl q2138 q2139 q2140 q375 q2141 rfl hmX8_height rfl rfl rfl rfl rfl rfl rfl rfl (k_mono h (fun r25 w26 h => ?_))
  refine x_aload_n 0 dX8_node_126 rfl rfl rfl rfl rfl ?_
  refine x_iload 4 dX8_node_127 rfl rfl ?_
  refine y_Vi 177 (M := mX8_height) (As := [(0, a4)]) (st := [(0, r25), (0, 1), (0, 7), (0, r9), (2, 27)]) dX8_node_129 i27 rfl q2138 q2139 q2140 q375 q2141 rfl hmX8_height rfl rfl rfl rfl rfl rfl rfl rfl (k_mono h (fun r27 w28 h => ?_))
  refine y_mmax 180 dX8_node_132 q2142 q523 q367 q524 rfl rfl ?_
  refine x_iadd dX8_node_135 rfl ?_
  refine y_Vv 55 (M := mX8_set) (As := [(0, r9), (0, 7), (0, b_i (1 + (max r25 r27)))]) (st := []) dX8_node_136 i27 rfl q1975 q1977 qs38 q375 q1978 rfl hmX8_set rfl rfl rfl rfl rfl rfl rfl (k_mono h (fun r29 w30 h => ?_))
  refine x_iload 6 dX8_node_139 rfl rfl ?_
  exact y_iret dX8_node_141 rfl h
theorem rX8_total {d n : Nat} {w : bW} {Q : Int → bW → Prop} {X : String → bW → Prop} (hn : 28 ≤ n) (a1 : Int) (h : if a1 ≠ 12 then (b_K d mX8_cell [(2, 27), (0, a1), (0, 1)] n w (fun r1 w2 => Q r1 w2) X) else (Q 0 w)) : b_K (d + 1) mX8_total [(2, 27), (0, a1)] n w Q X := by
  have i27 := iz27 (Nat.le_trans (Nat.le_of_ble_eq_true rfl) hn)
  refine k_of (by decide) rfl rfl rfl (ls := [(2, 27), (0, a1)]) rfl ?_
  refine x_iload_n 1 dX8_total_0 rfl rfl rfl ?_
  refine x_bipush 12 (z := 12) dX8_total_1 rfl (by decide) rfl ?_
  refine x_icmp_ne (t := 10) 7 dX8_total_3 rfl rfl (b_ite h (fun hc h => ?_) (fun hc h => ?_))
  · refine x_aload_n 0 dX8_total_10 rfl rfl rfl rfl rfl ?_
    refine x_iload_n 1 dX8_total_11 rfl rfl rfl ?_
    refine x_iconst 1 (z := 1) dX8_total_12 rfl (by decide) rfl ?_
    refine y_Vi 47 (M := mX8_cell) (As := [(0, a1), (0, 1)]) (st := []) dX8_total_13 i27 rfl q2009 q2010 q2011 q375 q2012 rfl hmX8_cell rfl rfl rfl rfl rfl rfl rfl rfl (k_mono h (fun r1 w2 h => ?_))
    exact y_iret dX8_total_16 rfl h
  · refine x_iconst 0 (z := 0) dX8_total_6 rfl (by decide) rfl ?_
    refine x_goto 9 (q := 16) dX8_total_7 rfl ?_
    exact y_iret dX8_total_16 rfl h
theorem rX8_many {d n : Nat} {w : bW} {Q : Int → bW → Prop} {X : String → bW → Prop} (hn : 28 ≤ n) (a1 : Int) (h : if a1 ≠ 12 then (b_K d mX8_cell [(2, 27), (0, a1), (0, 6)] n w (fun r1 w2 => Q r1 w2) X) else (Q 0 w)) : b_K (d + 1) mX8_many [(2, 27), (0, a1)] n w Q X := by
  have i27 := iz27 (Nat.le_trans (Nat.le_of_ble_eq_true rfl) hn)
  refine k_of (by decide) rfl rfl rfl (ls := [(2, 27), (0, a1)]) rfl ?_
  refine x_iload_n 1 dX8_many_0 rfl rfl rfl ?_
  refine x_bipush 12 (z := 12) dX8_many_1 rfl (by decide) rfl ?_
  refine x_icmp_ne (t := 10) 7 dX8_many_3 rfl rfl (b_ite h (fun hc h => ?_) (fun hc h => ?_))
  · refine x_aload_n 0 dX8_many_10 rfl rfl rfl rfl rfl ?_
    refine x_iload_n 1 dX8_many_11 rfl rfl rfl ?_
    refine x_bipush 6 (z := 6) dX8_many_12 rfl (by decide) rfl ?_
    refine y_Vi 47 (M := mX8_cell) (As := [(0, a1), (0, 6)]) (st := []) dX8_many_14 i27 rfl q2009 q2010 q2011 q375 q2012 rfl hmX8_cell rfl rfl rfl rfl rfl rfl rfl rfl (k_mono h (fun r1 w2 h => ?_))
    exact y_iret dX8_many_17 rfl h
  · refine x_iconst 0 (z := 0) dX8_many_6 rfl (by decide) rfl ?_
    refine x_goto 10 (q := 17) dX8_many_7 rfl ?_
    exact y_iret dX8_many_17 rfl h
theorem rX8_height {d n : Nat} {w : bW} {Q : Int → bW → Prop} {X : String → bW → Prop} (hn : 28 ≤ n) (a1 : Int) (h : if a1 ≠ 12 then (b_K d mX8_cell [(2, 27), (0, a1), (0, 7)] n w (fun r1 w2 => Q r1 w2) X) else (Q 0 w)) : b_K (d + 1) mX8_height [(2, 27), (0, a1)] n w Q X := by
  have i27 := iz27 (Nat.le_trans (Nat.le_of_ble_eq_true rfl) hn)
  refine k_of (by decide) rfl rfl rfl (ls := [(2, 27), (0, a1)]) rfl ?_
  refine x_iload_n 1 dX8_height_0 rfl rfl rfl ?_
  refine x_bipush 12 (z := 12) dX8_height_1 rfl (by decide) rfl ?_
  refine x_icmp_ne (t := 10) 7 dX8_height_3 rfl rfl (b_ite h (fun hc h => ?_) (fun hc h => ?_))
  · refine x_aload_n 0 dX8_height_10 rfl rfl rfl rfl rfl ?_
    refine x_iload_n 1 dX8_height_11 rfl rfl rfl ?_
    refine x_bipush 7 (z := 7) dX8_height_12 rfl (by decide) rfl ?_
    refine y_Vi 47 (M := mX8_cell) (As := [(0, a1), (0, 7)]) (st := []) dX8_height_14 i27 rfl q2009 q2010 q2011 q375 q2012 rfl hmX8_cell rfl rfl rfl rfl rfl rfl rfl rfl (k_mono h (fun r1 w2 h => ?_))
    exact y_iret dX8_height_17 rfl h
  · refine x_iconst 0 (z := 0) dX8_height_6 rfl (by decide) rfl ?_
    refine x_goto 10 (q := 17) dX8_height_7 rfl ?_
    exact y_iret dX8_height_17 rfl h
theorem rX8_dropFixed {d n : Nat} {w : bW} {Q : Int → bW → Prop} {X : String → bW → Prop} (hn : 28 ≤ n) (a1 : Int) (h : Q 0 (b_up w 27 4 a1)) : b_K (d + 1) mX8_dropFixed [(2, 27), (0, a1)] n w Q X := by
  have i27 := iz27 (Nat.le_trans (Nat.le_of_ble_eq_true rfl) hn)
  refine k_of (by decide) rfl rfl rfl (ls := [(2, 27), (0, a1)]) rfl ?_
  refine x_aload_n 0 dX8_dropFixed_0 rfl rfl rfl rfl rfl ?_
  refine x_iload_n 1 dX8_dropFixed_1 rfl rfl rfl ?_
  refine x_put 27 4 (c := 7) dX8_dropFixed_2 i27 rfl in_X8 tyX8_ok nmX8 q807 rfl rfl rfl (Or.inl rfl) (Or.inl ⟨rfl, rfl⟩) rfl ?_
  exact y_vret dX8_dropFixed_5 rfl h
theorem rX8_tidy {d n : Nat} {w : bW} {Q : Int → bW → Prop} {X : String → bW → Prop} (hn : 28 ≤ n) (a1 : Int) (a2 : Int) (h : ∃ N1 : Nat, b_is n (w 27 0) 1 1 N1 ∧ N1 ≤ 2147483647 ∧ (if N1 < b_i ((w 27 2) + a1) then False else (Q 0 w))) : b_K (d + 1) mX8_tidy [(2, 27), (0, a1), (7, a2)] n w Q X := by
  have i27 := iz27 (Nat.le_trans (Nat.le_of_ble_eq_true rfl) hn)
  refine k_of (by decide) rfl rfl rfl (ls := [(2, 27), (0, a1), (7, a2), (9, 0), (9, 0)]) rfl ?_
  refine x_aload_n 0 dX8_tidy_0 rfl rfl rfl rfl rfl ?_
  refine y_get 19 2 (c := 7) (z := w 27 2) dX8_tidy_1 i27 rfl in_X8 q805 rfl rfl rfl rfl rfl ?_
  refine x_iload_n 1 dX8_tidy_4 rfl rfl rfl ?_
  refine x_iadd dX8_tidy_5 rfl ?_
  refine x_aload_n 0 dX8_tidy_6 rfl rfl rfl rfl rfl ?_
  refine y_get 10 0 (c := 7) (z := w 27 0) dX8_tidy_7 i27 rfl in_X8 q803 rfl rfl rfl rfl rfl ?_
  obtain ⟨N1, e2, e3, h⟩ := h
  refine y_alen dX8_tidy_10 e2 (by decide) e3 rfl ?_
  refine x_icmp_gt (t := 15) 4 dX8_tidy_11 rfl rfl (b_ite h (fun hc h => ?_) (fun hc h => ?_))
  · refine x_aload_n 0 dX8_tidy_15 rfl rfl rfl rfl rfl ?_
    refine y_get 10 0 (c := 7) (z := w 27 0) dX8_tidy_16 i27 rfl in_X8 q803 rfl rfl rfl rfl rfl ?_
    refine x_astore_n 3 (ls' := [(2, 27), (0, a1), (7, a2), (2, w 27 0), (9, 0)]) dX8_tidy_19 rfl rfl rfl rfl rfl ?_
    refine x_aload_n 0 dX8_tidy_20 rfl rfl rfl rfl rfl ?_
    refine x_aload_n 0 dX8_tidy_21 rfl rfl rfl rfl rfl ?_
    refine y_get 16 1 (c := 7) (z := w 27 1) dX8_tidy_22 i27 rfl in_X8 q804 rfl rfl rfl rfl rfl ?_
    refine x_put 10 0 (c := 7) dX8_tidy_25 i27 rfl in_X8 tyX8_ok nmX8 q803 rfl rfl rfl (Or.inl rfl) (Or.inr (Or.inr (Or.inr ⟨rfl, Or.inr ⟨_, rfl⟩⟩))) rfl ?_
    refine x_aload_n 0 dX8_tidy_28 rfl rfl rfl rfl rfl ?_
    refine x_aload_n 3 dX8_tidy_29 rfl rfl rfl rfl rfl ?_
    refine x_put 16 1 (c := 7) dX8_tidy_30 i27 rfl in_X8 tyX8_ok nmX8 q804 rfl rfl rfl (Or.inl rfl) (Or.inr (Or.inr (Or.inr ⟨rfl, Or.inr ⟨_, rfl⟩⟩))) rfl ?_
    refine x_aload_n 0 dX8_tidy_33 rfl rfl rfl rfl rfl ?_
    refine x_bipush 16 (z := 16) dX8_tidy_34 rfl (by decide) rfl ?_
    refine x_put 19 2 (c := 7) dX8_tidy_36 i27 rfl in_X8 tyX8_ok nmX8 q805 rfl rfl rfl (Or.inl rfl) (Or.inl ⟨rfl, rfl⟩) rfl ?_
    refine x_aload_n 2 dX8_tidy_39 rfl rfl rfl rfl rfl ?_
    refine x_aload_n 0 dX8_tidy_40 rfl rfl rfl rfl rfl ?_
    exact h.elim
  · exact y_vret dX8_tidy_14 rfl h
theorem rX8_keep {d n : Nat} {w : bW} {Q : Int → bW → Prop} {X : String → bW → Prop} (hn : 28 ≤ n) (a1 : Int) (h : b_K d mX8_isPlace [(0, a1)] n w (fun r1 w2 => if r1 = 0 then (Q a1 w2) else (if 0 ≤ a1 then (b_ai n (w2 27 1) 1 0 (b_shr a1 1) ∧ (if w2 (w2 27 1) (b_shr a1 1) ≠ (-1) then (b_K d mX8_sizeOf [(2, 27), (0, b_shr a1 1)] n w2 (fun r4 w5 => ∃ N6 : Nat, b_is n (w5 27 1) 1 0 N6 ∧ (∃ N8 : Nat, b_is n (w5 27 0) 1 0 N8 ∧ ((w5 27 1 ≠ w5 27 0 ∧ (0 : Int) ≤ b_shr a1 1 ∧ (0 : Int) ≤ w5 27 2 ∧ (0 : Int) ≤ r4 ∧ (b_shr a1 1 : Int) + r4 ≤ N6 ∧ (w5 27 2 : Int) + r4 ≤ N8) ∧ (b_ai n ((b_cp w5 (w5 27 1) (b_shr a1 1) (w5 27 0) (w5 27 2) r4) 27 1) 1 0 (b_shr a1 1) ∧ (b_ai n ((b_up (b_up (b_cp w5 (w5 27 1) (b_shr a1 1) (w5 27 0) (w5 27 2) r4) 27 2 (b_i (((b_cp w5 (w5 27 1) (b_shr a1 1) (w5 27 0) (w5 27 2) r4) 27 2) + r4))) ((b_cp w5 (w5 27 1) (b_shr a1 1) (w5 27 0) (w5 27 2) r4) 27 1) (b_shr a1 1) (-1)) 27 1) 1 0 (b_i ((b_shr a1 1) + 1)) ∧ (Q (b_i (2 * ((b_cp w5 (w5 27 1) (b_shr a1 1) (w5 27 0) (w5 27 2) r4) 27 2))) (b_up (b_up (b_up (b_cp w5 (w5 27 1) (b_shr a1 1) (w5 27 0) (w5 27 2) r4) 27 2 (b_i (((b_cp w5 (w5 27 1) (b_shr a1 1) (w5 27 0) (w5 27 2) r4) 27 2) + r4))) ((b_cp w5 (w5 27 1) (b_shr a1 1) (w5 27 0) (w5 27 2) r4) 27 1) (b_shr a1 1) (-1)) ((b_up (b_up (b_cp w5 (w5 27 1) (b_shr a1 1) (w5 27 0) (w5 27 2) r4) 27 2 (b_i (((b_cp w5 (w5 27 1) (b_shr a1 1) (w5 27 0) (w5 27 2) r4) 27 2) + r4))) ((b_cp w5 (w5 27 1) (b_shr a1 1) (w5 27 0) (w5 27 2) r4) 27 1) (b_shr a1 1) (-1)) 27 1) (b_i ((b_shr a1 1) + 1)) (b_i (2 * ((b_cp w5 (w5 27 1) (b_shr a1 1) (w5 27 0) (w5 27 2) r4) 27 2)))))))))) X) else (b_ai n (w2 27 1) 1 0 (b_i ((b_shr a1 1) + 1)) ∧ (Q (w2 (w2 27 1) (b_i ((b_shr a1 1) + 1))) w2)))) else (Q a1 w2))) X) : b_K (d + 1) mX8_keep [(2, 27), (0, a1)] n w Q X := by
  have i27 := iz27 (Nat.le_trans (Nat.le_of_ble_eq_true rfl) hn)
  refine k_of (by decide) rfl rfl rfl (ls := [(2, 27), (0, a1), (9, 0), (9, 0), (9, 0)]) rfl ?_
  refine x_iload_n 1 dX8_keep_0 rfl rfl rfl ?_
  refine y_Si 43 (M := mX8_isPlace) (As := [(0, a1)]) (st := []) dX8_keep_1 q2038 q2039 q375 q2040 hmX8_isPlace rfl rfl rfl rfl rfl rfl rfl rfl (k_mono h (fun r1 w2 h => ?_))
  refine x_if_eq (t := 11) 7 dX8_keep_4 rfl rfl (b_ite h (fun hc h => ?_) (fun hc h => ?_))
  · refine x_iload_n 1 dX8_keep_11 rfl rfl rfl ?_
    exact y_iret dX8_keep_12 rfl h
  · refine x_iload_n 1 dX8_keep_7 rfl rfl rfl ?_
    refine x_if_ge (t := 13) 5 dX8_keep_8 rfl rfl (b_ite h (fun hc h => ?_) (fun hc h => ?_))
    · refine x_iload_n 1 dX8_keep_13 rfl rfl rfl ?_
      refine x_iconst 1 (z := 1) dX8_keep_14 rfl (by decide) rfl ?_
      refine x_ishr dX8_keep_15 rfl ?_
      refine x_istore_n 2 (ls' := [(2, 27), (0, a1), (0, b_shr a1 1), (9, 0), (9, 0)]) dX8_keep_16 rfl rfl rfl rfl ?_
      refine x_aload_n 0 dX8_keep_17 rfl rfl rfl rfl rfl ?_
      refine y_get 16 1 (c := 7) (z := w2 27 1) dX8_keep_18 i27 rfl in_X8 q804 rfl rfl rfl rfl rfl ?_
      refine x_iload_n 2 dX8_keep_21 rfl rfl rfl ?_
      obtain ⟨e3, h⟩ := h
      refine y_iald (z := w2 (w2 27 1) (b_shr a1 1)) dX8_keep_22 e3 rfl rfl ?_
      refine x_iconst (-1) (z := (-1)) dX8_keep_23 rfl (by decide) rfl ?_
      refine x_icmp_ne (t := 36) 12 dX8_keep_24 rfl rfl (b_ite h (fun hc h => ?_) (fun hc h => ?_))
      · refine x_aload_n 0 dX8_keep_36 rfl rfl rfl rfl rfl ?_
        refine x_iload_n 2 dX8_keep_37 rfl rfl rfl ?_
        refine y_Vi 64 (M := mX8_sizeOf) (As := [(0, b_shr a1 1)]) (st := []) dX8_keep_38 i27 rfl q2358 q2360 qs83 q375 q2361 rfl hmX8_sizeOf rfl rfl rfl rfl rfl rfl rfl rfl (k_mono h (fun r4 w5 h => ?_))
        refine x_istore_n 3 (ls' := [(2, 27), (0, a1), (0, b_shr a1 1), (0, r4), (9, 0)]) dX8_keep_41 rfl rfl rfl rfl ?_
        refine x_aload_n 0 dX8_keep_42 rfl rfl rfl rfl rfl ?_
        refine y_get 16 1 (c := 7) (z := w5 27 1) dX8_keep_43 i27 rfl in_X8 q804 rfl rfl rfl rfl rfl ?_
        refine x_iload_n 2 dX8_keep_46 rfl rfl rfl ?_
        refine x_aload_n 0 dX8_keep_47 rfl rfl rfl rfl rfl ?_
        refine y_get 10 0 (c := 7) (z := w5 27 0) dX8_keep_48 i27 rfl in_X8 q803 rfl rfl rfl rfl rfl ?_
        refine x_aload_n 0 dX8_keep_51 rfl rfl rfl rfl rfl ?_
        refine y_get 19 2 (c := 7) (z := w5 27 2) dX8_keep_52 i27 rfl in_X8 q805 rfl rfl rfl rfl rfl ?_
        refine x_iload_n 3 dX8_keep_55 rfl rfl rfl ?_
        obtain ⟨N6, e7, h⟩ := h
        obtain ⟨N8, e9, h⟩ := h
        obtain ⟨e10, h⟩ := h
        refine x_copyi 68 dX8_keep_56 q2364 q1893 q1892 q400 e7 e9 e10.1 (by decide) e10.2.1 e10.2.2.1 e10.2.2.2.1 e10.2.2.2.2.1 e10.2.2.2.2.2 (Nat.le_add_left 1 d) rfl rfl ?_
        refine x_iconst 2 (z := 2) dX8_keep_59 rfl (by decide) rfl ?_
        refine x_aload_n 0 dX8_keep_60 rfl rfl rfl rfl rfl ?_
        refine y_get 19 2 (c := 7) (z := (b_cp w5 (w5 27 1) (b_shr a1 1) (w5 27 0) (w5 27 2) r4) 27 2) dX8_keep_61 i27 rfl in_X8 q805 rfl rfl rfl rfl rfl ?_
        refine x_imul dX8_keep_64 rfl ?_
        refine x_istore 4 (ls' := [(2, 27), (0, a1), (0, b_shr a1 1), (0, r4), (0, b_i (2 * ((b_cp w5 (w5 27 1) (b_shr a1 1) (w5 27 0) (w5 27 2) r4) 27 2)))]) dX8_keep_65 rfl rfl rfl ?_
        refine x_aload_n 0 dX8_keep_67 rfl rfl rfl rfl rfl ?_
        refine x_dup dX8_keep_68 rfl rfl ?_
        refine y_get 19 2 (c := 7) (z := (b_cp w5 (w5 27 1) (b_shr a1 1) (w5 27 0) (w5 27 2) r4) 27 2) dX8_keep_69 i27 rfl in_X8 q805 rfl rfl rfl rfl rfl ?_
        refine x_iload_n 3 dX8_keep_72 rfl rfl rfl ?_
        refine x_iadd dX8_keep_73 rfl ?_
        refine x_put 19 2 (c := 7) dX8_keep_74 i27 rfl in_X8 tyX8_ok nmX8 q805 rfl rfl rfl (Or.inl rfl) (Or.inl ⟨rfl, rfl⟩) rfl ?_
        refine x_aload_n 0 dX8_keep_77 rfl rfl rfl rfl rfl ?_
        refine y_get 16 1 (c := 7) (z := (b_cp w5 (w5 27 1) (b_shr a1 1) (w5 27 0) (w5 27 2) r4) 27 1) dX8_keep_78 i27 rfl in_X8 q804 rfl rfl rfl rfl rfl ?_
        refine x_iload_n 2 dX8_keep_81 rfl rfl rfl ?_
        refine x_iconst (-1) (z := (-1)) dX8_keep_82 rfl (by decide) rfl ?_
        obtain ⟨e11, h⟩ := h
        refine y_iast (x' := (-1)) dX8_keep_83 e11 rfl rfl ?_
        refine x_aload_n 0 dX8_keep_84 rfl rfl rfl rfl rfl ?_
        refine y_get 16 1 (c := 7) (z := (b_up (b_up (b_cp w5 (w5 27 1) (b_shr a1 1) (w5 27 0) (w5 27 2) r4) 27 2 (b_i (((b_cp w5 (w5 27 1) (b_shr a1 1) (w5 27 0) (w5 27 2) r4) 27 2) + r4))) ((b_cp w5 (w5 27 1) (b_shr a1 1) (w5 27 0) (w5 27 2) r4) 27 1) (b_shr a1 1) (-1)) 27 1) dX8_keep_85 i27 rfl in_X8 q804 rfl rfl rfl rfl rfl ?_
        refine x_iload_n 2 dX8_keep_88 rfl rfl rfl ?_
        refine x_iconst 1 (z := 1) dX8_keep_89 rfl (by decide) rfl ?_
        refine x_iadd dX8_keep_90 rfl ?_
        refine x_iload 4 dX8_keep_91 rfl rfl ?_
        obtain ⟨e12, h⟩ := h
        refine y_iast (x' := b_i (2 * ((b_cp w5 (w5 27 1) (b_shr a1 1) (w5 27 0) (w5 27 2) r4) 27 2))) dX8_keep_93 e12 rfl rfl ?_
        refine x_iload 4 dX8_keep_94 rfl rfl ?_
        exact y_iret dX8_keep_96 rfl h
      · refine x_aload_n 0 dX8_keep_27 rfl rfl rfl rfl rfl ?_
        refine y_get 16 1 (c := 7) (z := w2 27 1) dX8_keep_28 i27 rfl in_X8 q804 rfl rfl rfl rfl rfl ?_
        refine x_iload_n 2 dX8_keep_31 rfl rfl rfl ?_
        refine x_iconst 1 (z := 1) dX8_keep_32 rfl (by decide) rfl ?_
        refine x_iadd dX8_keep_33 rfl ?_
        obtain ⟨e13, h⟩ := h
        refine y_iald (z := w2 (w2 27 1) (b_i ((b_shr a1 1) + 1))) dX8_keep_34 e13 rfl rfl ?_
        exact y_iret dX8_keep_35 rfl h
    · refine x_iload_n 1 dX8_keep_11 rfl rfl rfl ?_
      exact y_iret dX8_keep_12 rfl h
theorem rX8_sizeOf {d n : Nat} {w : bW} {Q : Int → bW → Prop} {X : String → bW → Prop} (hn : 28 ≤ n) (a1 : Int) (h : b_ai n (w 27 1) 1 0 a1 ∧ (if w (w 27 1) a1 ≠ 1 then (if w (w 27 1) a1 ≠ 2 then ((0 ≤ w (w 27 1) a1 ∧ w (w 27 1) a1 < 12) ∧ (Q (b_sz (w (w 27 1) a1)) w)) else (b_ai n (w 27 1) 1 0 (b_i (a1 + 2)) ∧ (Q (b_i (3 + (b_shr (b_i ((w (w 27 1) (b_i (a1 + 2))) + 3)) 2))) w))) else (b_ai n (w 27 1) 1 0 (b_i (a1 + 2)) ∧ (Q (b_i (3 + (b_shr (b_i ((b_and (w (w 27 1) (b_i (a1 + 2))) 65535) + 1)) 1))) w)))) : b_K (d + 1) mX8_sizeOf [(2, 27), (0, a1)] n w Q X := by
  have i27 := iz27 (Nat.le_trans (Nat.le_of_ble_eq_true rfl) hn)
  refine k_of (by decide) rfl rfl rfl (ls := [(2, 27), (0, a1), (9, 0)]) rfl ?_
  refine x_aload_n 0 dX8_sizeOf_0 rfl rfl rfl rfl rfl ?_
  refine y_get 16 1 (c := 7) (z := w 27 1) dX8_sizeOf_1 i27 rfl in_X8 q804 rfl rfl rfl rfl rfl ?_
  refine x_iload_n 1 dX8_sizeOf_4 rfl rfl rfl ?_
  obtain ⟨e1, h⟩ := h
  refine y_iald (z := w (w 27 1) a1) dX8_sizeOf_5 e1 rfl rfl ?_
  refine x_istore_n 2 (ls' := [(2, 27), (0, a1), (0, w (w 27 1) a1)]) dX8_sizeOf_6 rfl rfl rfl rfl ?_
  refine x_iload_n 2 dX8_sizeOf_7 rfl rfl rfl ?_
  refine x_iconst 1 (z := 1) dX8_sizeOf_8 rfl (by decide) rfl ?_
  refine x_icmp_ne (t := 32) 23 dX8_sizeOf_9 rfl rfl (b_ite h (fun hc h => ?_) (fun hc h => ?_))
  · refine x_iload_n 2 dX8_sizeOf_32 rfl rfl rfl ?_
    refine x_iconst 2 (z := 2) dX8_sizeOf_33 rfl (by decide) rfl ?_
    refine x_icmp_ne (t := 54) 20 dX8_sizeOf_34 rfl rfl (b_ite h (fun hc h => ?_) (fun hc h => ?_))
    · refine x_gsz 60 dX8_sizeOf_54 q2362 rfl ?_
      refine x_iload_n 2 dX8_sizeOf_57 rfl rfl rfl ?_
      obtain ⟨e2, h⟩ := h
      refine x_bsz dX8_sizeOf_58 e2 rfl ?_
      exact y_iret dX8_sizeOf_59 rfl h
    · refine x_iconst 3 (z := 3) dX8_sizeOf_37 rfl (by decide) rfl ?_
      refine x_aload_n 0 dX8_sizeOf_38 rfl rfl rfl rfl rfl ?_
      refine y_get 16 1 (c := 7) (z := w 27 1) dX8_sizeOf_39 i27 rfl in_X8 q804 rfl rfl rfl rfl rfl ?_
      refine x_iload_n 1 dX8_sizeOf_42 rfl rfl rfl ?_
      refine x_iconst 2 (z := 2) dX8_sizeOf_43 rfl (by decide) rfl ?_
      refine x_iadd dX8_sizeOf_44 rfl ?_
      obtain ⟨e3, h⟩ := h
      refine y_iald (z := w (w 27 1) (b_i (a1 + 2))) dX8_sizeOf_45 e3 rfl rfl ?_
      refine x_iconst 3 (z := 3) dX8_sizeOf_46 rfl (by decide) rfl ?_
      refine x_iadd dX8_sizeOf_47 rfl ?_
      refine x_iconst 2 (z := 2) dX8_sizeOf_48 rfl (by decide) rfl ?_
      refine x_ishr dX8_sizeOf_49 rfl ?_
      refine x_iadd dX8_sizeOf_50 rfl ?_
      refine x_goto 8 (q := 59) dX8_sizeOf_51 rfl ?_
      exact y_iret dX8_sizeOf_59 rfl h
  · refine x_iconst 3 (z := 3) dX8_sizeOf_12 rfl (by decide) rfl ?_
    refine x_aload_n 0 dX8_sizeOf_13 rfl rfl rfl rfl rfl ?_
    refine y_get 16 1 (c := 7) (z := w 27 1) dX8_sizeOf_14 i27 rfl in_X8 q804 rfl rfl rfl rfl rfl ?_
    refine x_iload_n 1 dX8_sizeOf_17 rfl rfl rfl ?_
    refine x_iconst 2 (z := 2) dX8_sizeOf_18 rfl (by decide) rfl ?_
    refine x_iadd dX8_sizeOf_19 rfl ?_
    obtain ⟨e4, h⟩ := h
    refine y_iald (z := w (w 27 1) (b_i (a1 + 2))) dX8_sizeOf_20 e4 rfl rfl ?_
    refine x_ldc 59 (x := 65535) dX8_sizeOf_21 q2108 rfl (by decide) rfl ?_
    refine x_iand dX8_sizeOf_23 rfl ?_
    refine x_iconst 1 (z := 1) dX8_sizeOf_24 rfl (by decide) rfl ?_
    refine x_iadd dX8_sizeOf_25 rfl ?_
    refine x_iconst 1 (z := 1) dX8_sizeOf_26 rfl (by decide) rfl ?_
    refine x_ishr dX8_sizeOf_27 rfl ?_
    refine x_iadd dX8_sizeOf_28 rfl ?_
    refine x_goto 30 (q := 59) dX8_sizeOf_29 rfl ?_
    exact y_iret dX8_sizeOf_59 rfl h
abbrev LX8_keepParts_82 (d n : Nat) (Q : Int → bW → Prop) (X : String → bW → Prop) (a1 : Int) (a3 : Int) (a4 : Int) (w : bW) : Prop := b_Y (d + 1) mX8_keepParts n Q X 82 [(2, 27), (0, a1), (9, 0), (0, a3), (0, a4)] [] w
abbrev LX8_keepParts_37 (d n : Nat) (Q : Int → bW → Prop) (X : String → bW → Prop) (a1 : Int) (a2 : Int) (w : bW) : Prop := b_Y (d + 1) mX8_keepParts n Q X 37 [(2, 27), (0, a1), (0, a2), (9, 0), (9, 0)] [] w
theorem rX8_keepParts {d n : Nat} {w : bW} {Q : Int → bW → Prop} {X : String → bW → Prop} (hn : 28 ≤ n) (a1 : Int) (h : b_ai n (w 27 0) 1 0 a1 ∧ (if w (w 27 0) a1 = 3 then (if w (w 27 0) a1 ≠ 9 then (LX8_keepParts_82 d n Q X a1 2 0 w) else (LX8_keepParts_82 d n Q X a1 2 1 w)) else (if w (w 27 0) a1 ≠ 7 then (if w (w 27 0) a1 < 4 then (LX8_keepParts_37 d n Q X a1 (w (w 27 0) a1) w) else (if 6 < w (w 27 0) a1 then (LX8_keepParts_37 d n Q X a1 (w (w 27 0) a1) w) else (if w (w 27 0) a1 ≠ 9 then (LX8_keepParts_82 d n Q X a1 1 0 w) else (LX8_keepParts_82 d n Q X a1 1 1 w)))) else (if w (w 27 0) a1 ≠ 9 then (LX8_keepParts_82 d n Q X a1 2 0 w) else (LX8_keepParts_82 d n Q X a1 2 1 w))))) : b_K (d + 1) mX8_keepParts [(2, 27), (0, a1)] n w Q X := by
  have i27 := iz27 (Nat.le_trans (Nat.le_of_ble_eq_true rfl) hn)
  refine k_of (by decide) rfl rfl rfl (ls := [(2, 27), (0, a1), (9, 0), (9, 0), (9, 0)]) rfl ?_
  refine x_aload_n 0 dX8_keepParts_0 rfl rfl rfl rfl rfl ?_
  refine y_get 10 0 (c := 7) (z := w 27 0) dX8_keepParts_1 i27 rfl in_X8 q803 rfl rfl rfl rfl rfl ?_
  refine x_iload_n 1 dX8_keepParts_4 rfl rfl rfl ?_
  obtain ⟨e1, h⟩ := h
  refine y_iald (z := w (w 27 0) a1) dX8_keepParts_5 e1 rfl rfl ?_
  refine x_istore_n 2 (ls' := [(2, 27), (0, a1), (0, w (w 27 0) a1), (9, 0), (9, 0)]) dX8_keepParts_6 rfl rfl rfl rfl ?_
  refine x_iload_n 2 dX8_keepParts_7 rfl rfl rfl ?_
  refine x_iconst 3 (z := 3) dX8_keepParts_8 rfl (by decide) rfl ?_
  refine x_icmp_eq (t := 18) 9 dX8_keepParts_9 rfl rfl (b_ite h (fun hc h => ?_) (fun hc h => ?_))
  · refine x_iconst 2 (z := 2) dX8_keepParts_18 rfl (by decide) rfl ?_
    refine x_goto 49 (q := 68) dX8_keepParts_19 rfl ?_
    refine x_istore_n 3 (ls' := [(2, 27), (0, a1), (0, w (w 27 0) a1), (0, 2), (9, 0)]) dX8_keepParts_68 rfl rfl rfl rfl ?_
    refine x_iload_n 2 dX8_keepParts_69 rfl rfl rfl ?_
    refine x_bipush 9 (z := 9) dX8_keepParts_70 rfl (by decide) rfl ?_
    refine x_icmp_ne (t := 79) 7 dX8_keepParts_72 rfl rfl (b_ite h (fun hc h => ?_) (fun hc h => ?_))
    · refine x_iconst 0 (z := 0) dX8_keepParts_79 rfl (by decide) rfl ?_
      refine x_istore 4 (ls' := [(2, 27), (0, a1), (0, w (w 27 0) a1), (0, 2), (0, 0)]) dX8_keepParts_80 rfl rfl rfl ?_
      exact x_fg (fgk (fgk (fgd (fgk (fgk (fg0)))))) h
    · refine x_iconst 1 (z := 1) dX8_keepParts_75 rfl (by decide) rfl ?_
      refine x_goto 4 (q := 80) dX8_keepParts_76 rfl ?_
      refine x_istore 4 (ls' := [(2, 27), (0, a1), (0, w (w 27 0) a1), (0, 2), (0, 1)]) dX8_keepParts_80 rfl rfl rfl ?_
      exact x_fg (fgk (fgk (fgd (fgk (fgk (fg0)))))) h
  · refine x_iload_n 2 dX8_keepParts_12 rfl rfl rfl ?_
    refine x_bipush 7 (z := 7) dX8_keepParts_13 rfl (by decide) rfl ?_
    refine x_icmp_ne (t := 22) 7 dX8_keepParts_15 rfl rfl (b_ite h (fun hc h => ?_) (fun hc h => ?_))
    · refine x_iload_n 2 dX8_keepParts_22 rfl rfl rfl ?_
      refine x_iconst 4 (z := 4) dX8_keepParts_23 rfl (by decide) rfl ?_
      refine x_icmp_lt (t := 37) 13 dX8_keepParts_24 rfl rfl (b_ite h (fun hc h => ?_) (fun hc h => ?_))
      · exact x_fg (fgk (fgk (fgk (fgk (fgk (fg0)))))) h
      · refine x_iload_n 2 dX8_keepParts_27 rfl rfl rfl ?_
        refine x_bipush 6 (z := 6) dX8_keepParts_28 rfl (by decide) rfl ?_
        refine x_icmp_gt (t := 37) 7 dX8_keepParts_30 rfl rfl (b_ite h (fun hc h => ?_) (fun hc h => ?_))
        · exact x_fg (fgk (fgk (fgk (fgk (fgk (fg0)))))) h
        · refine x_iconst 1 (z := 1) dX8_keepParts_33 rfl (by decide) rfl ?_
          refine x_goto 34 (q := 68) dX8_keepParts_34 rfl ?_
          refine x_istore_n 3 (ls' := [(2, 27), (0, a1), (0, w (w 27 0) a1), (0, 1), (9, 0)]) dX8_keepParts_68 rfl rfl rfl rfl ?_
          refine x_iload_n 2 dX8_keepParts_69 rfl rfl rfl ?_
          refine x_bipush 9 (z := 9) dX8_keepParts_70 rfl (by decide) rfl ?_
          refine x_icmp_ne (t := 79) 7 dX8_keepParts_72 rfl rfl (b_ite h (fun hc h => ?_) (fun hc h => ?_))
          · refine x_iconst 0 (z := 0) dX8_keepParts_79 rfl (by decide) rfl ?_
            refine x_istore 4 (ls' := [(2, 27), (0, a1), (0, w (w 27 0) a1), (0, 1), (0, 0)]) dX8_keepParts_80 rfl rfl rfl ?_
            exact x_fg (fgk (fgk (fgd (fgk (fgk (fg0)))))) h
          · refine x_iconst 1 (z := 1) dX8_keepParts_75 rfl (by decide) rfl ?_
            refine x_goto 4 (q := 80) dX8_keepParts_76 rfl ?_
            refine x_istore 4 (ls' := [(2, 27), (0, a1), (0, w (w 27 0) a1), (0, 1), (0, 1)]) dX8_keepParts_80 rfl rfl rfl ?_
            exact x_fg (fgk (fgk (fgd (fgk (fgk (fg0)))))) h
    · refine x_iconst 2 (z := 2) dX8_keepParts_18 rfl (by decide) rfl ?_
      refine x_goto 49 (q := 68) dX8_keepParts_19 rfl ?_
      refine x_istore_n 3 (ls' := [(2, 27), (0, a1), (0, w (w 27 0) a1), (0, 2), (9, 0)]) dX8_keepParts_68 rfl rfl rfl rfl ?_
      refine x_iload_n 2 dX8_keepParts_69 rfl rfl rfl ?_
      refine x_bipush 9 (z := 9) dX8_keepParts_70 rfl (by decide) rfl ?_
      refine x_icmp_ne (t := 79) 7 dX8_keepParts_72 rfl rfl (b_ite h (fun hc h => ?_) (fun hc h => ?_))
      · refine x_iconst 0 (z := 0) dX8_keepParts_79 rfl (by decide) rfl ?_
        refine x_istore 4 (ls' := [(2, 27), (0, a1), (0, w (w 27 0) a1), (0, 2), (0, 0)]) dX8_keepParts_80 rfl rfl rfl ?_
        exact x_fg (fgk (fgk (fgd (fgk (fgk (fg0)))))) h
      · refine x_iconst 1 (z := 1) dX8_keepParts_75 rfl (by decide) rfl ?_
        refine x_goto 4 (q := 80) dX8_keepParts_76 rfl ?_
        refine x_istore 4 (ls' := [(2, 27), (0, a1), (0, w (w 27 0) a1), (0, 2), (0, 1)]) dX8_keepParts_80 rfl rfl rfl ?_
        exact x_fg (fgk (fgk (fgd (fgk (fgk (fg0)))))) h
theorem sX8_keepParts_82 {d n : Nat} {w : bW} {Q : Int → bW → Prop} {X : String → bW → Prop} (hn : 28 ≤ n) (a1 : Int) (a3 : Int) (a4 : Int) (h : if a3 ≤ a4 then (Q 0 w) else (b_ai n (w 27 0) 1 0 (b_i ((b_i (a1 + 2)) + a4)) ∧ (b_K d mX8_keep [(2, 27), (0, w (w 27 0) (b_i ((b_i (a1 + 2)) + a4)))] n w (fun r2 w3 => LX8_keepParts_82 d n Q X a1 a3 (b_i (a4 + 1)) (b_up w3 (w 27 0) (b_i ((b_i (a1 + 2)) + a4)) r2)) X))) : LX8_keepParts_82 d n Q X a1 a3 a4 w := by
  have i27 := iz27 (Nat.le_trans (Nat.le_of_ble_eq_true rfl) hn)
  refine x_iload 4 dX8_keepParts_82 rfl rfl ?_
  refine x_iload_n 3 dX8_keepParts_84 rfl rfl rfl ?_
  refine x_icmp_ge (t := 120) 35 dX8_keepParts_85 rfl rfl (b_ite h (fun hc h => ?_) (fun hc h => ?_))
  · exact y_vret dX8_keepParts_120 rfl h
  · refine x_aload_n 0 dX8_keepParts_88 rfl rfl rfl rfl rfl ?_
    refine y_get 10 0 (c := 7) (z := w 27 0) dX8_keepParts_89 i27 rfl in_X8 q803 rfl rfl rfl rfl rfl ?_
    refine x_iload_n 1 dX8_keepParts_92 rfl rfl rfl ?_
    refine x_iconst 2 (z := 2) dX8_keepParts_93 rfl (by decide) rfl ?_
    refine x_iadd dX8_keepParts_94 rfl ?_
    refine x_iload 4 dX8_keepParts_95 rfl rfl ?_
    refine x_iadd dX8_keepParts_97 rfl ?_
    refine x_aload_n 0 dX8_keepParts_98 rfl rfl rfl rfl rfl ?_
    refine x_aload_n 0 dX8_keepParts_99 rfl rfl rfl rfl rfl ?_
    refine y_get 10 0 (c := 7) (z := w 27 0) dX8_keepParts_100 i27 rfl in_X8 q803 rfl rfl rfl rfl rfl ?_
    refine x_iload_n 1 dX8_keepParts_103 rfl rfl rfl ?_
    refine x_iconst 2 (z := 2) dX8_keepParts_104 rfl (by decide) rfl ?_
    refine x_iadd dX8_keepParts_105 rfl ?_
    refine x_iload 4 dX8_keepParts_106 rfl rfl ?_
    refine x_iadd dX8_keepParts_108 rfl ?_
    obtain ⟨e1, h⟩ := h
    refine y_iald (z := w (w 27 0) (b_i ((b_i (a1 + 2)) + a4))) dX8_keepParts_109 e1 rfl rfl ?_
    refine y_Vi 74 (M := mX8_keep) (As := [(0, w (w 27 0) (b_i ((b_i (a1 + 2)) + a4)))]) (st := [(0, b_i ((b_i (a1 + 2)) + a4)), (2, w 27 0)]) dX8_keepParts_110 i27 rfl q2369 q2355 q2356 q375 q2357 rfl hmX8_keep rfl rfl rfl rfl rfl rfl rfl rfl (k_mono h (fun r2 w3 h => ?_))
    refine y_iast (x' := r2) dX8_keepParts_113 e1 rfl rfl ?_
    refine x_iinc 4 1 (ls' := [(2, 27), (0, a1), (9, 0), (0, a3), (0, b_i (a4 + 1))]) dX8_keepParts_114 rfl rfl rfl rfl ?_
    refine x_goto (-35) (q := 82) dX8_keepParts_117 rfl ?_
    exact x_fg (fgk (fgk (fgk (fgk (fgk (fg0)))))) h
theorem sX8_keepParts_37 {d n : Nat} {w : bW} {Q : Int → bW → Prop} {X : String → bW → Prop} (hn : 28 ≤ n) (a1 : Int) (a2 : Int) (h : if a2 ≠ 8 then (if a2 ≠ 9 then (if a2 ≠ 11 then (if a2 ≠ 9 then (LX8_keepParts_82 d n Q X a1 0 0 w) else (LX8_keepParts_82 d n Q X a1 0 1 w)) else (if a2 ≠ 9 then (LX8_keepParts_82 d n Q X a1 2 0 w) else (LX8_keepParts_82 d n Q X a1 2 1 w))) else (if a2 ≠ 9 then (LX8_keepParts_82 d n Q X a1 3 0 w) else (LX8_keepParts_82 d n Q X a1 3 1 w))) else (if a2 ≠ 9 then (LX8_keepParts_82 d n Q X a1 4 0 w) else (LX8_keepParts_82 d n Q X a1 4 1 w))) : LX8_keepParts_37 d n Q X a1 a2 w := by
  refine x_iload_n 2 dX8_keepParts_37 rfl rfl rfl ?_
  refine x_bipush 8 (z := 8) dX8_keepParts_38 rfl (by decide) rfl ?_
  refine x_icmp_ne (t := 47) 7 dX8_keepParts_40 rfl rfl (b_ite h (fun hc h => ?_) (fun hc h => ?_))
  · refine x_iload_n 2 dX8_keepParts_47 rfl rfl rfl ?_
    refine x_bipush 9 (z := 9) dX8_keepParts_48 rfl (by decide) rfl ?_
    refine x_icmp_ne (t := 57) 7 dX8_keepParts_50 rfl rfl (b_ite h (fun hc h => ?_) (fun hc h => ?_))
    · refine x_iload_n 2 dX8_keepParts_57 rfl rfl rfl ?_
      refine x_bipush 11 (z := 11) dX8_keepParts_58 rfl (by decide) rfl ?_
      refine x_icmp_ne (t := 67) 7 dX8_keepParts_60 rfl rfl (b_ite h (fun hc h => ?_) (fun hc h => ?_))
      · refine x_iconst 0 (z := 0) dX8_keepParts_67 rfl (by decide) rfl ?_
        refine x_istore_n 3 (ls' := [(2, 27), (0, a1), (0, a2), (0, 0), (9, 0)]) dX8_keepParts_68 rfl rfl rfl rfl ?_
        refine x_iload_n 2 dX8_keepParts_69 rfl rfl rfl ?_
        refine x_bipush 9 (z := 9) dX8_keepParts_70 rfl (by decide) rfl ?_
        refine x_icmp_ne (t := 79) 7 dX8_keepParts_72 rfl rfl (b_ite h (fun hc h => ?_) (fun hc h => ?_))
        · refine x_iconst 0 (z := 0) dX8_keepParts_79 rfl (by decide) rfl ?_
          refine x_istore 4 (ls' := [(2, 27), (0, a1), (0, a2), (0, 0), (0, 0)]) dX8_keepParts_80 rfl rfl rfl ?_
          exact x_fg (fgk (fgk (fgd (fgk (fgk (fg0)))))) h
        · refine x_iconst 1 (z := 1) dX8_keepParts_75 rfl (by decide) rfl ?_
          refine x_goto 4 (q := 80) dX8_keepParts_76 rfl ?_
          refine x_istore 4 (ls' := [(2, 27), (0, a1), (0, a2), (0, 0), (0, 1)]) dX8_keepParts_80 rfl rfl rfl ?_
          exact x_fg (fgk (fgk (fgd (fgk (fgk (fg0)))))) h
      · refine x_iconst 2 (z := 2) dX8_keepParts_63 rfl (by decide) rfl ?_
        refine x_goto 4 (q := 68) dX8_keepParts_64 rfl ?_
        refine x_istore_n 3 (ls' := [(2, 27), (0, a1), (0, a2), (0, 2), (9, 0)]) dX8_keepParts_68 rfl rfl rfl rfl ?_
        refine x_iload_n 2 dX8_keepParts_69 rfl rfl rfl ?_
        refine x_bipush 9 (z := 9) dX8_keepParts_70 rfl (by decide) rfl ?_
        refine x_icmp_ne (t := 79) 7 dX8_keepParts_72 rfl rfl (b_ite h (fun hc h => ?_) (fun hc h => ?_))
        · refine x_iconst 0 (z := 0) dX8_keepParts_79 rfl (by decide) rfl ?_
          refine x_istore 4 (ls' := [(2, 27), (0, a1), (0, a2), (0, 2), (0, 0)]) dX8_keepParts_80 rfl rfl rfl ?_
          exact x_fg (fgk (fgk (fgd (fgk (fgk (fg0)))))) h
        · refine x_iconst 1 (z := 1) dX8_keepParts_75 rfl (by decide) rfl ?_
          refine x_goto 4 (q := 80) dX8_keepParts_76 rfl ?_
          refine x_istore 4 (ls' := [(2, 27), (0, a1), (0, a2), (0, 2), (0, 1)]) dX8_keepParts_80 rfl rfl rfl ?_
          exact x_fg (fgk (fgk (fgd (fgk (fgk (fg0)))))) h
    · refine x_iconst 3 (z := 3) dX8_keepParts_53 rfl (by decide) rfl ?_
      refine x_goto 14 (q := 68) dX8_keepParts_54 rfl ?_
      refine x_istore_n 3 (ls' := [(2, 27), (0, a1), (0, a2), (0, 3), (9, 0)]) dX8_keepParts_68 rfl rfl rfl rfl ?_
      refine x_iload_n 2 dX8_keepParts_69 rfl rfl rfl ?_
      refine x_bipush 9 (z := 9) dX8_keepParts_70 rfl (by decide) rfl ?_
      refine x_icmp_ne (t := 79) 7 dX8_keepParts_72 rfl rfl (b_ite h (fun hc h => ?_) (fun hc h => ?_))
      · refine x_iconst 0 (z := 0) dX8_keepParts_79 rfl (by decide) rfl ?_
        refine x_istore 4 (ls' := [(2, 27), (0, a1), (0, a2), (0, 3), (0, 0)]) dX8_keepParts_80 rfl rfl rfl ?_
        exact x_fg (fgk (fgk (fgd (fgk (fgk (fg0)))))) h
      · refine x_iconst 1 (z := 1) dX8_keepParts_75 rfl (by decide) rfl ?_
        refine x_goto 4 (q := 80) dX8_keepParts_76 rfl ?_
        refine x_istore 4 (ls' := [(2, 27), (0, a1), (0, a2), (0, 3), (0, 1)]) dX8_keepParts_80 rfl rfl rfl ?_
        exact x_fg (fgk (fgk (fgd (fgk (fgk (fg0)))))) h
  · refine x_iconst 4 (z := 4) dX8_keepParts_43 rfl (by decide) rfl ?_
    refine x_goto 24 (q := 68) dX8_keepParts_44 rfl ?_
    refine x_istore_n 3 (ls' := [(2, 27), (0, a1), (0, a2), (0, 4), (9, 0)]) dX8_keepParts_68 rfl rfl rfl rfl ?_
    refine x_iload_n 2 dX8_keepParts_69 rfl rfl rfl ?_
    refine x_bipush 9 (z := 9) dX8_keepParts_70 rfl (by decide) rfl ?_
    refine x_icmp_ne (t := 79) 7 dX8_keepParts_72 rfl rfl (b_ite h (fun hc h => ?_) (fun hc h => ?_))
    · refine x_iconst 0 (z := 0) dX8_keepParts_79 rfl (by decide) rfl ?_
      refine x_istore 4 (ls' := [(2, 27), (0, a1), (0, a2), (0, 4), (0, 0)]) dX8_keepParts_80 rfl rfl rfl ?_
      exact x_fg (fgk (fgk (fgd (fgk (fgk (fg0)))))) h
    · refine x_iconst 1 (z := 1) dX8_keepParts_75 rfl (by decide) rfl ?_
      refine x_goto 4 (q := 80) dX8_keepParts_76 rfl ?_
      refine x_istore 4 (ls' := [(2, 27), (0, a1), (0, a2), (0, 4), (0, 1)]) dX8_keepParts_80 rfl rfl rfl ?_
      exact x_fg (fgk (fgk (fgd (fgk (fgk (fg0)))))) h
theorem rX8_sizeHere {d n : Nat} {w : bW} {Q : Int → bW → Prop} {X : String → bW → Prop} (hn : 28 ≤ n) (a1 : Int) (h : b_ai n (w 27 0) 1 0 a1 ∧ (if w (w 27 0) a1 ≠ 1 then (if w (w 27 0) a1 ≠ 2 then ((0 ≤ w (w 27 0) a1 ∧ w (w 27 0) a1 < 12) ∧ (Q (b_sz (w (w 27 0) a1)) w)) else (b_ai n (w 27 0) 1 0 (b_i (a1 + 2)) ∧ (Q (b_i (3 + (b_shr (b_i ((w (w 27 0) (b_i (a1 + 2))) + 3)) 2))) w))) else (b_ai n (w 27 0) 1 0 (b_i (a1 + 2)) ∧ (Q (b_i (3 + (b_shr (b_i ((b_and (w (w 27 0) (b_i (a1 + 2))) 65535) + 1)) 1))) w)))) : b_K (d + 1) mX8_sizeHere [(2, 27), (0, a1)] n w Q X := by
  have i27 := iz27 (Nat.le_trans (Nat.le_of_ble_eq_true rfl) hn)
  refine k_of (by decide) rfl rfl rfl (ls := [(2, 27), (0, a1), (9, 0)]) rfl ?_
  refine x_aload_n 0 dX8_sizeHere_0 rfl rfl rfl rfl rfl ?_
  refine y_get 10 0 (c := 7) (z := w 27 0) dX8_sizeHere_1 i27 rfl in_X8 q803 rfl rfl rfl rfl rfl ?_
  refine x_iload_n 1 dX8_sizeHere_4 rfl rfl rfl ?_
  obtain ⟨e1, h⟩ := h
  refine y_iald (z := w (w 27 0) a1) dX8_sizeHere_5 e1 rfl rfl ?_
  refine x_istore_n 2 (ls' := [(2, 27), (0, a1), (0, w (w 27 0) a1)]) dX8_sizeHere_6 rfl rfl rfl rfl ?_
  refine x_iload_n 2 dX8_sizeHere_7 rfl rfl rfl ?_
  refine x_iconst 1 (z := 1) dX8_sizeHere_8 rfl (by decide) rfl ?_
  refine x_icmp_ne (t := 32) 23 dX8_sizeHere_9 rfl rfl (b_ite h (fun hc h => ?_) (fun hc h => ?_))
  · refine x_iload_n 2 dX8_sizeHere_32 rfl rfl rfl ?_
    refine x_iconst 2 (z := 2) dX8_sizeHere_33 rfl (by decide) rfl ?_
    refine x_icmp_ne (t := 54) 20 dX8_sizeHere_34 rfl rfl (b_ite h (fun hc h => ?_) (fun hc h => ?_))
    · refine x_gsz 60 dX8_sizeHere_54 q2362 rfl ?_
      refine x_iload_n 2 dX8_sizeHere_57 rfl rfl rfl ?_
      obtain ⟨e2, h⟩ := h
      refine x_bsz dX8_sizeHere_58 e2 rfl ?_
      exact y_iret dX8_sizeHere_59 rfl h
    · refine x_iconst 3 (z := 3) dX8_sizeHere_37 rfl (by decide) rfl ?_
      refine x_aload_n 0 dX8_sizeHere_38 rfl rfl rfl rfl rfl ?_
      refine y_get 10 0 (c := 7) (z := w 27 0) dX8_sizeHere_39 i27 rfl in_X8 q803 rfl rfl rfl rfl rfl ?_
      refine x_iload_n 1 dX8_sizeHere_42 rfl rfl rfl ?_
      refine x_iconst 2 (z := 2) dX8_sizeHere_43 rfl (by decide) rfl ?_
      refine x_iadd dX8_sizeHere_44 rfl ?_
      obtain ⟨e3, h⟩ := h
      refine y_iald (z := w (w 27 0) (b_i (a1 + 2))) dX8_sizeHere_45 e3 rfl rfl ?_
      refine x_iconst 3 (z := 3) dX8_sizeHere_46 rfl (by decide) rfl ?_
      refine x_iadd dX8_sizeHere_47 rfl ?_
      refine x_iconst 2 (z := 2) dX8_sizeHere_48 rfl (by decide) rfl ?_
      refine x_ishr dX8_sizeHere_49 rfl ?_
      refine x_iadd dX8_sizeHere_50 rfl ?_
      refine x_goto 8 (q := 59) dX8_sizeHere_51 rfl ?_
      exact y_iret dX8_sizeHere_59 rfl h
  · refine x_iconst 3 (z := 3) dX8_sizeHere_12 rfl (by decide) rfl ?_
    refine x_aload_n 0 dX8_sizeHere_13 rfl rfl rfl rfl rfl ?_
    refine y_get 10 0 (c := 7) (z := w 27 0) dX8_sizeHere_14 i27 rfl in_X8 q803 rfl rfl rfl rfl rfl ?_
    refine x_iload_n 1 dX8_sizeHere_17 rfl rfl rfl ?_
    refine x_iconst 2 (z := 2) dX8_sizeHere_18 rfl (by decide) rfl ?_
    refine x_iadd dX8_sizeHere_19 rfl ?_
    obtain ⟨e4, h⟩ := h
    refine y_iald (z := w (w 27 0) (b_i (a1 + 2))) dX8_sizeHere_20 e4 rfl rfl ?_
    refine x_ldc 59 (x := 65535) dX8_sizeHere_21 q2108 rfl (by decide) rfl ?_
    refine x_iand dX8_sizeHere_23 rfl ?_
    refine x_iconst 1 (z := 1) dX8_sizeHere_24 rfl (by decide) rfl ?_
    refine x_iadd dX8_sizeHere_25 rfl ?_
    refine x_iconst 1 (z := 1) dX8_sizeHere_26 rfl (by decide) rfl ?_
    refine x_ishr dX8_sizeHere_27 rfl ?_
    refine x_iadd dX8_sizeHere_28 rfl ?_
    refine x_goto 30 (q := 59) dX8_sizeHere_29 rfl ?_
    exact y_iret dX8_sizeHere_59 rfl h
theorem rX8_lambda {d n : Nat} {w : bW} {Q : Int → bW → Prop} {X : String → bW → Prop} (hn : 28 ≤ n) (a1 : Int) (a2 : Int) (a3 : Int) (h : b_K d mX8_make [(2, 27), (0, 9), (0, 40), (0, 5)] n w (fun r1 w2 => b_K d mX8_set [(2, 27), (0, r1), (0, 2), (0, a1)] n w2 (fun r3 w4 => b_K d mX8_set [(2, 27), (0, r1), (0, 3), (0, a2)] n w4 (fun r5 w6 => b_K d mX8_set [(2, 27), (0, r1), (0, 4), (0, a3)] n w6 (fun r7 w8 => Q r1 w8) X) X) X) X) : b_K (d + 1) mX8_lambda [(2, 27), (0, a1), (0, a2), (0, a3)] n w Q X := by
  have i27 := iz27 (Nat.le_trans (Nat.le_of_ble_eq_true rfl) hn)
  refine k_of (by decide) rfl rfl rfl (ls := [(2, 27), (0, a1), (0, a2), (0, a3), (9, 0)]) rfl ?_
  refine x_aload_n 0 dX8_lambda_0 rfl rfl rfl rfl rfl ?_
  refine x_bipush 9 (z := 9) dX8_lambda_1 rfl (by decide) rfl ?_
  refine x_bipush 40 (z := 40) dX8_lambda_3 rfl (by decide) rfl ?_
  refine x_iconst 5 (z := 5) dX8_lambda_5 rfl (by decide) rfl ?_
  refine y_Vi 144 (M := mX8_make) (As := [(0, 9), (0, 40), (0, 5)]) (st := []) dX8_lambda_6 i27 rfl q1971 q1973 qs37 q375 q1974 rfl hmX8_make rfl rfl rfl rfl rfl rfl rfl rfl (k_mono h (fun r1 w2 h => ?_))
  refine x_istore 4 (ls' := [(2, 27), (0, a1), (0, a2), (0, a3), (0, r1)]) dX8_lambda_9 rfl rfl rfl ?_
  refine x_aload_n 0 dX8_lambda_11 rfl rfl rfl rfl rfl ?_
  refine x_iload 4 dX8_lambda_12 rfl rfl ?_
  refine x_iconst 2 (z := 2) dX8_lambda_14 rfl (by decide) rfl ?_
  refine x_iload_n 1 dX8_lambda_15 rfl rfl rfl ?_
  refine y_Vv 55 (M := mX8_set) (As := [(0, r1), (0, 2), (0, a1)]) (st := []) dX8_lambda_16 i27 rfl q1975 q1977 qs38 q375 q1978 rfl hmX8_set rfl rfl rfl rfl rfl rfl rfl (k_mono h (fun r3 w4 h => ?_))
  refine x_aload_n 0 dX8_lambda_19 rfl rfl rfl rfl rfl ?_
  refine x_iload 4 dX8_lambda_20 rfl rfl ?_
  refine x_iconst 3 (z := 3) dX8_lambda_22 rfl (by decide) rfl ?_
  refine x_iload_n 2 dX8_lambda_23 rfl rfl rfl ?_
  refine y_Vv 55 (M := mX8_set) (As := [(0, r1), (0, 3), (0, a2)]) (st := []) dX8_lambda_24 i27 rfl q1975 q1977 qs38 q375 q1978 rfl hmX8_set rfl rfl rfl rfl rfl rfl rfl (k_mono h (fun r5 w6 h => ?_))
  refine x_aload_n 0 dX8_lambda_27 rfl rfl rfl rfl rfl ?_
  refine x_iload 4 dX8_lambda_28 rfl rfl ?_
  refine x_iconst 4 (z := 4) dX8_lambda_30 rfl (by decide) rfl ?_
  refine x_iload_n 3 dX8_lambda_31 rfl rfl rfl ?_
  refine y_Vv 55 (M := mX8_set) (As := [(0, r1), (0, 4), (0, a3)]) (st := []) dX8_lambda_32 i27 rfl q1975 q1977 qs38 q375 q1978 rfl hmX8_set rfl rfl rfl rfl rfl rfl rfl (k_mono h (fun r7 w8 h => ?_))
  refine x_iload 4 dX8_lambda_35 rfl rfl ?_
  exact y_iret dX8_lambda_37 rfl h
theorem rX8_isNegative {d n : Nat} {w : bW} {Q : Int → bW → Prop} {X : String → bW → Prop} (hn : 28 ≤ n) (a1 : Int) (h : b_K d mX8_isSmall [(0, a1)] n w (fun r1 w2 => if r1 = 0 then (b_K d mX8_cell [(2, 27), (0, a1), (0, 2)] n w2 (fun r3 w4 => if b_shr r3 16 = 0 then (Q 0 w4) else (Q 1 w4)) X) else (if 0 ≤ a1 then (Q 0 w2) else (Q 1 w2))) X) : b_K (d + 1) mX8_isNegative [(2, 27), (0, a1)] n w Q X := by
  have i27 := iz27 (Nat.le_trans (Nat.le_of_ble_eq_true rfl) hn)
  refine k_of (by decide) rfl rfl rfl (ls := [(2, 27), (0, a1)]) rfl ?_
  refine x_iload_n 1 dX8_isNegative_0 rfl rfl rfl ?_
  refine y_Si 89 (M := mX8_isSmall) (As := [(0, a1)]) (st := []) dX8_isNegative_1 q2031 q2032 q375 q2033 hmX8_isSmall rfl rfl rfl rfl rfl rfl rfl rfl (k_mono h (fun r1 w2 h => ?_))
  refine x_if_eq (t := 19) 15 dX8_isNegative_4 rfl rfl (b_ite h (fun hc h => ?_) (fun hc h => ?_))
  · refine x_aload_n 0 dX8_isNegative_19 rfl rfl rfl rfl rfl ?_
    refine x_iload_n 1 dX8_isNegative_20 rfl rfl rfl ?_
    refine x_iconst 2 (z := 2) dX8_isNegative_21 rfl (by decide) rfl ?_
    refine y_Vi 47 (M := mX8_cell) (As := [(0, a1), (0, 2)]) (st := []) dX8_isNegative_22 i27 rfl q2009 q2010 q2011 q375 q2012 rfl hmX8_cell rfl rfl rfl rfl rfl rfl rfl rfl (k_mono h (fun r3 w4 h => ?_))
    refine x_bipush 16 (z := 16) dX8_isNegative_25 rfl (by decide) rfl ?_
    refine x_ishr dX8_isNegative_27 rfl ?_
    refine x_if_eq (t := 35) 7 dX8_isNegative_28 rfl rfl (b_ite h (fun hc h => ?_) (fun hc h => ?_))
    · refine x_iconst 0 (z := 0) dX8_isNegative_35 rfl (by decide) rfl ?_
      exact y_zret dX8_isNegative_36 rfl (by decide) h
    · refine x_iconst 1 (z := 1) dX8_isNegative_31 rfl (by decide) rfl ?_
      refine x_goto 4 (q := 36) dX8_isNegative_32 rfl ?_
      exact y_zret dX8_isNegative_36 rfl (by decide) h
  · refine x_iload_n 1 dX8_isNegative_7 rfl rfl rfl ?_
    refine x_if_ge (t := 15) 7 dX8_isNegative_8 rfl rfl (b_ite h (fun hc h => ?_) (fun hc h => ?_))
    · refine x_iconst 0 (z := 0) dX8_isNegative_15 rfl (by decide) rfl ?_
      refine x_goto 20 (q := 36) dX8_isNegative_16 rfl ?_
      exact y_zret dX8_isNegative_36 rfl (by decide) h
    · refine x_iconst 1 (z := 1) dX8_isNegative_11 rfl (by decide) rfl ?_
      refine x_goto 24 (q := 36) dX8_isNegative_12 rfl ?_
      exact y_zret dX8_isNegative_36 rfl (by decide) h
theorem rX8_ofLong {d n : Nat} {w : bW} {Q : Int → bW → Prop} {X : String → bW → Prop} (hn : 143 ≤ n) (a1 : Int) (h : if a1 < (-1073741824) then (b_K d mX6_set [(2, 31), (1, a1)] n w (fun r1 w2 => b_K d mX8_ofWhole [(2, 27), (2, 31)] n w2 (fun r3 w4 => Q r3 w4) X) X) else (if 1073741823 < a1 then (b_K d mX6_set [(2, 31), (1, a1)] n w (fun r5 w6 => b_K d mX8_ofWhole [(2, 27), (2, 31)] n w6 (fun r7 w8 => Q r7 w8) X) X) else (b_K d mX8_small [(0, b_i a1)] n w (fun r9 w10 => Q r9 w10) X))) : b_K (d + 1) mX8_ofLong [(2, 27), (1, a1)] n w Q X := by
  have i27 := iz27 (Nat.le_trans (Nat.le_of_ble_eq_true rfl) hn)
  have i31 := iz31 (Nat.le_trans (Nat.le_of_ble_eq_true rfl) hn)
  refine k_of (by decide) rfl rfl rfl (ls := [(2, 27), (1, a1), (9, 0)]) rfl ?_
  refine x_lload_n 1 dX8_ofLong_0 rfl rfl rfl ?_
  refine x_ldc2 111 (x := (-1073741824)) dX8_ofLong_1 q2769 rfl (by decide) rfl ?_
  refine x_lc_lt (q := 8) (t := 22) 17 dX8_ofLong_4 dX8_ofLong_5 rfl rfl (b_ite h (fun hc h => ?_) (fun hc h => ?_))
  · refine x_aload_n 0 dX8_ofLong_22 rfl rfl rfl rfl rfl ?_
    refine y_getF 35 7 (c := 7) (z := 31) dX8_ofLong_23 i27 rfl in_X8 q812 rfl rfl rfl fn_27_7 (Nat.le_trans (Nat.le_of_ble_eq_true rfl) hn) rfl ?_
    refine x_lload_n 1 dX8_ofLong_26 rfl rfl rfl ?_
    refine y_Vv 118 (M := mX6_set) (As := [(1, a1)]) (st := []) dX8_ofLong_27 i31 rfl q2107 q1743 q1744 q373 q1745 rfl hmX6_set rfl rfl rfl rfl rfl rfl rfl (k_mono h (fun r1 w2 h => ?_))
    refine x_aload_n 0 dX8_ofLong_30 rfl rfl rfl rfl rfl ?_
    refine x_aload_n 0 dX8_ofLong_31 rfl rfl rfl rfl rfl ?_
    refine y_getF 35 7 (c := 7) (z := 31) dX8_ofLong_32 i27 rfl in_X8 q812 rfl rfl rfl fn_27_7 (Nat.le_trans (Nat.le_of_ble_eq_true rfl) hn) rfl ?_
    refine y_Vi 121 (M := mX8_ofWhole) (As := [(2, 31)]) (st := []) dX8_ofLong_35 i27 rfl q2771 q1949 q1950 q375 q1951 rfl hmX8_ofWhole rfl rfl rfl rfl rfl rfl rfl rfl (k_mono h (fun r3 w4 h => ?_))
    exact y_iret dX8_ofLong_38 rfl h
  · refine x_lload_n 1 dX8_ofLong_8 rfl rfl rfl ?_
    refine x_ldc2 113 (x := 1073741823) dX8_ofLong_9 q2770 rfl (by decide) rfl ?_
    refine x_lc_gt (q := 16) (t := 22) 9 dX8_ofLong_12 dX8_ofLong_13 rfl rfl (b_ite h (fun hc h => ?_) (fun hc h => ?_))
    · refine x_aload_n 0 dX8_ofLong_22 rfl rfl rfl rfl rfl ?_
      refine y_getF 35 7 (c := 7) (z := 31) dX8_ofLong_23 i27 rfl in_X8 q812 rfl rfl rfl fn_27_7 (Nat.le_trans (Nat.le_of_ble_eq_true rfl) hn) rfl ?_
      refine x_lload_n 1 dX8_ofLong_26 rfl rfl rfl ?_
      refine y_Vv 118 (M := mX6_set) (As := [(1, a1)]) (st := []) dX8_ofLong_27 i31 rfl q2107 q1743 q1744 q373 q1745 rfl hmX6_set rfl rfl rfl rfl rfl rfl rfl (k_mono h (fun r5 w6 h => ?_))
      refine x_aload_n 0 dX8_ofLong_30 rfl rfl rfl rfl rfl ?_
      refine x_aload_n 0 dX8_ofLong_31 rfl rfl rfl rfl rfl ?_
      refine y_getF 35 7 (c := 7) (z := 31) dX8_ofLong_32 i27 rfl in_X8 q812 rfl rfl rfl fn_27_7 (Nat.le_trans (Nat.le_of_ble_eq_true rfl) hn) rfl ?_
      refine y_Vi 121 (M := mX8_ofWhole) (As := [(2, 31)]) (st := []) dX8_ofLong_35 i27 rfl q2771 q1949 q1950 q375 q1951 rfl hmX8_ofWhole rfl rfl rfl rfl rfl rfl rfl rfl (k_mono h (fun r7 w8 h => ?_))
      exact y_iret dX8_ofLong_38 rfl h
    · refine x_lload_n 1 dX8_ofLong_16 rfl rfl rfl ?_
      refine x_l2i dX8_ofLong_17 rfl ?_
      refine y_Si 115 (M := mX8_small) (As := [(0, b_i a1)]) (st := []) dX8_ofLong_18 q1965 q1966 q375 q1967 hmX8_small rfl rfl rfl rfl rfl rfl rfl rfl (k_mono h (fun r9 w10 h => ?_))
      exact y_iret dX8_ofLong_21 rfl h
theorem rX8_contract {d n : Nat} {w : bW} {Q : Int → bW → Prop} {X : String → bW → Prop} (hn : 28 ≤ n) (a1 : Int) (a2 : Int) (h : b_K d mX8_make [(2, 27), (0, 10), (0, 40), (0, 4)] n w (fun r1 w2 => b_K d mX8_set [(2, 27), (0, r1), (0, 2), (0, a1)] n w2 (fun r3 w4 => b_K d mX8_set [(2, 27), (0, r1), (0, 3), (0, a2)] n w4 (fun r5 w6 => Q r1 w6) X) X) X) : b_K (d + 1) mX8_contract [(2, 27), (0, a1), (0, a2)] n w Q X := by
  have i27 := iz27 (Nat.le_trans (Nat.le_of_ble_eq_true rfl) hn)
  refine k_of (by decide) rfl rfl rfl (ls := [(2, 27), (0, a1), (0, a2), (9, 0)]) rfl ?_
  refine x_aload_n 0 dX8_contract_0 rfl rfl rfl rfl rfl ?_
  refine x_bipush 10 (z := 10) dX8_contract_1 rfl (by decide) rfl ?_
  refine x_bipush 40 (z := 40) dX8_contract_3 rfl (by decide) rfl ?_
  refine x_iconst 4 (z := 4) dX8_contract_5 rfl (by decide) rfl ?_
  refine y_Vi 144 (M := mX8_make) (As := [(0, 10), (0, 40), (0, 4)]) (st := []) dX8_contract_6 i27 rfl q1971 q1973 qs37 q375 q1974 rfl hmX8_make rfl rfl rfl rfl rfl rfl rfl rfl (k_mono h (fun r1 w2 h => ?_))
  refine x_istore_n 3 (ls' := [(2, 27), (0, a1), (0, a2), (0, r1)]) dX8_contract_9 rfl rfl rfl rfl ?_
  refine x_aload_n 0 dX8_contract_10 rfl rfl rfl rfl rfl ?_
  refine x_iload_n 3 dX8_contract_11 rfl rfl rfl ?_
  refine x_iconst 2 (z := 2) dX8_contract_12 rfl (by decide) rfl ?_
  refine x_iload_n 1 dX8_contract_13 rfl rfl rfl ?_
  refine y_Vv 55 (M := mX8_set) (As := [(0, r1), (0, 2), (0, a1)]) (st := []) dX8_contract_14 i27 rfl q1975 q1977 qs38 q375 q1978 rfl hmX8_set rfl rfl rfl rfl rfl rfl rfl (k_mono h (fun r3 w4 h => ?_))
  refine x_aload_n 0 dX8_contract_17 rfl rfl rfl rfl rfl ?_
  refine x_iload_n 3 dX8_contract_18 rfl rfl rfl ?_
  refine x_iconst 3 (z := 3) dX8_contract_19 rfl (by decide) rfl ?_
  refine x_iload_n 2 dX8_contract_20 rfl rfl rfl ?_
  refine y_Vv 55 (M := mX8_set) (As := [(0, r1), (0, 3), (0, a2)]) (st := []) dX8_contract_21 i27 rfl q1975 q1977 qs38 q375 q1978 rfl hmX8_set rfl rfl rfl rfl rfl rfl rfl (k_mono h (fun r5 w6 h => ?_))
  refine x_iload_n 3 dX8_contract_24 rfl rfl rfl ?_
  exact y_iret dX8_contract_25 rfl h
theorem rX8_operation {d n : Nat} {w : bW} {Q : Int → bW → Prop} {X : String → bW → Prop} (hn : 28 ≤ n) (a1 : Int) (a2 : Int) (a3 : Int) (a4 : Int) (a5 : Int) (h : b_K d mX8_make [(2, 27), (0, 11), (0, 40), (0, 8)] n w (fun r1 w2 => b_K d mX8_set [(2, 27), (0, r1), (0, 2), (0, a1)] n w2 (fun r3 w4 => b_K d mX8_set [(2, 27), (0, r1), (0, 3), (0, a2)] n w4 (fun r5 w6 => b_K d mX8_set [(2, 27), (0, r1), (0, 4), (0, 0)] n w6 (fun r7 w8 => b_K d mX8_set [(2, 27), (0, r1), (0, 5), (0, a3)] n w8 (fun r9 w10 => b_K d mX8_set [(2, 27), (0, r1), (0, 6), (0, a4)] n w10 (fun r11 w12 => b_K d mX8_set [(2, 27), (0, r1), (0, 7), (0, a5)] n w12 (fun r13 w14 => Q r1 w14) X) X) X) X) X) X) X) : b_K (d + 1) mX8_operation [(2, 27), (0, a1), (0, a2), (0, a3), (0, a4), (0, a5)] n w Q X := by
  have i27 := iz27 (Nat.le_trans (Nat.le_of_ble_eq_true rfl) hn)
  refine k_of (by decide) rfl rfl rfl (ls := [(2, 27), (0, a1), (0, a2), (0, a3), (0, a4), (0, a5), (9, 0)]) rfl ?_
  refine x_aload_n 0 dX8_operation_0 rfl rfl rfl rfl rfl ?_
  refine x_bipush 11 (z := 11) dX8_operation_1 rfl (by decide) rfl ?_
  refine x_bipush 40 (z := 40) dX8_operation_3 rfl (by decide) rfl ?_
  refine x_bipush 8 (z := 8) dX8_operation_5 rfl (by decide) rfl ?_
  refine y_Vi 144 (M := mX8_make) (As := [(0, 11), (0, 40), (0, 8)]) (st := []) dX8_operation_7 i27 rfl q1971 q1973 qs37 q375 q1974 rfl hmX8_make rfl rfl rfl rfl rfl rfl rfl rfl (k_mono h (fun r1 w2 h => ?_))
  refine x_istore 6 (ls' := [(2, 27), (0, a1), (0, a2), (0, a3), (0, a4), (0, a5), (0, r1)]) dX8_operation_10 rfl rfl rfl ?_
  refine x_aload_n 0 dX8_operation_12 rfl rfl rfl rfl rfl ?_
  refine x_iload 6 dX8_operation_13 rfl rfl ?_
  refine x_iconst 2 (z := 2) dX8_operation_15 rfl (by decide) rfl ?_
  refine x_iload_n 1 dX8_operation_16 rfl rfl rfl ?_
  refine y_Vv 55 (M := mX8_set) (As := [(0, r1), (0, 2), (0, a1)]) (st := []) dX8_operation_17 i27 rfl q1975 q1977 qs38 q375 q1978 rfl hmX8_set rfl rfl rfl rfl rfl rfl rfl (k_mono h (fun r3 w4 h => ?_))
  refine x_aload_n 0 dX8_operation_20 rfl rfl rfl rfl rfl ?_
  refine x_iload 6 dX8_operation_21 rfl rfl ?_
  refine x_iconst 3 (z := 3) dX8_operation_23 rfl (by decide) rfl ?_
  refine x_iload_n 2 dX8_operation_24 rfl rfl rfl ?_
  refine y_Vv 55 (M := mX8_set) (As := [(0, r1), (0, 3), (0, a2)]) (st := []) dX8_operation_25 i27 rfl q1975 q1977 qs38 q375 q1978 rfl hmX8_set rfl rfl rfl rfl rfl rfl rfl (k_mono h (fun r5 w6 h => ?_))
  refine x_aload_n 0 dX8_operation_28 rfl rfl rfl rfl rfl ?_
  refine x_iload 6 dX8_operation_29 rfl rfl ?_
  refine x_iconst 4 (z := 4) dX8_operation_31 rfl (by decide) rfl ?_
  refine x_iconst 0 (z := 0) dX8_operation_32 rfl (by decide) rfl ?_
  refine y_Vv 55 (M := mX8_set) (As := [(0, r1), (0, 4), (0, 0)]) (st := []) dX8_operation_33 i27 rfl q1975 q1977 qs38 q375 q1978 rfl hmX8_set rfl rfl rfl rfl rfl rfl rfl (k_mono h (fun r7 w8 h => ?_))
  refine x_aload_n 0 dX8_operation_36 rfl rfl rfl rfl rfl ?_
  refine x_iload 6 dX8_operation_37 rfl rfl ?_
  refine x_iconst 5 (z := 5) dX8_operation_39 rfl (by decide) rfl ?_
  refine x_iload_n 3 dX8_operation_40 rfl rfl rfl ?_
  refine y_Vv 55 (M := mX8_set) (As := [(0, r1), (0, 5), (0, a3)]) (st := []) dX8_operation_41 i27 rfl q1975 q1977 qs38 q375 q1978 rfl hmX8_set rfl rfl rfl rfl rfl rfl rfl (k_mono h (fun r9 w10 h => ?_))
  refine x_aload_n 0 dX8_operation_44 rfl rfl rfl rfl rfl ?_
  refine x_iload 6 dX8_operation_45 rfl rfl ?_
  refine x_bipush 6 (z := 6) dX8_operation_47 rfl (by decide) rfl ?_
  refine x_iload 4 dX8_operation_49 rfl rfl ?_
  refine y_Vv 55 (M := mX8_set) (As := [(0, r1), (0, 6), (0, a4)]) (st := []) dX8_operation_51 i27 rfl q1975 q1977 qs38 q375 q1978 rfl hmX8_set rfl rfl rfl rfl rfl rfl rfl (k_mono h (fun r11 w12 h => ?_))
  refine x_aload_n 0 dX8_operation_54 rfl rfl rfl rfl rfl ?_
  refine x_iload 6 dX8_operation_55 rfl rfl ?_
  refine x_bipush 7 (z := 7) dX8_operation_57 rfl (by decide) rfl ?_
  refine x_iload 5 dX8_operation_59 rfl rfl ?_
  refine y_Vv 55 (M := mX8_set) (As := [(0, r1), (0, 7), (0, a5)]) (st := []) dX8_operation_61 i27 rfl q1975 q1977 qs38 q375 q1978 rfl hmX8_set rfl rfl rfl rfl rfl rfl rfl (k_mono h (fun r13 w14 h => ?_))
  refine x_iload 6 dX8_operation_64 rfl rfl ?_
  exact y_iret dX8_operation_66 rfl h
theorem rX8_begin {d n : Nat} {w : bW} {Q : Int → bW → Prop} {X : String → bW → Prop} (hn : 28 ≤ n) (a1 : Int) (h : b_K d mX8_cell [(2, 27), (0, a1), (0, 4)] n w (fun r1 w2 => if r1 = 0 then (b_K d mX8_set [(2, 27), (0, a1), (0, 4), (0, 1)] n w2 (fun r3 w4 => Q 0 w4) X) else (b_K d mX8_set [(2, 27), (0, a1), (0, 4), (0, 1)] n w2 (fun r5 w6 => Q 1 w6) X)) X) : b_K (d + 1) mX8_begin [(2, 27), (0, a1)] n w Q X := by
  have i27 := iz27 (Nat.le_trans (Nat.le_of_ble_eq_true rfl) hn)
  refine k_of (by decide) rfl rfl rfl (ls := [(2, 27), (0, a1), (9, 0)]) rfl ?_
  refine x_aload_n 0 dX8_begin_0 rfl rfl rfl rfl rfl ?_
  refine x_iload_n 1 dX8_begin_1 rfl rfl rfl ?_
  refine x_iconst 4 (z := 4) dX8_begin_2 rfl (by decide) rfl ?_
  refine y_Vi 47 (M := mX8_cell) (As := [(0, a1), (0, 4)]) (st := []) dX8_begin_3 i27 rfl q2009 q2010 q2011 q375 q2012 rfl hmX8_cell rfl rfl rfl rfl rfl rfl rfl rfl (k_mono h (fun r1 w2 h => ?_))
  refine x_if_eq (t := 13) 7 dX8_begin_6 rfl rfl (b_ite h (fun hc h => ?_) (fun hc h => ?_))
  · refine x_iconst 0 (z := 0) dX8_begin_13 rfl (by decide) rfl ?_
    refine x_istore_n 2 (ls' := [(2, 27), (0, a1), (0, 0)]) dX8_begin_14 rfl rfl rfl rfl ?_
    refine x_aload_n 0 dX8_begin_15 rfl rfl rfl rfl rfl ?_
    refine x_iload_n 1 dX8_begin_16 rfl rfl rfl ?_
    refine x_iconst 4 (z := 4) dX8_begin_17 rfl (by decide) rfl ?_
    refine x_iconst 1 (z := 1) dX8_begin_18 rfl (by decide) rfl ?_
    refine y_Vv 55 (M := mX8_set) (As := [(0, a1), (0, 4), (0, 1)]) (st := []) dX8_begin_19 i27 rfl q1975 q1977 qs38 q375 q1978 rfl hmX8_set rfl rfl rfl rfl rfl rfl rfl (k_mono h (fun r3 w4 h => ?_))
    refine x_iload_n 2 dX8_begin_22 rfl rfl rfl ?_
    exact y_zret dX8_begin_23 rfl (by decide) h
  · refine x_iconst 1 (z := 1) dX8_begin_9 rfl (by decide) rfl ?_
    refine x_goto 4 (q := 14) dX8_begin_10 rfl ?_
    refine x_istore_n 2 (ls' := [(2, 27), (0, a1), (0, 1)]) dX8_begin_14 rfl rfl rfl rfl ?_
    refine x_aload_n 0 dX8_begin_15 rfl rfl rfl rfl rfl ?_
    refine x_iload_n 1 dX8_begin_16 rfl rfl rfl ?_
    refine x_iconst 4 (z := 4) dX8_begin_17 rfl (by decide) rfl ?_
    refine x_iconst 1 (z := 1) dX8_begin_18 rfl (by decide) rfl ?_
    refine y_Vv 55 (M := mX8_set) (As := [(0, a1), (0, 4), (0, 1)]) (st := []) dX8_begin_19 i27 rfl q1975 q1977 qs38 q375 q1978 rfl hmX8_set rfl rfl rfl rfl rfl rfl rfl (k_mono h (fun r5 w6 h => ?_))
    refine x_iload_n 2 dX8_begin_22 rfl rfl rfl ?_
    exact y_zret dX8_begin_23 rfl (by decide) h
abbrev LX8_toLong_26 (d n : Nat) (Q : Int → bW → Prop) (X : String → bW → Prop) (a2 : Int) (a4 : Int) (w : bW) : Prop := b_Y (d + 1) mX8_toLong n Q X 26 [(2, 27), (9, 0), (1, a2), (9, 0), (0, a4)] [] w
theorem rX8_toLong {d n : Nat} {w : bW} {Q : Int → bW → Prop} {X : String → bW → Prop} (hn : 143 ≤ n) (a1 : Int) (h : b_K d mX8_isSmall [(0, a1)] n w (fun r1 w2 => if r1 = 0 then (b_K d mX8_load [(2, 27), (0, a1), (2, 31)] n w2 (fun r3 w4 => LX8_toLong_26 d n Q X 0 3 w4) X) else (Q (b_shr a1 1) w2)) X) : b_K (d + 1) mX8_toLong [(2, 27), (0, a1)] n w Q X := by
  have i27 := iz27 (Nat.le_trans (Nat.le_of_ble_eq_true rfl) hn)
  refine k_of (by decide) rfl rfl rfl (ls := [(2, 27), (0, a1), (9, 0), (9, 0), (9, 0)]) rfl ?_
  refine x_iload_n 1 dX8_toLong_0 rfl rfl rfl ?_
  refine y_Si 89 (M := mX8_isSmall) (As := [(0, a1)]) (st := []) dX8_toLong_1 q2031 q2032 q375 q2033 hmX8_isSmall rfl rfl rfl rfl rfl rfl rfl rfl (k_mono h (fun r1 w2 h => ?_))
  refine x_if_eq (t := 12) 8 dX8_toLong_4 rfl rfl (b_ite h (fun hc h => ?_) (fun hc h => ?_))
  · refine x_aload_n 0 dX8_toLong_12 rfl rfl rfl rfl rfl ?_
    refine x_iload_n 1 dX8_toLong_13 rfl rfl rfl ?_
    refine x_aload_n 0 dX8_toLong_14 rfl rfl rfl rfl rfl ?_
    refine y_getF 35 7 (c := 7) (z := 31) dX8_toLong_15 i27 rfl in_X8 q812 rfl rfl rfl fn_27_7 (Nat.le_trans (Nat.le_of_ble_eq_true rfl) hn) rfl ?_
    refine y_Vv 155 (M := mX8_load) (As := [(0, a1), (2, 31)]) (st := []) dX8_toLong_18 i27 rfl q3014 q2104 q2105 q375 q2106 rfl hmX8_load rfl rfl rfl rfl rfl rfl rfl (k_mono h (fun r3 w4 h => ?_))
    refine x_lconst 0 (z := 0) dX8_toLong_21 rfl (by decide) rfl ?_
    refine x_lstore_n 2 (ls' := [(2, 27), (0, a1), (1, 0), (9, 0), (9, 0)]) dX8_toLong_22 rfl rfl rfl rfl ?_
    refine x_iconst 3 (z := 3) dX8_toLong_23 rfl (by decide) rfl ?_
    refine x_istore 4 (ls' := [(2, 27), (0, a1), (1, 0), (9, 0), (0, 3)]) dX8_toLong_24 rfl rfl rfl ?_
    exact x_fg (fgk (fgd (fgk (fgk (fgk (fg0)))))) h
  · refine x_iload_n 1 dX8_toLong_7 rfl rfl rfl ?_
    refine x_iconst 1 (z := 1) dX8_toLong_8 rfl (by decide) rfl ?_
    refine x_ishr dX8_toLong_9 rfl ?_
    refine x_i2l dX8_toLong_10 rfl ?_
    exact y_lret dX8_toLong_11 rfl h
theorem sX8_toLong_26 {d n : Nat} {w : bW} {Q : Int → bW → Prop} {X : String → bW → Prop} (hn : 143 ≤ n) (a2 : Int) (a4 : Int) (h : if a4 < 0 then (if w 31 2 = 0 then (Q a2 w) else (Q (b_l (-a2)) w)) else (b_K d mX6_at [(2, 31), (0, a4)] n w (fun r1 w2 => LX8_toLong_26 d n Q X (b_lor (b_lshl a2 16) r1) (b_i (a4 + (-1))) w2) X)) : LX8_toLong_26 d n Q X a2 a4 w := by
  have i27 := iz27 (Nat.le_trans (Nat.le_of_ble_eq_true rfl) hn)
  have i31 := iz31 (Nat.le_trans (Nat.le_of_ble_eq_true rfl) hn)
  refine x_iload 4 dX8_toLong_26 rfl rfl ?_
  refine x_if_lt (t := 53) 25 dX8_toLong_28 rfl rfl (b_ite h (fun hc h => ?_) (fun hc h => ?_))
  · refine x_aload_n 0 dX8_toLong_53 rfl rfl rfl rfl rfl ?_
    refine y_getF 35 7 (c := 7) (z := 31) dX8_toLong_54 i27 rfl in_X8 q812 rfl rfl rfl fn_27_7 (Nat.le_trans (Nat.le_of_ble_eq_true rfl) hn) rfl ?_
    refine y_get 138 2 (c := 5) (z := w 31 2) dX8_toLong_57 i31 rfl in_X6 q641 rfl rfl rfl rfl rfl ?_
    refine x_if_eq (t := 68) 8 dX8_toLong_60 rfl rfl (b_ite h (fun hc h => ?_) (fun hc h => ?_))
    · refine x_lload_n 2 dX8_toLong_68 rfl rfl rfl ?_
      exact y_lret dX8_toLong_69 rfl h
    · refine x_lload_n 2 dX8_toLong_63 rfl rfl rfl ?_
      refine x_lneg dX8_toLong_64 rfl ?_
      refine x_goto 4 (q := 69) dX8_toLong_65 rfl ?_
      exact y_lret dX8_toLong_69 rfl h
  · refine x_lload_n 2 dX8_toLong_31 rfl rfl rfl ?_
    refine x_bipush 16 (z := 16) dX8_toLong_32 rfl (by decide) rfl ?_
    refine x_lshl dX8_toLong_34 rfl ?_
    refine x_aload_n 0 dX8_toLong_35 rfl rfl rfl rfl rfl ?_
    refine y_getF 35 7 (c := 7) (z := 31) dX8_toLong_36 i27 rfl in_X8 q812 rfl rfl rfl fn_27_7 (Nat.le_trans (Nat.le_of_ble_eq_true rfl) hn) rfl ?_
    refine x_iload 4 dX8_toLong_39 rfl rfl ?_
    refine y_Vi 135 (M := mX6_at) (As := [(0, a4)]) (st := [(1, b_lshl a2 16)]) dX8_toLong_41 i31 rfl q1961 q1962 q1963 q373 q1964 rfl hmX6_at rfl rfl rfl rfl rfl rfl rfl rfl (k_mono h (fun r1 w2 h => ?_))
    refine x_i2l dX8_toLong_44 rfl ?_
    refine x_lor dX8_toLong_45 rfl ?_
    refine x_lstore_n 2 (ls' := [(2, 27), (9, 0), (1, b_lor (b_lshl a2 16) r1), (9, 0), (0, a4)]) dX8_toLong_46 rfl rfl rfl rfl ?_
    refine x_iinc 4 (-1) (ls' := [(2, 27), (9, 0), (1, b_lor (b_lshl a2 16) r1), (9, 0), (0, b_i (a4 + (-1)))]) dX8_toLong_47 rfl rfl rfl rfl ?_
    refine x_goto (-24) (q := 26) dX8_toLong_50 rfl ?_
    exact x_fg (fgk (fgk (fgk (fgk (fgk (fg0)))))) h
end RulesX8
