section RulesX7
set_option maxRecDepth 100000
abbrev LX7_make_42 (d n : Nat) (Q : Int → bW → Prop) (X : String → bW → Prop) (a1 : Int) (a2 : Int) (a3 : Int) (a4 : Int) (a5 : Int) (a6 : Int) (w : bW) : Prop := b_Y (d + 1) mX7_make n Q X 42 [(2, 19), (0, a1), (0, a2), (0, a3), (0, a4), (0, a5), (0, a6)] [] w
abbrev LX7_make_92 (d n : Nat) (Q : Int → bW → Prop) (X : String → bW → Prop) (a1 : Int) (a2 : Int) (a3 : Int) (a4 : Int) (a5 : Int) (a6 : Int) (w : bW) : Prop := b_Y (d + 1) mX7_make n Q X 92 [(2, 19), (0, a1), (0, a2), (0, a3), (0, a4), (0, a5), (0, a6)] [] w
theorem rX7_make {d n : Nat} {w : bW} {Q : Int → bW → Prop} {X : String → bW → Prop} (hn : 27 ≤ n) (a1 : Int) (a2 : Int) (a3 : Int) (h : b_K d mX7_partsOf [(2, 19), (0, a2)] n w (fun r1 w2 => b_K d mX7_partsOf [(2, 19), (0, a3)] n w2 (fun r3 w4 => if b_i ((b_i (1 + r1)) + r3) ≤ 200 then (b_K d mX7_bucket [(0, a1), (0, a2), (0, a3)] n w4 (fun r5 w6 => (w6 19 6 = 26) ∧ ((0 ≤ r5 ∧ r5 < 4096) ∧ (LX7_make_42 d n Q X a1 a2 a3 (b_i ((b_i (1 + r1)) + r3)) r5 (w6 26 r5) w6))) X) else (Q (-1) w4)) X) X) : b_K (d + 1) mX7_make [(2, 19), (0, a1), (0, a2), (0, a3)] n w Q X := by
  have i19 := iz19 (Nat.le_trans (Nat.le_of_ble_eq_true rfl) hn)
  have i26 := iz26 (Nat.le_trans (Nat.le_of_ble_eq_true rfl) hn)
  refine k_of (by decide) rfl rfl rfl (ls := [(2, 19), (0, a1), (0, a2), (0, a3), (9, 0), (9, 0), (9, 0)]) rfl ?_
  refine x_iconst 1 (z := 1) dX7_make_0 rfl (by decide) rfl ?_
  refine x_aload_n 0 dX7_make_1 rfl rfl rfl rfl rfl ?_
  refine x_iload_n 2 dX7_make_2 rfl rfl rfl ?_
  refine y_Vi 58 (M := mX7_partsOf) (As := [(0, a2)]) (st := [(0, 1)]) dX7_make_3 i19 rfl q731 q733 qs1 q374 q734 rfl hmX7_partsOf rfl rfl rfl rfl rfl rfl rfl rfl (k_mono h (fun r1 w2 h => ?_))
  refine x_iadd dX7_make_6 rfl ?_
  refine x_aload_n 0 dX7_make_7 rfl rfl rfl rfl rfl ?_
  refine x_iload_n 3 dX7_make_8 rfl rfl rfl ?_
  refine y_Vi 58 (M := mX7_partsOf) (As := [(0, a3)]) (st := [(0, b_i (1 + r1))]) dX7_make_9 i19 rfl q731 q733 qs1 q374 q734 rfl hmX7_partsOf rfl rfl rfl rfl rfl rfl rfl rfl (k_mono h (fun r3 w4 h => ?_))
  refine x_iadd dX7_make_12 rfl ?_
  refine x_istore 4 (ls' := [(2, 19), (0, a1), (0, a2), (0, a3), (0, b_i ((b_i (1 + r1)) + r3)), (9, 0), (9, 0)]) dX7_make_13 rfl rfl rfl ?_
  refine x_iload 4 dX7_make_15 rfl rfl ?_
  refine x_sipush 200 (z := 200) dX7_make_17 rfl (by decide) rfl ?_
  refine x_icmp_le (t := 25) 5 dX7_make_20 rfl rfl (b_ite h (fun hc h => ?_) (fun hc h => ?_))
  · refine x_iload_n 1 dX7_make_25 rfl rfl rfl ?_
    refine x_iload_n 2 dX7_make_26 rfl rfl rfl ?_
    refine x_iload_n 3 dX7_make_27 rfl rfl rfl ?_
    refine y_Si 47 (M := mX7_bucket) (As := [(0, a1), (0, a2), (0, a3)]) (st := []) dX7_make_28 q735 q736 q374 q737 hmX7_bucket rfl rfl rfl rfl rfl rfl rfl rfl (k_mono h (fun r5 w6 h => ?_))
    refine x_istore 5 (ls' := [(2, 19), (0, a1), (0, a2), (0, a3), (0, b_i ((b_i (1 + r1)) + r3)), (0, r5), (9, 0)]) dX7_make_31 rfl rfl rfl ?_
    refine x_aload_n 0 dX7_make_33 rfl rfl rfl rfl rfl ?_
    obtain ⟨e7, h⟩ := h
    refine y_get 33 6 (c := 6) (z := 26) dX7_make_34 i19 rfl in_X7 q772 rfl rfl rfl e7 rfl ?_
    refine x_iload 5 dX7_make_37 rfl rfl ?_
    obtain ⟨e8, h⟩ := h
    refine y_iald (z := w6 26 r5) dX7_make_39 ⟨4096, i26, e8⟩ rfl rfl ?_
    refine x_istore 6 (ls' := [(2, 19), (0, a1), (0, a2), (0, a3), (0, b_i ((b_i (1 + r1)) + r3)), (0, r5), (0, w6 26 r5)]) dX7_make_40 rfl rfl rfl ?_
    exact x_fg (fgk (fgk (fgk (fgk (fgk (fgk (fgk (fg0)))))))) h
  · refine x_iconst (-1) (z := (-1)) dX7_make_23 rfl (by decide) rfl ?_
    exact y_iret dX7_make_24 rfl h
theorem sX7_make_42 {d n : Nat} {w : bW} {Q : Int → bW → Prop} {X : String → bW → Prop} (hn : 27 ≤ n) (a1 : Int) (a2 : Int) (a3 : Int) (a4 : Int) (a5 : Int) (a6 : Int) (h : if a6 < 0 then (LX7_make_92 d n Q X a1 a2 a3 a4 a5 a6 w) else ((w 19 0 = 20) ∧ ((0 ≤ a6 ∧ a6 < 60000) ∧ (if w 20 a6 ≠ a1 then ((w 19 5 = 25) ∧ ((0 ≤ a6 ∧ a6 < 60000) ∧ (LX7_make_42 d n Q X a1 a2 a3 a4 a5 (w 25 a6) w))) else ((w 19 1 = 21) ∧ ((0 ≤ a6 ∧ a6 < 60000) ∧ (if w 21 a6 ≠ a2 then ((w 19 5 = 25) ∧ ((0 ≤ a6 ∧ a6 < 60000) ∧ (LX7_make_42 d n Q X a1 a2 a3 a4 a5 (w 25 a6) w))) else ((w 19 2 = 22) ∧ ((0 ≤ a6 ∧ a6 < 60000) ∧ (if w 22 a6 = a3 then (LX7_make_92 d n Q X a1 a2 a3 a4 a5 a6 w) else ((w 19 5 = 25) ∧ ((0 ≤ a6 ∧ a6 < 60000) ∧ (LX7_make_42 d n Q X a1 a2 a3 a4 a5 (w 25 a6) w))))))))))))) : LX7_make_42 d n Q X a1 a2 a3 a4 a5 a6 w := by
  have i19 := iz19 (Nat.le_trans (Nat.le_of_ble_eq_true rfl) hn)
  have i20 := iz20 (Nat.le_trans (Nat.le_of_ble_eq_true rfl) hn)
  have i21 := iz21 (Nat.le_trans (Nat.le_of_ble_eq_true rfl) hn)
  have i22 := iz22 (Nat.le_trans (Nat.le_of_ble_eq_true rfl) hn)
  have i25 := iz25 (Nat.le_trans (Nat.le_of_ble_eq_true rfl) hn)
  refine x_iload 6 dX7_make_42 rfl rfl ?_
  refine x_if_lt (t := 92) 48 dX7_make_44 rfl rfl (b_ite h (fun hc h => ?_) (fun hc h => ?_))
  · exact x_fg (fgk (fgk (fgk (fgk (fgk (fgk (fgk (fg0)))))))) h
  · refine x_aload_n 0 dX7_make_47 rfl rfl rfl rfl rfl ?_
    obtain ⟨e1, h⟩ := h
    refine y_get 10 0 (c := 6) (z := 20) dX7_make_48 i19 rfl in_X7 q751 rfl rfl rfl e1 rfl ?_
    refine x_iload 6 dX7_make_51 rfl rfl ?_
    obtain ⟨e2, h⟩ := h
    refine y_bald (z := w 20 a6) dX7_make_53 ⟨60000, i20, e2⟩ rfl rfl ?_
    refine x_iload_n 1 dX7_make_54 rfl rfl rfl ?_
    refine x_icmp_ne (t := 80) 25 dX7_make_55 rfl rfl (b_ite h (fun hc h => ?_) (fun hc h => ?_))
    · refine x_aload_n 0 dX7_make_80 rfl rfl rfl rfl rfl ?_
      obtain ⟨e3, h⟩ := h
      refine y_get 30 5 (c := 6) (z := 25) dX7_make_81 i19 rfl in_X7 q771 rfl rfl rfl e3 rfl ?_
      refine x_iload 6 dX7_make_84 rfl rfl ?_
      obtain ⟨e4, h⟩ := h
      refine y_iald (z := w 25 a6) dX7_make_86 ⟨60000, i25, e4⟩ rfl rfl ?_
      refine x_istore 6 (ls' := [(2, 19), (0, a1), (0, a2), (0, a3), (0, a4), (0, a5), (0, w 25 a6)]) dX7_make_87 rfl rfl rfl ?_
      refine x_goto (-47) (q := 42) dX7_make_89 rfl ?_
      exact x_fg (fgk (fgk (fgk (fgk (fgk (fgk (fgk (fg0)))))))) h
    · refine x_aload_n 0 dX7_make_58 rfl rfl rfl rfl rfl ?_
      obtain ⟨e5, h⟩ := h
      refine y_get 16 1 (c := 6) (z := 21) dX7_make_59 i19 rfl in_X7 q757 rfl rfl rfl e5 rfl ?_
      refine x_iload 6 dX7_make_62 rfl rfl ?_
      obtain ⟨e6, h⟩ := h
      refine y_iald (z := w 21 a6) dX7_make_64 ⟨60000, i21, e6⟩ rfl rfl ?_
      refine x_iload_n 2 dX7_make_65 rfl rfl rfl ?_
      refine x_icmp_ne (t := 80) 14 dX7_make_66 rfl rfl (b_ite h (fun hc h => ?_) (fun hc h => ?_))
      · refine x_aload_n 0 dX7_make_80 rfl rfl rfl rfl rfl ?_
        obtain ⟨e7, h⟩ := h
        refine y_get 30 5 (c := 6) (z := 25) dX7_make_81 i19 rfl in_X7 q771 rfl rfl rfl e7 rfl ?_
        refine x_iload 6 dX7_make_84 rfl rfl ?_
        obtain ⟨e8, h⟩ := h
        refine y_iald (z := w 25 a6) dX7_make_86 ⟨60000, i25, e8⟩ rfl rfl ?_
        refine x_istore 6 (ls' := [(2, 19), (0, a1), (0, a2), (0, a3), (0, a4), (0, a5), (0, w 25 a6)]) dX7_make_87 rfl rfl rfl ?_
        refine x_goto (-47) (q := 42) dX7_make_89 rfl ?_
        exact x_fg (fgk (fgk (fgk (fgk (fgk (fgk (fgk (fg0)))))))) h
      · refine x_aload_n 0 dX7_make_69 rfl rfl rfl rfl rfl ?_
        obtain ⟨e9, h⟩ := h
        refine y_get 20 2 (c := 6) (z := 22) dX7_make_70 i19 rfl in_X7 q763 rfl rfl rfl e9 rfl ?_
        refine x_iload 6 dX7_make_73 rfl rfl ?_
        obtain ⟨e10, h⟩ := h
        refine y_iald (z := w 22 a6) dX7_make_75 ⟨60000, i22, e10⟩ rfl rfl ?_
        refine x_iload_n 3 dX7_make_76 rfl rfl rfl ?_
        refine x_icmp_eq (t := 92) 15 dX7_make_77 rfl rfl (b_ite h (fun hc h => ?_) (fun hc h => ?_))
        · exact x_fg (fgk (fgk (fgk (fgk (fgk (fgk (fgk (fg0)))))))) h
        · refine x_aload_n 0 dX7_make_80 rfl rfl rfl rfl rfl ?_
          obtain ⟨e11, h⟩ := h
          refine y_get 30 5 (c := 6) (z := 25) dX7_make_81 i19 rfl in_X7 q771 rfl rfl rfl e11 rfl ?_
          refine x_iload 6 dX7_make_84 rfl rfl ?_
          obtain ⟨e12, h⟩ := h
          refine y_iald (z := w 25 a6) dX7_make_86 ⟨60000, i25, e12⟩ rfl rfl ?_
          refine x_istore 6 (ls' := [(2, 19), (0, a1), (0, a2), (0, a3), (0, a4), (0, a5), (0, w 25 a6)]) dX7_make_87 rfl rfl rfl ?_
          refine x_goto (-47) (q := 42) dX7_make_89 rfl ?_
          exact x_fg (fgk (fgk (fgk (fgk (fgk (fgk (fgk (fg0)))))))) h
theorem sX7_make_92 {d n : Nat} {w : bW} {Q : Int → bW → Prop} {X : String → bW → Prop} (hn : 27 ≤ n) (a1 : Int) (a2 : Int) (a3 : Int) (a4 : Int) (a5 : Int) (a6 : Int) (h : if 0 ≤ a6 then (Q a6 w) else ((w 19 0 = 20) ∧ ((0 ≤ w 19 7 ∧ w 19 7 < 60000) ∧ ((w 19 1 = 21) ∧ ((0 ≤ w 19 7 ∧ w 19 7 < 60000) ∧ ((w 19 2 = 22) ∧ ((0 ≤ w 19 7 ∧ w 19 7 < 60000) ∧ ((w 19 3 = 23) ∧ ((0 ≤ w 19 7 ∧ w 19 7 < 60000) ∧ ((w 19 4 = 24) ∧ (b_K d mX7_marksOf [(2, 19), (0, a1), (0, a2), (0, a3)] n (b_up (b_up (b_up (b_up (b_up w 19 7 (b_i ((w 19 7) + 1))) 20 (w 19 7) (b_b8 a1)) 21 (w 19 7) a2) 22 (w 19 7) a3) 23 (w 19 7) (b_s16 a4)) (fun r10 w11 => (0 ≤ w 19 7 ∧ w 19 7 < 60000) ∧ ((w11 19 5 = 25) ∧ ((w11 19 6 = 26) ∧ ((0 ≤ a5 ∧ a5 < 4096) ∧ ((0 ≤ w 19 7 ∧ w 19 7 < 60000) ∧ ((w11 19 6 = 26) ∧ (Q (w 19 7) (b_up (b_up (b_up w11 24 (w 19 7) (b_b8 r10)) 25 (w 19 7) (w11 26 a5)) 26 a5 (w 19 7))))))))) X))))))))))) : LX7_make_92 d n Q X a1 a2 a3 a4 a5 a6 w := by
  have i19 := iz19 (Nat.le_trans (Nat.le_of_ble_eq_true rfl) hn)
  have i20 := iz20 (Nat.le_trans (Nat.le_of_ble_eq_true rfl) hn)
  have i21 := iz21 (Nat.le_trans (Nat.le_of_ble_eq_true rfl) hn)
  have i22 := iz22 (Nat.le_trans (Nat.le_of_ble_eq_true rfl) hn)
  have i23 := iz23 (Nat.le_trans (Nat.le_of_ble_eq_true rfl) hn)
  have i24 := iz24 (Nat.le_trans (Nat.le_of_ble_eq_true rfl) hn)
  have i25 := iz25 (Nat.le_trans (Nat.le_of_ble_eq_true rfl) hn)
  have i26 := iz26 (Nat.le_trans (Nat.le_of_ble_eq_true rfl) hn)
  refine x_iload 6 dX7_make_92 rfl rfl ?_
  refine x_if_ge (t := 183) 89 dX7_make_94 rfl rfl (b_ite h (fun hc h => ?_) (fun hc h => ?_))
  · refine x_iload 6 dX7_make_183 rfl rfl ?_
    exact y_iret dX7_make_185 rfl h
  · refine x_aload_n 0 dX7_make_97 rfl rfl rfl rfl rfl ?_
    refine x_dup dX7_make_98 rfl rfl ?_
    refine y_get 43 7 (c := 6) (z := w 19 7) dX7_make_99 i19 rfl in_X7 q773 rfl rfl rfl rfl rfl ?_
    refine x_dup_x1 dX7_make_102 rfl rfl rfl ?_
    refine x_iconst 1 (z := 1) dX7_make_103 rfl (by decide) rfl ?_
    refine x_iadd dX7_make_104 rfl ?_
    refine x_put 43 7 (c := 6) dX7_make_105 i19 rfl in_X7 tyX7_ok nmX7 q773 rfl rfl rfl (Or.inl rfl) (Or.inl ⟨rfl, rfl⟩) rfl ?_
    refine x_istore 6 (ls' := [(2, 19), (0, a1), (0, a2), (0, a3), (0, a4), (0, a5), (0, w 19 7)]) dX7_make_108 rfl rfl rfl ?_
    refine x_aload_n 0 dX7_make_110 rfl rfl rfl rfl rfl ?_
    obtain ⟨e1, h⟩ := h
    refine y_get 10 0 (c := 6) (z := 20) dX7_make_111 i19 rfl in_X7 q751 rfl rfl rfl e1 rfl ?_
    refine x_iload 6 dX7_make_114 rfl rfl ?_
    refine x_iload_n 1 dX7_make_116 rfl rfl rfl ?_
    refine x_i2b dX7_make_117 rfl ?_
    obtain ⟨e2, h⟩ := h
    refine y_bast (x' := b_b8 a1) dX7_make_118 ⟨60000, i20, e2⟩ (b_b8_i _) rfl ?_
    refine x_aload_n 0 dX7_make_119 rfl rfl rfl rfl rfl ?_
    obtain ⟨e3, h⟩ := h
    refine y_get 16 1 (c := 6) (z := 21) dX7_make_120 i19 rfl in_X7 q757 rfl rfl rfl e3 rfl ?_
    refine x_iload 6 dX7_make_123 rfl rfl ?_
    refine x_iload_n 2 dX7_make_125 rfl rfl rfl ?_
    obtain ⟨e4, h⟩ := h
    refine y_iast (x' := a2) dX7_make_126 ⟨60000, i21, e4⟩ rfl rfl ?_
    refine x_aload_n 0 dX7_make_127 rfl rfl rfl rfl rfl ?_
    obtain ⟨e5, h⟩ := h
    refine y_get 20 2 (c := 6) (z := 22) dX7_make_128 i19 rfl in_X7 q763 rfl rfl rfl e5 rfl ?_
    refine x_iload 6 dX7_make_131 rfl rfl ?_
    refine x_iload_n 3 dX7_make_133 rfl rfl rfl ?_
    obtain ⟨e6, h⟩ := h
    refine y_iast (x' := a3) dX7_make_134 ⟨60000, i22, e6⟩ rfl rfl ?_
    refine x_aload_n 0 dX7_make_135 rfl rfl rfl rfl rfl ?_
    obtain ⟨e7, h⟩ := h
    refine y_get 23 3 (c := 6) (z := 23) dX7_make_136 i19 rfl in_X7 q769 rfl rfl rfl e7 rfl ?_
    refine x_iload 6 dX7_make_139 rfl rfl ?_
    refine x_iload 4 dX7_make_141 rfl rfl ?_
    refine x_i2s dX7_make_143 rfl ?_
    obtain ⟨e8, h⟩ := h
    refine y_sast (x' := b_s16 a4) dX7_make_144 ⟨60000, i23, e8⟩ (b_s16_i _) rfl ?_
    refine x_aload_n 0 dX7_make_145 rfl rfl rfl rfl rfl ?_
    obtain ⟨e9, h⟩ := h
    refine y_get 27 4 (c := 6) (z := 24) dX7_make_146 i19 rfl in_X7 q770 rfl rfl rfl e9 rfl ?_
    refine x_iload 6 dX7_make_149 rfl rfl ?_
    refine x_aload_n 0 dX7_make_151 rfl rfl rfl rfl rfl ?_
    refine x_iload_n 1 dX7_make_152 rfl rfl rfl ?_
    refine x_iload_n 2 dX7_make_153 rfl rfl rfl ?_
    refine x_iload_n 3 dX7_make_154 rfl rfl rfl ?_
    refine y_Vi 62 (M := mX7_marksOf) (As := [(0, a1), (0, a2), (0, a3)]) (st := [(0, w 19 7), (2, 24)]) dX7_make_155 i19 rfl q739 q741 qs2 q374 q742 rfl hmX7_marksOf rfl rfl rfl rfl rfl rfl rfl rfl (k_mono h (fun r10 w11 h => ?_))
    refine x_i2b dX7_make_158 rfl ?_
    obtain ⟨e12, h⟩ := h
    refine y_bast (x' := b_b8 r10) dX7_make_159 ⟨60000, i24, e12⟩ (b_b8_i _) rfl ?_
    refine x_aload_n 0 dX7_make_160 rfl rfl rfl rfl rfl ?_
    obtain ⟨e13, h⟩ := h
    refine y_get 30 5 (c := 6) (z := 25) dX7_make_161 i19 rfl in_X7 q771 rfl rfl rfl e13 rfl ?_
    refine x_iload 6 dX7_make_164 rfl rfl ?_
    refine x_aload_n 0 dX7_make_166 rfl rfl rfl rfl rfl ?_
    obtain ⟨e14, h⟩ := h
    refine y_get 33 6 (c := 6) (z := 26) dX7_make_167 i19 rfl in_X7 q772 rfl rfl rfl e14 rfl ?_
    refine x_iload 5 dX7_make_170 rfl rfl ?_
    obtain ⟨e15, h⟩ := h
    refine y_iald (z := w11 26 a5) dX7_make_172 ⟨4096, i26, e15⟩ rfl rfl ?_
    obtain ⟨e16, h⟩ := h
    refine y_iast (x' := w11 26 a5) dX7_make_173 ⟨60000, i25, e16⟩ rfl rfl ?_
    refine x_aload_n 0 dX7_make_174 rfl rfl rfl rfl rfl ?_
    obtain ⟨e17, h⟩ := h
    refine y_get 33 6 (c := 6) (z := 26) dX7_make_175 i19 rfl in_X7 q772 rfl rfl rfl e17 rfl ?_
    refine x_iload 5 dX7_make_178 rfl rfl ?_
    refine x_iload 6 dX7_make_180 rfl rfl ?_
    refine y_iast (x' := w 19 7) dX7_make_182 ⟨4096, i26, e15⟩ rfl rfl ?_
    refine x_iload 6 dX7_make_183 rfl rfl ?_
    exact y_iret dX7_make_185 rfl h
theorem rX7_partsOf {d n : Nat} {w : bW} {Q : Int → bW → Prop} {X : String → bW → Prop} (hn : 24 ≤ n) (a1 : Int) (h : if 0 ≤ a1 then ((w 19 3 = 23) ∧ ((0 ≤ a1 ∧ a1 < 60000) ∧ (Q (w 23 a1) w))) else (Q 0 w)) : b_K (d + 1) mX7_partsOf [(2, 19), (0, a1)] n w Q X := by
  have i19 := iz19 (Nat.le_trans (Nat.le_of_ble_eq_true rfl) hn)
  have i23 := iz23 (Nat.le_trans (Nat.le_of_ble_eq_true rfl) hn)
  refine k_of (by decide) rfl rfl rfl (ls := [(2, 19), (0, a1)]) rfl ?_
  refine x_iload_n 1 dX7_partsOf_0 rfl rfl rfl ?_
  refine x_if_ge (t := 8) 7 dX7_partsOf_1 rfl rfl (b_ite h (fun hc h => ?_) (fun hc h => ?_))
  · refine x_aload_n 0 dX7_partsOf_8 rfl rfl rfl rfl rfl ?_
    obtain ⟨e1, h⟩ := h
    refine y_get 23 3 (c := 6) (z := 23) dX7_partsOf_9 i19 rfl in_X7 q769 rfl rfl rfl e1 rfl ?_
    refine x_iload_n 1 dX7_partsOf_12 rfl rfl rfl ?_
    obtain ⟨e2, h⟩ := h
    refine y_sald (z := w 23 a1) dX7_partsOf_13 ⟨60000, i23, e2⟩ rfl rfl ?_
    exact y_iret dX7_partsOf_14 rfl h
  · refine x_iconst 0 (z := 0) dX7_partsOf_4 rfl (by decide) rfl ?_
    refine x_goto 9 (q := 14) dX7_partsOf_5 rfl ?_
    exact y_iret dX7_partsOf_14 rfl h
theorem rX7_bucket {d n : Nat} {w : bW} {Q : Int → bW → Prop} {X : String → bW → Prop} (a0 : Int) (a1 : Int) (a2 : Int) (h : Q (b_and (b_xor (b_i ((b_i ((b_i ((b_i (a0 * 31)) + a1)) * 40503)) + (b_i (a2 * 9973)))) (b_ush (b_i ((b_i ((b_i ((b_i (a0 * 31)) + a1)) * 40503)) + (b_i (a2 * 9973)))) 12)) 4095) w) : b_K (d + 1) mX7_bucket [(0, a0), (0, a1), (0, a2)] n w Q X := by
  refine k_of (by decide) rfl rfl rfl (ls := [(0, a0), (0, a1), (0, a2), (9, 0)]) rfl ?_
  refine x_iload_n 0 dX7_bucket_0 rfl rfl rfl ?_
  refine x_bipush 31 (z := 31) dX7_bucket_1 rfl (by decide) rfl ?_
  refine x_imul dX7_bucket_3 rfl ?_
  refine x_iload_n 1 dX7_bucket_4 rfl rfl rfl ?_
  refine x_iadd dX7_bucket_5 rfl ?_
  refine x_ldc 42 (x := 40503) dX7_bucket_6 q738 rfl (by decide) rfl ?_
  refine x_imul dX7_bucket_8 rfl ?_
  refine x_iload_n 2 dX7_bucket_9 rfl rfl rfl ?_
  refine x_sipush 9973 (z := 9973) dX7_bucket_10 rfl (by decide) rfl ?_
  refine x_imul dX7_bucket_13 rfl ?_
  refine x_iadd dX7_bucket_14 rfl ?_
  refine x_istore_n 3 (ls' := [(0, a0), (0, a1), (0, a2), (0, b_i ((b_i ((b_i ((b_i (a0 * 31)) + a1)) * 40503)) + (b_i (a2 * 9973))))]) dX7_bucket_15 rfl rfl rfl rfl ?_
  refine x_iload_n 3 dX7_bucket_16 rfl rfl rfl ?_
  refine x_iload_n 3 dX7_bucket_17 rfl rfl rfl ?_
  refine x_bipush 12 (z := 12) dX7_bucket_18 rfl (by decide) rfl ?_
  refine x_iushr dX7_bucket_20 rfl ?_
  refine x_ixor dX7_bucket_21 rfl ?_
  refine x_sipush 4095 (z := 4095) dX7_bucket_22 rfl (by decide) rfl ?_
  refine x_iand dX7_bucket_25 rfl ?_
  exact y_iret dX7_bucket_26 rfl h
abbrev LX7_marksOf_88 (d n : Nat) (Q : Int → bW → Prop) (X : String → bW → Prop) (a1 : Int) (a2 : Int) (a3 : Int) (s0 : Int) (w : bW) : Prop := b_Y (d + 1) mX7_marksOf n Q X 88 [(2, 19), (0, a1), (0, a2), (0, a3), (9, 0), (9, 0)] [(0, s0)] w
theorem rX7_marksOf {d n : Nat} {w : bW} {Q : Int → bW → Prop} {X : String → bW → Prop} (hn : 20 ≤ n) (a1 : Int) (a2 : Int) (a3 : Int) (h : if 0 ≤ a2 then (if a1 = 13 then (Q 0 w) else (if a1 ≠ 17 then (if a1 ≠ 16 then (b_K d mX7_both [(2, 19), (0, a2), (0, a3), (0, 2)] n w (fun r1 w2 => if r1 = 0 then (if a1 ≠ 18 then (LX7_marksOf_88 d n Q X a1 a2 a3 0 w2) else (b_K d mX7_both [(2, 19), (0, a2), (0, a3), (0, 4)] n w2 (fun r3 w4 => if r3 = 0 then (LX7_marksOf_88 d n Q X a1 a2 a3 0 w4) else (LX7_marksOf_88 d n Q X a1 a2 a3 4 w4)) X)) else (LX7_marksOf_88 d n Q X a1 a2 a3 6 w2)) X) else (b_K d mX7_is [(2, 19), (0, a3), (0, 2)] n w (fun r5 w6 => if r5 = 0 then (Q 0 w6) else (Q 4 w6)) X)) else (Q 0 w))) else (if a1 ≠ 9 then (Q 7 w) else (Q 0 w))) : b_K (d + 1) mX7_marksOf [(2, 19), (0, a1), (0, a2), (0, a3)] n w Q X := by
  have i19 := iz19 (Nat.le_trans (Nat.le_of_ble_eq_true rfl) hn)
  refine k_of (by decide) rfl rfl rfl (ls := [(2, 19), (0, a1), (0, a2), (0, a3), (9, 0), (9, 0)]) rfl ?_
  refine x_iload_n 2 dX7_marksOf_0 rfl rfl rfl ?_
  refine x_if_ge (t := 17) 16 dX7_marksOf_1 rfl rfl (b_ite h (fun hc h => ?_) (fun hc h => ?_))
  · refine x_iload_n 1 dX7_marksOf_17 rfl rfl rfl ?_
    refine x_bipush 13 (z := 13) dX7_marksOf_18 rfl (by decide) rfl ?_
    refine x_icmp_eq (t := 29) 9 dX7_marksOf_20 rfl rfl (b_ite h (fun hc h => ?_) (fun hc h => ?_))
    · refine x_iconst 0 (z := 0) dX7_marksOf_29 rfl (by decide) rfl ?_
      exact y_iret dX7_marksOf_30 rfl h
    · refine x_iload_n 1 dX7_marksOf_23 rfl rfl rfl ?_
      refine x_bipush 17 (z := 17) dX7_marksOf_24 rfl (by decide) rfl ?_
      refine x_icmp_ne (t := 31) 5 dX7_marksOf_26 rfl rfl (b_ite h (fun hc h => ?_) (fun hc h => ?_))
      · refine x_iload_n 1 dX7_marksOf_31 rfl rfl rfl ?_
        refine x_bipush 16 (z := 16) dX7_marksOf_32 rfl (by decide) rfl ?_
        refine x_icmp_ne (t := 52) 18 dX7_marksOf_34 rfl rfl (b_ite h (fun hc h => ?_) (fun hc h => ?_))
        · refine x_aload_n 0 dX7_marksOf_52 rfl rfl rfl rfl rfl ?_
          refine x_iload_n 2 dX7_marksOf_53 rfl rfl rfl ?_
          refine x_iload_n 3 dX7_marksOf_54 rfl rfl rfl ?_
          refine x_iconst 2 (z := 2) dX7_marksOf_55 rfl (by decide) rfl ?_
          refine y_Vi 54 (M := mX7_both) (As := [(0, a2), (0, a3), (0, 2)]) (st := []) dX7_marksOf_56 i19 rfl q747 q749 qs3 q374 q750 rfl hmX7_both rfl rfl rfl rfl rfl rfl rfl rfl (k_mono h (fun r1 w2 h => ?_))
          refine x_if_eq (t := 67) 8 dX7_marksOf_59 rfl rfl (b_ite h (fun hc h => ?_) (fun hc h => ?_))
          · refine x_iload_n 1 dX7_marksOf_67 rfl rfl rfl ?_
            refine x_bipush 18 (z := 18) dX7_marksOf_68 rfl (by decide) rfl ?_
            refine x_icmp_ne (t := 87) 17 dX7_marksOf_70 rfl rfl (b_ite h (fun hc h => ?_) (fun hc h => ?_))
            · refine x_iconst 0 (z := 0) dX7_marksOf_87 rfl (by decide) rfl ?_
              exact x_fg (fgk (fgk (fgk (fgk (fgk (fgk (fg0))))))) h
            · refine x_aload_n 0 dX7_marksOf_73 rfl rfl rfl rfl rfl ?_
              refine x_iload_n 2 dX7_marksOf_74 rfl rfl rfl ?_
              refine x_iload_n 3 dX7_marksOf_75 rfl rfl rfl ?_
              refine x_iconst 4 (z := 4) dX7_marksOf_76 rfl (by decide) rfl ?_
              refine y_Vi 54 (M := mX7_both) (As := [(0, a2), (0, a3), (0, 4)]) (st := []) dX7_marksOf_77 i19 rfl q747 q749 qs3 q374 q750 rfl hmX7_both rfl rfl rfl rfl rfl rfl rfl rfl (k_mono h (fun r3 w4 h => ?_))
              refine x_if_eq (t := 87) 7 dX7_marksOf_80 rfl rfl (b_ite h (fun hc h => ?_) (fun hc h => ?_))
              · refine x_iconst 0 (z := 0) dX7_marksOf_87 rfl (by decide) rfl ?_
                exact x_fg (fgk (fgk (fgk (fgk (fgk (fgk (fg0))))))) h
              · refine x_iconst 4 (z := 4) dX7_marksOf_83 rfl (by decide) rfl ?_
                refine x_goto 4 (q := 88) dX7_marksOf_84 rfl ?_
                exact x_fg (fgk (fgk (fgk (fgk (fgk (fgk (fg0))))))) h
          · refine x_bipush 6 (z := 6) dX7_marksOf_62 rfl (by decide) rfl ?_
            refine x_goto 24 (q := 88) dX7_marksOf_64 rfl ?_
            exact x_fg (fgk (fgk (fgk (fgk (fgk (fgk (fg0))))))) h
        · refine x_aload_n 0 dX7_marksOf_37 rfl rfl rfl rfl rfl ?_
          refine x_iload_n 3 dX7_marksOf_38 rfl rfl rfl ?_
          refine x_iconst 2 (z := 2) dX7_marksOf_39 rfl (by decide) rfl ?_
          refine y_Vi 50 (M := mX7_is) (As := [(0, a3), (0, 2)]) (st := []) dX7_marksOf_40 i19 rfl q743 q744 q745 q374 q746 rfl hmX7_is rfl rfl rfl rfl rfl rfl rfl rfl (k_mono h (fun r5 w6 h => ?_))
          refine x_if_eq (t := 50) 7 dX7_marksOf_43 rfl rfl (b_ite h (fun hc h => ?_) (fun hc h => ?_))
          · refine x_iconst 0 (z := 0) dX7_marksOf_50 rfl (by decide) rfl ?_
            exact y_iret dX7_marksOf_51 rfl h
          · refine x_iconst 4 (z := 4) dX7_marksOf_46 rfl (by decide) rfl ?_
            refine x_goto 4 (q := 51) dX7_marksOf_47 rfl ?_
            exact y_iret dX7_marksOf_51 rfl h
      · refine x_iconst 0 (z := 0) dX7_marksOf_29 rfl (by decide) rfl ?_
        exact y_iret dX7_marksOf_30 rfl h
  · refine x_iload_n 1 dX7_marksOf_4 rfl rfl rfl ?_
    refine x_bipush 9 (z := 9) dX7_marksOf_5 rfl (by decide) rfl ?_
    refine x_icmp_ne (t := 14) 7 dX7_marksOf_7 rfl rfl (b_ite h (fun hc h => ?_) (fun hc h => ?_))
    · refine x_bipush 7 (z := 7) dX7_marksOf_14 rfl (by decide) rfl ?_
      exact y_iret dX7_marksOf_16 rfl h
    · refine x_iconst 0 (z := 0) dX7_marksOf_10 rfl (by decide) rfl ?_
      refine x_goto 5 (q := 16) dX7_marksOf_11 rfl ?_
      exact y_iret dX7_marksOf_16 rfl h
theorem sX7_marksOf_88 {d n : Nat} {w : bW} {Q : Int → bW → Prop} {X : String → bW → Prop} (hn : 20 ≤ n) (a1 : Int) (a2 : Int) (a3 : Int) (s0 : Int) (h : if a1 = 10 then (b_K d mX7_both [(2, 19), (0, a2), (0, a3), (0, 1)] n w (fun r1 w2 => if r1 = 0 then (Q s0 w2) else (Q (b_or s0 1) w2)) X) else (if a1 = 14 then (b_K d mX7_both [(2, 19), (0, a2), (0, a3), (0, 1)] n w (fun r3 w4 => if r3 = 0 then (Q s0 w4) else (Q (b_or s0 1) w4)) X) else (if a1 ≠ 18 then (Q s0 w) else (b_K d mX7_both [(2, 19), (0, a2), (0, a3), (0, 1)] n w (fun r5 w6 => if r5 = 0 then (Q s0 w6) else (Q (b_or s0 1) w6)) X)))) : LX7_marksOf_88 d n Q X a1 a2 a3 s0 w := by
  have i19 := iz19 (Nat.le_trans (Nat.le_of_ble_eq_true rfl) hn)
  refine x_istore 4 (ls' := [(2, 19), (0, a1), (0, a2), (0, a3), (0, s0), (9, 0)]) dX7_marksOf_88 rfl rfl rfl ?_
  refine x_iload_n 1 dX7_marksOf_90 rfl rfl rfl ?_
  refine x_bipush 10 (z := 10) dX7_marksOf_91 rfl (by decide) rfl ?_
  refine x_icmp_eq (t := 108) 15 dX7_marksOf_93 rfl rfl (b_ite h (fun hc h => ?_) (fun hc h => ?_))
  · refine x_iconst 1 (z := 1) dX7_marksOf_108 rfl (by decide) rfl ?_
    refine x_goto 4 (q := 113) dX7_marksOf_109 rfl ?_
    refine x_istore 5 (ls' := [(2, 19), (0, a1), (0, a2), (0, a3), (0, s0), (0, 1)]) dX7_marksOf_113 rfl rfl rfl ?_
    refine x_iload 5 dX7_marksOf_115 rfl rfl ?_
    refine x_if_eq (t := 137) 20 dX7_marksOf_117 rfl rfl (b_ifF (by decide) ?_)
    refine x_aload_n 0 dX7_marksOf_120 rfl rfl rfl rfl rfl ?_
    refine x_iload_n 2 dX7_marksOf_121 rfl rfl rfl ?_
    refine x_iload_n 3 dX7_marksOf_122 rfl rfl rfl ?_
    refine x_iconst 1 (z := 1) dX7_marksOf_123 rfl (by decide) rfl ?_
    refine y_Vi 54 (M := mX7_both) (As := [(0, a2), (0, a3), (0, 1)]) (st := []) dX7_marksOf_124 i19 rfl q747 q749 qs3 q374 q750 rfl hmX7_both rfl rfl rfl rfl rfl rfl rfl rfl (k_mono h (fun r1 w2 h => ?_))
    refine x_if_eq (t := 137) 10 dX7_marksOf_127 rfl rfl (b_ite h (fun hc h => ?_) (fun hc h => ?_))
    · refine x_iload 4 dX7_marksOf_137 rfl rfl ?_
      exact y_iret dX7_marksOf_139 rfl h
    · refine x_iload 4 dX7_marksOf_130 rfl rfl ?_
      refine x_iconst 1 (z := 1) dX7_marksOf_132 rfl (by decide) rfl ?_
      refine x_ior dX7_marksOf_133 rfl ?_
      refine x_goto 5 (q := 139) dX7_marksOf_134 rfl ?_
      exact y_iret dX7_marksOf_139 rfl h
  · refine x_iload_n 1 dX7_marksOf_96 rfl rfl rfl ?_
    refine x_bipush 14 (z := 14) dX7_marksOf_97 rfl (by decide) rfl ?_
    refine x_icmp_eq (t := 108) 9 dX7_marksOf_99 rfl rfl (b_ite h (fun hc h => ?_) (fun hc h => ?_))
    · refine x_iconst 1 (z := 1) dX7_marksOf_108 rfl (by decide) rfl ?_
      refine x_goto 4 (q := 113) dX7_marksOf_109 rfl ?_
      refine x_istore 5 (ls' := [(2, 19), (0, a1), (0, a2), (0, a3), (0, s0), (0, 1)]) dX7_marksOf_113 rfl rfl rfl ?_
      refine x_iload 5 dX7_marksOf_115 rfl rfl ?_
      refine x_if_eq (t := 137) 20 dX7_marksOf_117 rfl rfl (b_ifF (by decide) ?_)
      refine x_aload_n 0 dX7_marksOf_120 rfl rfl rfl rfl rfl ?_
      refine x_iload_n 2 dX7_marksOf_121 rfl rfl rfl ?_
      refine x_iload_n 3 dX7_marksOf_122 rfl rfl rfl ?_
      refine x_iconst 1 (z := 1) dX7_marksOf_123 rfl (by decide) rfl ?_
      refine y_Vi 54 (M := mX7_both) (As := [(0, a2), (0, a3), (0, 1)]) (st := []) dX7_marksOf_124 i19 rfl q747 q749 qs3 q374 q750 rfl hmX7_both rfl rfl rfl rfl rfl rfl rfl rfl (k_mono h (fun r3 w4 h => ?_))
      refine x_if_eq (t := 137) 10 dX7_marksOf_127 rfl rfl (b_ite h (fun hc h => ?_) (fun hc h => ?_))
      · refine x_iload 4 dX7_marksOf_137 rfl rfl ?_
        exact y_iret dX7_marksOf_139 rfl h
      · refine x_iload 4 dX7_marksOf_130 rfl rfl ?_
        refine x_iconst 1 (z := 1) dX7_marksOf_132 rfl (by decide) rfl ?_
        refine x_ior dX7_marksOf_133 rfl ?_
        refine x_goto 5 (q := 139) dX7_marksOf_134 rfl ?_
        exact y_iret dX7_marksOf_139 rfl h
    · refine x_iload_n 1 dX7_marksOf_102 rfl rfl rfl ?_
      refine x_bipush 18 (z := 18) dX7_marksOf_103 rfl (by decide) rfl ?_
      refine x_icmp_ne (t := 112) 7 dX7_marksOf_105 rfl rfl (b_ite h (fun hc h => ?_) (fun hc h => ?_))
      · refine x_iconst 0 (z := 0) dX7_marksOf_112 rfl (by decide) rfl ?_
        refine x_istore 5 (ls' := [(2, 19), (0, a1), (0, a2), (0, a3), (0, s0), (0, 0)]) dX7_marksOf_113 rfl rfl rfl ?_
        refine x_iload 5 dX7_marksOf_115 rfl rfl ?_
        refine x_if_eq (t := 137) 20 dX7_marksOf_117 rfl rfl (b_ifT (by decide) ?_)
        refine x_iload 4 dX7_marksOf_137 rfl rfl ?_
        exact y_iret dX7_marksOf_139 rfl h
      · refine x_iconst 1 (z := 1) dX7_marksOf_108 rfl (by decide) rfl ?_
        refine x_goto 4 (q := 113) dX7_marksOf_109 rfl ?_
        refine x_istore 5 (ls' := [(2, 19), (0, a1), (0, a2), (0, a3), (0, s0), (0, 1)]) dX7_marksOf_113 rfl rfl rfl ?_
        refine x_iload 5 dX7_marksOf_115 rfl rfl ?_
        refine x_if_eq (t := 137) 20 dX7_marksOf_117 rfl rfl (b_ifF (by decide) ?_)
        refine x_aload_n 0 dX7_marksOf_120 rfl rfl rfl rfl rfl ?_
        refine x_iload_n 2 dX7_marksOf_121 rfl rfl rfl ?_
        refine x_iload_n 3 dX7_marksOf_122 rfl rfl rfl ?_
        refine x_iconst 1 (z := 1) dX7_marksOf_123 rfl (by decide) rfl ?_
        refine y_Vi 54 (M := mX7_both) (As := [(0, a2), (0, a3), (0, 1)]) (st := []) dX7_marksOf_124 i19 rfl q747 q749 qs3 q374 q750 rfl hmX7_both rfl rfl rfl rfl rfl rfl rfl rfl (k_mono h (fun r5 w6 h => ?_))
        refine x_if_eq (t := 137) 10 dX7_marksOf_127 rfl rfl (b_ite h (fun hc h => ?_) (fun hc h => ?_))
        · refine x_iload 4 dX7_marksOf_137 rfl rfl ?_
          exact y_iret dX7_marksOf_139 rfl h
        · refine x_iload 4 dX7_marksOf_130 rfl rfl ?_
          refine x_iconst 1 (z := 1) dX7_marksOf_132 rfl (by decide) rfl ?_
          refine x_ior dX7_marksOf_133 rfl ?_
          refine x_goto 5 (q := 139) dX7_marksOf_134 rfl ?_
          exact y_iret dX7_marksOf_139 rfl h
theorem rX7_is {d n : Nat} {w : bW} {Q : Int → bW → Prop} {X : String → bW → Prop} (hn : 25 ≤ n) (a1 : Int) (a2 : Int) (h : (w 19 4 = 24) ∧ ((0 ≤ a1 ∧ a1 < 60000) ∧ (if b_and (w 24 a1) a2 = 0 then (Q 0 w) else (Q 1 w)))) : b_K (d + 1) mX7_is [(2, 19), (0, a1), (0, a2)] n w Q X := by
  have i19 := iz19 (Nat.le_trans (Nat.le_of_ble_eq_true rfl) hn)
  have i24 := iz24 (Nat.le_trans (Nat.le_of_ble_eq_true rfl) hn)
  refine k_of (by decide) rfl rfl rfl (ls := [(2, 19), (0, a1), (0, a2)]) rfl ?_
  refine x_aload_n 0 dX7_is_0 rfl rfl rfl rfl rfl ?_
  obtain ⟨e1, h⟩ := h
  refine y_get 27 4 (c := 6) (z := 24) dX7_is_1 i19 rfl in_X7 q770 rfl rfl rfl e1 rfl ?_
  refine x_iload_n 1 dX7_is_4 rfl rfl rfl ?_
  obtain ⟨e2, h⟩ := h
  refine y_bald (z := w 24 a1) dX7_is_5 ⟨60000, i24, e2⟩ rfl rfl ?_
  refine x_iload_n 2 dX7_is_6 rfl rfl rfl ?_
  refine x_iand dX7_is_7 rfl ?_
  refine x_if_eq (t := 15) 7 dX7_is_8 rfl rfl (b_ite h (fun hc h => ?_) (fun hc h => ?_))
  · refine x_iconst 0 (z := 0) dX7_is_15 rfl (by decide) rfl ?_
    exact y_zret dX7_is_16 rfl (by decide) h
  · refine x_iconst 1 (z := 1) dX7_is_11 rfl (by decide) rfl ?_
    refine x_goto 4 (q := 16) dX7_is_12 rfl ?_
    exact y_zret dX7_is_16 rfl (by decide) h
theorem rX7_both {d n : Nat} {w : bW} {Q : Int → bW → Prop} {X : String → bW → Prop} (hn : 20 ≤ n) (a1 : Int) (a2 : Int) (a3 : Int) (h : b_K d mX7_is [(2, 19), (0, a1), (0, a3)] n w (fun r1 w2 => if r1 = 0 then (Q 0 w2) else (if a2 < 0 then (Q 1 w2) else (b_K d mX7_is [(2, 19), (0, a2), (0, a3)] n w2 (fun r3 w4 => if r3 = 0 then (Q 0 w4) else (Q 1 w4)) X))) X) : b_K (d + 1) mX7_both [(2, 19), (0, a1), (0, a2), (0, a3)] n w Q X := by
  have i19 := iz19 (Nat.le_trans (Nat.le_of_ble_eq_true rfl) hn)
  refine k_of (by decide) rfl rfl rfl (ls := [(2, 19), (0, a1), (0, a2), (0, a3)]) rfl ?_
  refine x_aload_n 0 dX7_both_0 rfl rfl rfl rfl rfl ?_
  refine x_iload_n 1 dX7_both_1 rfl rfl rfl ?_
  refine x_iload_n 3 dX7_both_2 rfl rfl rfl ?_
  refine y_Vi 50 (M := mX7_is) (As := [(0, a1), (0, a3)]) (st := []) dX7_both_3 i19 rfl q743 q744 q745 q374 q746 rfl hmX7_is rfl rfl rfl rfl rfl rfl rfl rfl (k_mono h (fun r1 w2 h => ?_))
  refine x_if_eq (t := 26) 20 dX7_both_6 rfl rfl (b_ite h (fun hc h => ?_) (fun hc h => ?_))
  · refine x_iconst 0 (z := 0) dX7_both_26 rfl (by decide) rfl ?_
    exact y_zret dX7_both_27 rfl (by decide) h
  · refine x_iload_n 2 dX7_both_9 rfl rfl rfl ?_
    refine x_if_lt (t := 22) 12 dX7_both_10 rfl rfl (b_ite h (fun hc h => ?_) (fun hc h => ?_))
    · refine x_iconst 1 (z := 1) dX7_both_22 rfl (by decide) rfl ?_
      refine x_goto 4 (q := 27) dX7_both_23 rfl ?_
      exact y_zret dX7_both_27 rfl (by decide) h
    · refine x_aload_n 0 dX7_both_13 rfl rfl rfl rfl rfl ?_
      refine x_iload_n 2 dX7_both_14 rfl rfl rfl ?_
      refine x_iload_n 3 dX7_both_15 rfl rfl rfl ?_
      refine y_Vi 50 (M := mX7_is) (As := [(0, a2), (0, a3)]) (st := []) dX7_both_16 i19 rfl q743 q744 q745 q374 q746 rfl hmX7_is rfl rfl rfl rfl rfl rfl rfl rfl (k_mono h (fun r3 w4 h => ?_))
      refine x_if_eq (t := 26) 7 dX7_both_19 rfl rfl (b_ite h (fun hc h => ?_) (fun hc h => ?_))
      · refine x_iconst 0 (z := 0) dX7_both_26 rfl (by decide) rfl ?_
        exact y_zret dX7_both_27 rfl (by decide) h
      · refine x_iconst 1 (z := 1) dX7_both_22 rfl (by decide) rfl ?_
        refine x_goto 4 (q := 27) dX7_both_23 rfl ?_
        exact y_zret dX7_both_27 rfl (by decide) h
abbrev LX7_of_58 (d n : Nat) (Q : Int → bW → Prop) (X : String → bW → Prop) (a2 : Int) (a3 : Int) (a4 : Int) (a5 : Int) (w : bW) : Prop := b_Y (d + 1) mX7_of n Q X 58 [(2, 19), (2, 6), (0, a2), (0, a3), (0, a4), (0, a5), (9, 0), (9, 0), (9, 0)] [] w
abbrev LX7_of_158 (d n : Nat) (Q : Int → bW → Prop) (X : String → bW → Prop) (a3 : Int) (a4 : Int) (a6 : Int) (a7 : Int) (s0 : Int) (w : bW) : Prop := b_Y (d + 1) mX7_of n Q X 158 [(2, 19), (9, 0), (9, 0), (0, a3), (0, a4), (9, 0), (0, a6), (0, a7), (9, 0)] [(0, s0)] w
theorem rX7_of {d n : Nat} {w : bW} {Q : Int → bW → Prop} {X : String → bW → Prop} (hn : 20 ≤ n) (a2 : Int) (h : (w 6 3 = 10) ∧ ((0 ≤ a2 ∧ a2 < 4096) ∧ (if w 10 a2 = 8 then ((w 6 4 = 11) ∧ ((0 ≤ a2 ∧ a2 < 4096) ∧ (b_K d mX7_arguments [(0, w 11 a2)] n w (fun r5 w6 => (w6 6 11 = 18) ∧ ((0 ≤ a2 ∧ a2 < 4096) ∧ (if r5 < 0 then (Q (-1) w6) else (if w6 18 a2 = r5 then (LX7_of_58 d n Q X a2 (w 11 a2) r5 (w6 18 a2) w6) else (if w 11 a2 ≠ 18 then (Q (-1) w6) else (if w6 18 a2 ≤ 2 then (Q (-1) w6) else (LX7_of_58 d n Q X a2 (w 11 a2) r5 (w6 18 a2) w6))))))) X))) else (Q (-1) w)))) : b_K (d + 1) mX7_of [(2, 19), (2, 6), (0, a2)] n w Q X := by
  have i6 := iz6 (Nat.le_trans (Nat.le_of_ble_eq_true rfl) hn)
  have i10 := iz10 (Nat.le_trans (Nat.le_of_ble_eq_true rfl) hn)
  have i11 := iz11 (Nat.le_trans (Nat.le_of_ble_eq_true rfl) hn)
  have i18 := iz18 (Nat.le_trans (Nat.le_of_ble_eq_true rfl) hn)
  refine k_of (by decide) rfl rfl rfl (ls := [(2, 19), (2, 6), (0, a2), (9, 0), (9, 0), (9, 0), (9, 0), (9, 0), (9, 0)]) rfl ?_
  refine x_aload_n 1 dX7_of_0 rfl rfl rfl rfl rfl ?_
  obtain ⟨e1, h⟩ := h
  refine y_get 65 3 (c := 3) (z := 10) dX7_of_1 i6 rfl in_X4 q655 rfl rfl rfl e1 rfl ?_
  refine x_iload_n 2 dX7_of_4 rfl rfl rfl ?_
  obtain ⟨e2, h⟩ := h
  refine y_bald (z := w 10 a2) dX7_of_5 ⟨4096, i10, e2⟩ rfl rfl ?_
  refine x_bipush 8 (z := 8) dX7_of_6 rfl (by decide) rfl ?_
  refine x_icmp_eq (t := 13) 5 dX7_of_8 rfl rfl (b_ite h (fun hc h => ?_) (fun hc h => ?_))
  · refine x_aload_n 1 dX7_of_13 rfl rfl rfl rfl rfl ?_
    obtain ⟨e3, h⟩ := h
    refine y_get 70 4 (c := 3) (z := 11) dX7_of_14 i6 rfl in_X4 q659 rfl rfl rfl e3 rfl ?_
    refine x_iload_n 2 dX7_of_17 rfl rfl rfl ?_
    obtain ⟨e4, h⟩ := h
    refine y_bald (z := w 11 a2) dX7_of_18 ⟨4096, i11, e4⟩ rfl rfl ?_
    refine x_istore_n 3 (ls' := [(2, 19), (2, 6), (0, a2), (0, w 11 a2), (9, 0), (9, 0), (9, 0), (9, 0), (9, 0)]) dX7_of_19 rfl rfl rfl rfl ?_
    refine x_iload_n 3 dX7_of_20 rfl rfl rfl ?_
    refine y_Si 73 (M := mX7_arguments) (As := [(0, w 11 a2)]) (st := []) dX7_of_21 q1853 q1854 q374 q1855 hmX7_arguments rfl rfl rfl rfl rfl rfl rfl rfl (k_mono h (fun r5 w6 h => ?_))
    refine x_istore 4 (ls' := [(2, 19), (2, 6), (0, a2), (0, w 11 a2), (0, r5), (9, 0), (9, 0), (9, 0), (9, 0)]) dX7_of_24 rfl rfl rfl ?_
    refine x_aload_n 1 dX7_of_26 rfl rfl rfl rfl rfl ?_
    obtain ⟨e7, h⟩ := h
    refine y_get 76 11 (c := 3) (z := 18) dX7_of_27 i6 rfl in_X4 q685 rfl rfl rfl e7 rfl ?_
    refine x_iload_n 2 dX7_of_30 rfl rfl rfl ?_
    obtain ⟨e8, h⟩ := h
    refine y_iald (z := w6 18 a2) dX7_of_31 ⟨4096, i18, e8⟩ rfl rfl ?_
    refine x_istore 5 (ls' := [(2, 19), (2, 6), (0, a2), (0, w 11 a2), (0, r5), (0, w6 18 a2), (9, 0), (9, 0), (9, 0)]) dX7_of_32 rfl rfl rfl ?_
    refine x_iload 4 dX7_of_34 rfl rfl ?_
    refine x_if_lt (t := 65) 29 dX7_of_36 rfl rfl (b_ite h (fun hc h => ?_) (fun hc h => ?_))
    · refine x_iconst (-1) (z := (-1)) dX7_of_65 rfl (by decide) rfl ?_
      exact y_iret dX7_of_66 rfl h
    · refine x_iload 5 dX7_of_39 rfl rfl ?_
      refine x_iload 4 dX7_of_41 rfl rfl ?_
      refine x_icmp_eq (t := 58) 15 dX7_of_43 rfl rfl (b_ite h (fun hc h => ?_) (fun hc h => ?_))
      · exact x_fg (fgk (fgk (fgk (fgk (fgk (fgk (fgk (fgk (fgk (fg0)))))))))) h
      · refine x_iload_n 3 dX7_of_46 rfl rfl rfl ?_
        refine x_bipush 18 (z := 18) dX7_of_47 rfl (by decide) rfl ?_
        refine x_icmp_ne (t := 65) 16 dX7_of_49 rfl rfl (b_ite h (fun hc h => ?_) (fun hc h => ?_))
        · refine x_iconst (-1) (z := (-1)) dX7_of_65 rfl (by decide) rfl ?_
          exact y_iret dX7_of_66 rfl h
        · refine x_iload 5 dX7_of_52 rfl rfl ?_
          refine x_iconst 2 (z := 2) dX7_of_54 rfl (by decide) rfl ?_
          refine x_icmp_le (t := 65) 10 dX7_of_55 rfl rfl (b_ite h (fun hc h => ?_) (fun hc h => ?_))
          · refine x_iconst (-1) (z := (-1)) dX7_of_65 rfl (by decide) rfl ?_
            exact y_iret dX7_of_66 rfl h
          · exact x_fg (fgk (fgk (fgk (fgk (fgk (fgk (fgk (fgk (fgk (fg0)))))))))) h
  · refine x_iconst (-1) (z := (-1)) dX7_of_11 rfl (by decide) rfl ?_
    exact y_iret dX7_of_12 rfl h
theorem sX7_of_58 {d n : Nat} {w : bW} {Q : Int → bW → Prop} {X : String → bW → Prop} (hn : 20 ≤ n) (a2 : Int) (a3 : Int) (a4 : Int) (a5 : Int) (h : if a5 ≤ 100 then (if a4 ≠ 0 then (if a3 ≠ 18 then ((w 6 9 = 16) ∧ ((0 ≤ a2 ∧ a2 < 4096) ∧ (b_K d mX7_of [(2, 19), (2, 6), (0, w 16 a2)] n w (fun r3 w4 => if 0 ≤ r3 then (if a3 = 12 then (if a4 ≠ 2 then (LX7_of_158 d n Q X a3 a4 r3 1 (-1) w4) else ((w4 6 10 = 17) ∧ ((w4 6 9 = 16) ∧ ((0 ≤ w4 16 a2 ∧ w4 16 a2 < 4096) ∧ (b_K d mX7_of [(2, 19), (2, 6), (0, w4 17 (w4 16 a2))] n w4 (fun r8 w9 => LX7_of_158 d n Q X a3 a4 r3 1 r8 w9) X))))) else (if a3 = 15 then (if a4 ≠ 2 then (LX7_of_158 d n Q X a3 a4 r3 1 (-1) w4) else ((w4 6 10 = 17) ∧ ((w4 6 9 = 16) ∧ ((0 ≤ w4 16 a2 ∧ w4 16 a2 < 4096) ∧ (b_K d mX7_of [(2, 19), (2, 6), (0, w4 17 (w4 16 a2))] n w4 (fun r13 w14 => LX7_of_158 d n Q X a3 a4 r3 1 r13 w14) X))))) else (if a3 ≠ 16 then (if a4 ≠ 2 then (LX7_of_158 d n Q X a3 a4 r3 0 (-1) w4) else ((w4 6 10 = 17) ∧ ((w4 6 9 = 16) ∧ ((0 ≤ w4 16 a2 ∧ w4 16 a2 < 4096) ∧ (b_K d mX7_of [(2, 19), (2, 6), (0, w4 17 (w4 16 a2))] n w4 (fun r18 w19 => LX7_of_158 d n Q X a3 a4 r3 0 r18 w19) X))))) else (if a4 ≠ 2 then (LX7_of_158 d n Q X a3 a4 r3 1 (-1) w4) else ((w4 6 10 = 17) ∧ ((w4 6 9 = 16) ∧ ((0 ≤ w4 16 a2 ∧ w4 16 a2 < 4096) ∧ (b_K d mX7_of [(2, 19), (2, 6), (0, w4 17 (w4 16 a2))] n w4 (fun r23 w24 => LX7_of_158 d n Q X a3 a4 r3 1 r23 w24) X)))))))) else (Q (-1) w4)) X))) else (b_K d mX7_comb [(2, 19), (2, 6), (0, a2)] n w (fun r25 w26 => Q r25 w26) X)) else (Q a3 w)) else (Q (-1) w)) : LX7_of_58 d n Q X a2 a3 a4 a5 w := by
  have i6 := iz6 (Nat.le_trans (Nat.le_of_ble_eq_true rfl) hn)
  have i16 := iz16 (Nat.le_trans (Nat.le_of_ble_eq_true rfl) hn)
  have i17 := iz17 (Nat.le_trans (Nat.le_of_ble_eq_true rfl) hn)
  have i19 := iz19 (Nat.le_trans (Nat.le_of_ble_eq_true rfl) hn)
  refine x_iload 5 dX7_of_58 rfl rfl ?_
  refine x_bipush 100 (z := 100) dX7_of_60 rfl (by decide) rfl ?_
  refine x_icmp_le (t := 67) 5 dX7_of_62 rfl rfl (b_ite h (fun hc h => ?_) (fun hc h => ?_))
  · refine x_iload 4 dX7_of_67 rfl rfl ?_
    refine x_if_ne (t := 74) 5 dX7_of_69 rfl rfl (b_ite h (fun hc h => ?_) (fun hc h => ?_))
    · refine x_iload_n 3 dX7_of_74 rfl rfl rfl ?_
      refine x_bipush 18 (z := 18) dX7_of_75 rfl (by decide) rfl ?_
      refine x_icmp_ne (t := 87) 10 dX7_of_77 rfl rfl (b_ite h (fun hc h => ?_) (fun hc h => ?_))
      · refine x_aload_n 0 dX7_of_87 rfl rfl rfl rfl rfl ?_
        refine x_aload_n 1 dX7_of_88 rfl rfl rfl rfl rfl ?_
        refine x_aload_n 1 dX7_of_89 rfl rfl rfl rfl rfl ?_
        obtain ⟨e1, h⟩ := h
        refine y_get 83 9 (c := 3) (z := 16) dX7_of_90 i6 rfl in_X4 q675 rfl rfl rfl e1 rfl ?_
        refine x_iload_n 2 dX7_of_93 rfl rfl rfl ?_
        obtain ⟨e2, h⟩ := h
        refine y_iald (z := w 16 a2) dX7_of_94 ⟨4096, i16, e2⟩ rfl rfl ?_
        refine y_Vi 86 (M := mX7_of) (As := [(2, 6), (0, w 16 a2)]) (st := []) dX7_of_95 i19 rfl q1861 q1850 q1851 q374 q1852 rfl hmX7_of rfl rfl rfl rfl rfl rfl rfl rfl (k_mono h (fun r3 w4 h => ?_))
        refine x_istore 6 (ls' := [(2, 19), (2, 6), (0, a2), (0, a3), (0, a4), (0, a5), (0, r3), (9, 0), (9, 0)]) dX7_of_98 rfl rfl rfl ?_
        refine x_iload 6 dX7_of_100 rfl rfl ?_
        refine x_if_ge (t := 107) 5 dX7_of_102 rfl rfl (b_ite h (fun hc h => ?_) (fun hc h => ?_))
        · refine x_iload_n 3 dX7_of_107 rfl rfl rfl ?_
          refine x_bipush 12 (z := 12) dX7_of_108 rfl (by decide) rfl ?_
          refine x_icmp_eq (t := 125) 15 dX7_of_110 rfl rfl (b_ite h (fun hc h => ?_) (fun hc h => ?_))
          · refine x_iconst 1 (z := 1) dX7_of_125 rfl (by decide) rfl ?_
            refine x_goto 4 (q := 130) dX7_of_126 rfl ?_
            refine x_istore 7 (ls' := [(2, 19), (2, 6), (0, a2), (0, a3), (0, a4), (0, a5), (0, r3), (0, 1), (9, 0)]) dX7_of_130 rfl rfl rfl ?_
            refine x_iload 4 dX7_of_132 rfl rfl ?_
            refine x_iconst 2 (z := 2) dX7_of_134 rfl (by decide) rfl ?_
            refine x_icmp_ne (t := 157) 22 dX7_of_135 rfl rfl (b_ite h (fun hc h => ?_) (fun hc h => ?_))
            · refine x_iconst (-1) (z := (-1)) dX7_of_157 rfl (by decide) rfl ?_
              exact x_fg (fgk (fgd (fgd (fgk (fgk (fgd (fgk (fgk (fgk (fg0)))))))))) h
            · refine x_aload_n 0 dX7_of_138 rfl rfl rfl rfl rfl ?_
              refine x_aload_n 1 dX7_of_139 rfl rfl rfl rfl rfl ?_
              refine x_aload_n 1 dX7_of_140 rfl rfl rfl rfl rfl ?_
              obtain ⟨e5, h⟩ := h
              refine y_get 89 10 (c := 3) (z := 17) dX7_of_141 i6 rfl in_X4 q679 rfl rfl rfl e5 rfl ?_
              refine x_aload_n 1 dX7_of_144 rfl rfl rfl rfl rfl ?_
              obtain ⟨e6, h⟩ := h
              refine y_get 83 9 (c := 3) (z := 16) dX7_of_145 i6 rfl in_X4 q675 rfl rfl rfl e6 rfl ?_
              refine x_iload_n 2 dX7_of_148 rfl rfl rfl ?_
              refine y_iald (z := w4 16 a2) dX7_of_149 ⟨4096, i16, e2⟩ rfl rfl ?_
              obtain ⟨e7, h⟩ := h
              refine y_iald (z := w4 17 (w4 16 a2)) dX7_of_150 ⟨4096, i17, e7⟩ rfl rfl ?_
              refine y_Vi 86 (M := mX7_of) (As := [(2, 6), (0, w4 17 (w4 16 a2))]) (st := []) dX7_of_151 i19 rfl q1861 q1850 q1851 q374 q1852 rfl hmX7_of rfl rfl rfl rfl rfl rfl rfl rfl (k_mono h (fun r8 w9 h => ?_))
              refine x_goto 4 (q := 158) dX7_of_154 rfl ?_
              exact x_fg (fgk (fgd (fgd (fgk (fgk (fgd (fgk (fgk (fgk (fg0)))))))))) h
          · refine x_iload_n 3 dX7_of_113 rfl rfl rfl ?_
            refine x_bipush 15 (z := 15) dX7_of_114 rfl (by decide) rfl ?_
            refine x_icmp_eq (t := 125) 9 dX7_of_116 rfl rfl (b_ite h (fun hc h => ?_) (fun hc h => ?_))
            · refine x_iconst 1 (z := 1) dX7_of_125 rfl (by decide) rfl ?_
              refine x_goto 4 (q := 130) dX7_of_126 rfl ?_
              refine x_istore 7 (ls' := [(2, 19), (2, 6), (0, a2), (0, a3), (0, a4), (0, a5), (0, r3), (0, 1), (9, 0)]) dX7_of_130 rfl rfl rfl ?_
              refine x_iload 4 dX7_of_132 rfl rfl ?_
              refine x_iconst 2 (z := 2) dX7_of_134 rfl (by decide) rfl ?_
              refine x_icmp_ne (t := 157) 22 dX7_of_135 rfl rfl (b_ite h (fun hc h => ?_) (fun hc h => ?_))
              · refine x_iconst (-1) (z := (-1)) dX7_of_157 rfl (by decide) rfl ?_
                exact x_fg (fgk (fgd (fgd (fgk (fgk (fgd (fgk (fgk (fgk (fg0)))))))))) h
              · refine x_aload_n 0 dX7_of_138 rfl rfl rfl rfl rfl ?_
                refine x_aload_n 1 dX7_of_139 rfl rfl rfl rfl rfl ?_
                refine x_aload_n 1 dX7_of_140 rfl rfl rfl rfl rfl ?_
                obtain ⟨e10, h⟩ := h
                refine y_get 89 10 (c := 3) (z := 17) dX7_of_141 i6 rfl in_X4 q679 rfl rfl rfl e10 rfl ?_
                refine x_aload_n 1 dX7_of_144 rfl rfl rfl rfl rfl ?_
                obtain ⟨e11, h⟩ := h
                refine y_get 83 9 (c := 3) (z := 16) dX7_of_145 i6 rfl in_X4 q675 rfl rfl rfl e11 rfl ?_
                refine x_iload_n 2 dX7_of_148 rfl rfl rfl ?_
                refine y_iald (z := w4 16 a2) dX7_of_149 ⟨4096, i16, e2⟩ rfl rfl ?_
                obtain ⟨e12, h⟩ := h
                refine y_iald (z := w4 17 (w4 16 a2)) dX7_of_150 ⟨4096, i17, e12⟩ rfl rfl ?_
                refine y_Vi 86 (M := mX7_of) (As := [(2, 6), (0, w4 17 (w4 16 a2))]) (st := []) dX7_of_151 i19 rfl q1861 q1850 q1851 q374 q1852 rfl hmX7_of rfl rfl rfl rfl rfl rfl rfl rfl (k_mono h (fun r13 w14 h => ?_))
                refine x_goto 4 (q := 158) dX7_of_154 rfl ?_
                exact x_fg (fgk (fgd (fgd (fgk (fgk (fgd (fgk (fgk (fgk (fg0)))))))))) h
            · refine x_iload_n 3 dX7_of_119 rfl rfl rfl ?_
              refine x_bipush 16 (z := 16) dX7_of_120 rfl (by decide) rfl ?_
              refine x_icmp_ne (t := 129) 7 dX7_of_122 rfl rfl (b_ite h (fun hc h => ?_) (fun hc h => ?_))
              · refine x_iconst 0 (z := 0) dX7_of_129 rfl (by decide) rfl ?_
                refine x_istore 7 (ls' := [(2, 19), (2, 6), (0, a2), (0, a3), (0, a4), (0, a5), (0, r3), (0, 0), (9, 0)]) dX7_of_130 rfl rfl rfl ?_
                refine x_iload 4 dX7_of_132 rfl rfl ?_
                refine x_iconst 2 (z := 2) dX7_of_134 rfl (by decide) rfl ?_
                refine x_icmp_ne (t := 157) 22 dX7_of_135 rfl rfl (b_ite h (fun hc h => ?_) (fun hc h => ?_))
                · refine x_iconst (-1) (z := (-1)) dX7_of_157 rfl (by decide) rfl ?_
                  exact x_fg (fgk (fgd (fgd (fgk (fgk (fgd (fgk (fgk (fgk (fg0)))))))))) h
                · refine x_aload_n 0 dX7_of_138 rfl rfl rfl rfl rfl ?_
                  refine x_aload_n 1 dX7_of_139 rfl rfl rfl rfl rfl ?_
                  refine x_aload_n 1 dX7_of_140 rfl rfl rfl rfl rfl ?_
                  obtain ⟨e15, h⟩ := h
                  refine y_get 89 10 (c := 3) (z := 17) dX7_of_141 i6 rfl in_X4 q679 rfl rfl rfl e15 rfl ?_
                  refine x_aload_n 1 dX7_of_144 rfl rfl rfl rfl rfl ?_
                  obtain ⟨e16, h⟩ := h
                  refine y_get 83 9 (c := 3) (z := 16) dX7_of_145 i6 rfl in_X4 q675 rfl rfl rfl e16 rfl ?_
                  refine x_iload_n 2 dX7_of_148 rfl rfl rfl ?_
                  refine y_iald (z := w4 16 a2) dX7_of_149 ⟨4096, i16, e2⟩ rfl rfl ?_
                  obtain ⟨e17, h⟩ := h
                  refine y_iald (z := w4 17 (w4 16 a2)) dX7_of_150 ⟨4096, i17, e17⟩ rfl rfl ?_
                  refine y_Vi 86 (M := mX7_of) (As := [(2, 6), (0, w4 17 (w4 16 a2))]) (st := []) dX7_of_151 i19 rfl q1861 q1850 q1851 q374 q1852 rfl hmX7_of rfl rfl rfl rfl rfl rfl rfl rfl (k_mono h (fun r18 w19 h => ?_))
                  refine x_goto 4 (q := 158) dX7_of_154 rfl ?_
                  exact x_fg (fgk (fgd (fgd (fgk (fgk (fgd (fgk (fgk (fgk (fg0)))))))))) h
              · refine x_iconst 1 (z := 1) dX7_of_125 rfl (by decide) rfl ?_
                refine x_goto 4 (q := 130) dX7_of_126 rfl ?_
                refine x_istore 7 (ls' := [(2, 19), (2, 6), (0, a2), (0, a3), (0, a4), (0, a5), (0, r3), (0, 1), (9, 0)]) dX7_of_130 rfl rfl rfl ?_
                refine x_iload 4 dX7_of_132 rfl rfl ?_
                refine x_iconst 2 (z := 2) dX7_of_134 rfl (by decide) rfl ?_
                refine x_icmp_ne (t := 157) 22 dX7_of_135 rfl rfl (b_ite h (fun hc h => ?_) (fun hc h => ?_))
                · refine x_iconst (-1) (z := (-1)) dX7_of_157 rfl (by decide) rfl ?_
                  exact x_fg (fgk (fgd (fgd (fgk (fgk (fgd (fgk (fgk (fgk (fg0)))))))))) h
                · refine x_aload_n 0 dX7_of_138 rfl rfl rfl rfl rfl ?_
                  refine x_aload_n 1 dX7_of_139 rfl rfl rfl rfl rfl ?_
                  refine x_aload_n 1 dX7_of_140 rfl rfl rfl rfl rfl ?_
                  obtain ⟨e20, h⟩ := h
                  refine y_get 89 10 (c := 3) (z := 17) dX7_of_141 i6 rfl in_X4 q679 rfl rfl rfl e20 rfl ?_
                  refine x_aload_n 1 dX7_of_144 rfl rfl rfl rfl rfl ?_
                  obtain ⟨e21, h⟩ := h
                  refine y_get 83 9 (c := 3) (z := 16) dX7_of_145 i6 rfl in_X4 q675 rfl rfl rfl e21 rfl ?_
                  refine x_iload_n 2 dX7_of_148 rfl rfl rfl ?_
                  refine y_iald (z := w4 16 a2) dX7_of_149 ⟨4096, i16, e2⟩ rfl rfl ?_
                  obtain ⟨e22, h⟩ := h
                  refine y_iald (z := w4 17 (w4 16 a2)) dX7_of_150 ⟨4096, i17, e22⟩ rfl rfl ?_
                  refine y_Vi 86 (M := mX7_of) (As := [(2, 6), (0, w4 17 (w4 16 a2))]) (st := []) dX7_of_151 i19 rfl q1861 q1850 q1851 q374 q1852 rfl hmX7_of rfl rfl rfl rfl rfl rfl rfl rfl (k_mono h (fun r23 w24 h => ?_))
                  refine x_goto 4 (q := 158) dX7_of_154 rfl ?_
                  exact x_fg (fgk (fgd (fgd (fgk (fgk (fgd (fgk (fgk (fgk (fg0)))))))))) h
        · refine x_iconst (-1) (z := (-1)) dX7_of_105 rfl (by decide) rfl ?_
          exact y_iret dX7_of_106 rfl h
      · refine x_aload_n 0 dX7_of_80 rfl rfl rfl rfl rfl ?_
        refine x_aload_n 1 dX7_of_81 rfl rfl rfl rfl rfl ?_
        refine x_iload_n 2 dX7_of_82 rfl rfl rfl ?_
        refine y_Vi 79 (M := mX7_comb) (As := [(2, 6), (0, a2)]) (st := []) dX7_of_83 i19 rfl q1856 q1858 qs25 q374 q1859 rfl hmX7_comb rfl rfl rfl rfl rfl rfl rfl rfl (k_mono h (fun r25 w26 h => ?_))
        exact y_iret dX7_of_86 rfl h
    · refine x_iload_n 3 dX7_of_72 rfl rfl rfl ?_
      exact y_iret dX7_of_73 rfl h
  · refine x_iconst (-1) (z := (-1)) dX7_of_65 rfl (by decide) rfl ?_
    exact y_iret dX7_of_66 rfl h
theorem sX7_of_158 {d n : Nat} {w : bW} {Q : Int → bW → Prop} {X : String → bW → Prop} (hn : 20 ≤ n) (a3 : Int) (a4 : Int) (a6 : Int) (a7 : Int) (s0 : Int) (h : if a4 ≠ 2 then (if a7 = 0 then (b_K d mX7_make [(2, 19), (0, a3), (0, a6), (0, s0)] n w (fun r1 w2 => Q r1 w2) X) else (b_K d mX7_is [(2, 19), (0, a6), (0, 1)] n w (fun r3 w4 => if r3 ≠ 0 then (b_K d mX7_make [(2, 19), (0, a3), (0, a6), (0, s0)] n w4 (fun r5 w6 => Q r5 w6) X) else (Q (-1) w4)) X)) else (if s0 < 0 then (Q (-1) w) else (if a7 = 0 then (b_K d mX7_make [(2, 19), (0, a3), (0, a6), (0, s0)] n w (fun r7 w8 => Q r7 w8) X) else (b_K d mX7_is [(2, 19), (0, a6), (0, 1)] n w (fun r9 w10 => if r9 ≠ 0 then (b_K d mX7_make [(2, 19), (0, a3), (0, a6), (0, s0)] n w10 (fun r11 w12 => Q r11 w12) X) else (Q (-1) w10)) X)))) : LX7_of_158 d n Q X a3 a4 a6 a7 s0 w := by
  have i19 := iz19 (Nat.le_trans (Nat.le_of_ble_eq_true rfl) hn)
  refine x_istore 8 (ls' := [(2, 19), (9, 0), (9, 0), (0, a3), (0, a4), (9, 0), (0, a6), (0, a7), (0, s0)]) dX7_of_158 rfl rfl rfl ?_
  refine x_iload 4 dX7_of_160 rfl rfl ?_
  refine x_iconst 2 (z := 2) dX7_of_162 rfl (by decide) rfl ?_
  refine x_icmp_ne (t := 171) 8 dX7_of_163 rfl rfl (b_ite h (fun hc h => ?_) (fun hc h => ?_))
  · refine x_iload 7 dX7_of_171 rfl rfl ?_
    refine x_if_eq (t := 190) 17 dX7_of_173 rfl rfl (b_ite h (fun hc h => ?_) (fun hc h => ?_))
    · refine x_aload_n 0 dX7_of_190 rfl rfl rfl rfl rfl ?_
      refine x_iload_n 3 dX7_of_191 rfl rfl rfl ?_
      refine x_iload 6 dX7_of_192 rfl rfl ?_
      refine x_iload 8 dX7_of_194 rfl rfl ?_
      refine y_Vi 38 (M := mX7_make) (As := [(0, a3), (0, a6), (0, s0)]) (st := []) dX7_of_196 i19 rfl q727 q728 q729 q374 q730 rfl hmX7_make rfl rfl rfl rfl rfl rfl rfl rfl (k_mono h (fun r1 w2 h => ?_))
      exact y_iret dX7_of_199 rfl h
    · refine x_aload_n 0 dX7_of_176 rfl rfl rfl rfl rfl ?_
      refine x_iload 6 dX7_of_177 rfl rfl ?_
      refine x_iconst 1 (z := 1) dX7_of_179 rfl (by decide) rfl ?_
      refine y_Vi 50 (M := mX7_is) (As := [(0, a6), (0, 1)]) (st := []) dX7_of_180 i19 rfl q743 q744 q745 q374 q746 rfl hmX7_is rfl rfl rfl rfl rfl rfl rfl rfl (k_mono h (fun r3 w4 h => ?_))
      refine x_if_ne (t := 190) 7 dX7_of_183 rfl rfl (b_ite h (fun hc h => ?_) (fun hc h => ?_))
      · refine x_aload_n 0 dX7_of_190 rfl rfl rfl rfl rfl ?_
        refine x_iload_n 3 dX7_of_191 rfl rfl rfl ?_
        refine x_iload 6 dX7_of_192 rfl rfl ?_
        refine x_iload 8 dX7_of_194 rfl rfl ?_
        refine y_Vi 38 (M := mX7_make) (As := [(0, a3), (0, a6), (0, s0)]) (st := []) dX7_of_196 i19 rfl q727 q728 q729 q374 q730 rfl hmX7_make rfl rfl rfl rfl rfl rfl rfl rfl (k_mono h (fun r5 w6 h => ?_))
        exact y_iret dX7_of_199 rfl h
      · refine x_iconst (-1) (z := (-1)) dX7_of_186 rfl (by decide) rfl ?_
        refine x_goto 12 (q := 199) dX7_of_187 rfl ?_
        exact y_iret dX7_of_199 rfl h
  · refine x_iload 8 dX7_of_166 rfl rfl ?_
    refine x_if_lt (t := 186) 18 dX7_of_168 rfl rfl (b_ite h (fun hc h => ?_) (fun hc h => ?_))
    · refine x_iconst (-1) (z := (-1)) dX7_of_186 rfl (by decide) rfl ?_
      refine x_goto 12 (q := 199) dX7_of_187 rfl ?_
      exact y_iret dX7_of_199 rfl h
    · refine x_iload 7 dX7_of_171 rfl rfl ?_
      refine x_if_eq (t := 190) 17 dX7_of_173 rfl rfl (b_ite h (fun hc h => ?_) (fun hc h => ?_))
      · refine x_aload_n 0 dX7_of_190 rfl rfl rfl rfl rfl ?_
        refine x_iload_n 3 dX7_of_191 rfl rfl rfl ?_
        refine x_iload 6 dX7_of_192 rfl rfl ?_
        refine x_iload 8 dX7_of_194 rfl rfl ?_
        refine y_Vi 38 (M := mX7_make) (As := [(0, a3), (0, a6), (0, s0)]) (st := []) dX7_of_196 i19 rfl q727 q728 q729 q374 q730 rfl hmX7_make rfl rfl rfl rfl rfl rfl rfl rfl (k_mono h (fun r7 w8 h => ?_))
        exact y_iret dX7_of_199 rfl h
      · refine x_aload_n 0 dX7_of_176 rfl rfl rfl rfl rfl ?_
        refine x_iload 6 dX7_of_177 rfl rfl ?_
        refine x_iconst 1 (z := 1) dX7_of_179 rfl (by decide) rfl ?_
        refine y_Vi 50 (M := mX7_is) (As := [(0, a6), (0, 1)]) (st := []) dX7_of_180 i19 rfl q743 q744 q745 q374 q746 rfl hmX7_is rfl rfl rfl rfl rfl rfl rfl rfl (k_mono h (fun r9 w10 h => ?_))
        refine x_if_ne (t := 190) 7 dX7_of_183 rfl rfl (b_ite h (fun hc h => ?_) (fun hc h => ?_))
        · refine x_aload_n 0 dX7_of_190 rfl rfl rfl rfl rfl ?_
          refine x_iload_n 3 dX7_of_191 rfl rfl rfl ?_
          refine x_iload 6 dX7_of_192 rfl rfl ?_
          refine x_iload 8 dX7_of_194 rfl rfl ?_
          refine y_Vi 38 (M := mX7_make) (As := [(0, a3), (0, a6), (0, s0)]) (st := []) dX7_of_196 i19 rfl q727 q728 q729 q374 q730 rfl hmX7_make rfl rfl rfl rfl rfl rfl rfl rfl (k_mono h (fun r11 w12 h => ?_))
          exact y_iret dX7_of_199 rfl h
        · refine x_iconst (-1) (z := (-1)) dX7_of_186 rfl (by decide) rfl ?_
          refine x_goto 12 (q := 199) dX7_of_187 rfl ?_
          exact y_iret dX7_of_199 rfl h
theorem rX7_arguments {d n : Nat} {w : bW} {Q : Int → bW → Prop} {X : String → bW → Prop} (a0 : Int) (h : if a0 < 0 then (Q (-1) w) else (if a0 ≤ 18 then (if 9 < a0 then (if 13 < a0 then (Q 2 w) else (Q 1 w)) else (Q 0 w)) else (Q (-1) w))) : b_K (d + 1) mX7_arguments [(0, a0)] n w Q X := by
  refine k_of (by decide) rfl rfl rfl (ls := [(0, a0)]) rfl ?_
  refine x_iload_n 0 dX7_arguments_0 rfl rfl rfl ?_
  refine x_if_lt (t := 10) 9 dX7_arguments_1 rfl rfl (b_ite h (fun hc h => ?_) (fun hc h => ?_))
  · refine x_iconst (-1) (z := (-1)) dX7_arguments_10 rfl (by decide) rfl ?_
    refine x_goto 24 (q := 35) dX7_arguments_11 rfl ?_
    exact y_iret dX7_arguments_35 rfl h
  · refine x_iload_n 0 dX7_arguments_4 rfl rfl rfl ?_
    refine x_bipush 18 (z := 18) dX7_arguments_5 rfl (by decide) rfl ?_
    refine x_icmp_le (t := 14) 7 dX7_arguments_7 rfl rfl (b_ite h (fun hc h => ?_) (fun hc h => ?_))
    · refine x_iload_n 0 dX7_arguments_14 rfl rfl rfl ?_
      refine x_bipush 9 (z := 9) dX7_arguments_15 rfl (by decide) rfl ?_
      refine x_icmp_gt (t := 24) 7 dX7_arguments_17 rfl rfl (b_ite h (fun hc h => ?_) (fun hc h => ?_))
      · refine x_iload_n 0 dX7_arguments_24 rfl rfl rfl ?_
        refine x_bipush 13 (z := 13) dX7_arguments_25 rfl (by decide) rfl ?_
        refine x_icmp_gt (t := 34) 7 dX7_arguments_27 rfl rfl (b_ite h (fun hc h => ?_) (fun hc h => ?_))
        · refine x_iconst 2 (z := 2) dX7_arguments_34 rfl (by decide) rfl ?_
          exact y_iret dX7_arguments_35 rfl h
        · refine x_iconst 1 (z := 1) dX7_arguments_30 rfl (by decide) rfl ?_
          refine x_goto 4 (q := 35) dX7_arguments_31 rfl ?_
          exact y_iret dX7_arguments_35 rfl h
      · refine x_iconst 0 (z := 0) dX7_arguments_20 rfl (by decide) rfl ?_
        refine x_goto 14 (q := 35) dX7_arguments_21 rfl ?_
        exact y_iret dX7_arguments_35 rfl h
    · refine x_iconst (-1) (z := (-1)) dX7_arguments_10 rfl (by decide) rfl ?_
      refine x_goto 24 (q := 35) dX7_arguments_11 rfl ?_
      exact y_iret dX7_arguments_35 rfl h
abbrev LX7_comb_29 (d n : Nat) (Q : Int → bW → Prop) (X : String → bW → Prop) (a2 : Int) (a3 : Int) (a4 : Int) (w : bW) : Prop := b_Y (d + 1) mX7_comb n Q X 29 [(2, 19), (2, 6), (0, a2), (0, a3), (0, a4), (9, 0)] [] w
theorem rX7_comb {d n : Nat} {w : bW} {Q : Int → bW → Prop} {X : String → bW → Prop} (hn : 20 ≤ n) (a2 : Int) (h : (w 6 11 = 18) ∧ ((0 ≤ a2 ∧ a2 < 4096) ∧ (b_K d mX4_child [(2, 6), (0, a2), (0, b_i ((w 18 a2) - 1))] n w (fun r3 w4 => b_K d mX7_of [(2, 19), (2, 6), (0, r3)] n w4 (fun r5 w6 => (w6 6 11 = 18) ∧ (LX7_comb_29 d n Q X a2 r5 (b_i ((w6 18 a2) - 2)) w6)) X) X))) : b_K (d + 1) mX7_comb [(2, 19), (2, 6), (0, a2)] n w Q X := by
  have i6 := iz6 (Nat.le_trans (Nat.le_of_ble_eq_true rfl) hn)
  have i18 := iz18 (Nat.le_trans (Nat.le_of_ble_eq_true rfl) hn)
  have i19 := iz19 (Nat.le_trans (Nat.le_of_ble_eq_true rfl) hn)
  refine k_of (by decide) rfl rfl rfl (ls := [(2, 19), (2, 6), (0, a2), (9, 0), (9, 0), (9, 0)]) rfl ?_
  refine x_aload_n 0 dX7_comb_0 rfl rfl rfl rfl rfl ?_
  refine x_aload_n 1 dX7_comb_1 rfl rfl rfl rfl rfl ?_
  refine x_aload_n 1 dX7_comb_2 rfl rfl rfl rfl rfl ?_
  refine x_iload_n 2 dX7_comb_3 rfl rfl rfl ?_
  refine x_aload_n 1 dX7_comb_4 rfl rfl rfl rfl rfl ?_
  obtain ⟨e1, h⟩ := h
  refine y_get 76 11 (c := 3) (z := 18) dX7_comb_5 i6 rfl in_X4 q685 rfl rfl rfl e1 rfl ?_
  refine x_iload_n 2 dX7_comb_8 rfl rfl rfl ?_
  obtain ⟨e2, h⟩ := h
  refine y_iald (z := w 18 a2) dX7_comb_9 ⟨4096, i18, e2⟩ rfl rfl ?_
  refine x_iconst 1 (z := 1) dX7_comb_10 rfl (by decide) rfl ?_
  refine x_isub dX7_comb_11 rfl ?_
  refine y_Vi 92 (M := mX4_child) (As := [(0, a2), (0, b_i ((w 18 a2) - 1))]) (st := [(2, 6), (2, 19)]) dX7_comb_12 i6 rfl q1860 q1830 q1831 q371 q1832 rfl hmX4_child rfl rfl rfl rfl rfl rfl rfl rfl (k_mono h (fun r3 w4 h => ?_))
  refine y_Vi 86 (M := mX7_of) (As := [(2, 6), (0, r3)]) (st := []) dX7_comb_15 i19 rfl q1861 q1850 q1851 q374 q1852 rfl hmX7_of rfl rfl rfl rfl rfl rfl rfl rfl (k_mono h (fun r5 w6 h => ?_))
  refine x_istore_n 3 (ls' := [(2, 19), (2, 6), (0, a2), (0, r5), (9, 0), (9, 0)]) dX7_comb_18 rfl rfl rfl rfl ?_
  refine x_aload_n 1 dX7_comb_19 rfl rfl rfl rfl rfl ?_
  obtain ⟨e7, h⟩ := h
  refine y_get 76 11 (c := 3) (z := 18) dX7_comb_20 i6 rfl in_X4 q685 rfl rfl rfl e7 rfl ?_
  refine x_iload_n 2 dX7_comb_23 rfl rfl rfl ?_
  refine y_iald (z := w6 18 a2) dX7_comb_24 ⟨4096, i18, e2⟩ rfl rfl ?_
  refine x_iconst 2 (z := 2) dX7_comb_25 rfl (by decide) rfl ?_
  refine x_isub dX7_comb_26 rfl ?_
  refine x_istore 4 (ls' := [(2, 19), (2, 6), (0, a2), (0, r5), (0, b_i ((w6 18 a2) - 2)), (9, 0)]) dX7_comb_27 rfl rfl rfl ?_
  exact x_fg (fgk (fgk (fgk (fgk (fgk (fgk (fg0))))))) h
theorem sX7_comb_29 {d n : Nat} {w : bW} {Q : Int → bW → Prop} {X : String → bW → Prop} (hn : 20 ≤ n) (a2 : Int) (a3 : Int) (a4 : Int) (h : if a4 < 0 then (Q a3 w) else (if a3 < 0 then (Q a3 w) else (b_K d mX4_child [(2, 6), (0, a2), (0, a4)] n w (fun r1 w2 => b_K d mX7_of [(2, 19), (2, 6), (0, r1)] n w2 (fun r3 w4 => if 0 ≤ r3 then (b_K d mX7_pair [(2, 19), (0, r3), (0, a3)] n w4 (fun r5 w6 => LX7_comb_29 d n Q X a2 r5 (b_i (a4 + (-1))) w6) X) else (LX7_comb_29 d n Q X a2 (-1) (b_i (a4 + (-1))) w4)) X) X))) : LX7_comb_29 d n Q X a2 a3 a4 w := by
  have i6 := iz6 (Nat.le_trans (Nat.le_of_ble_eq_true rfl) hn)
  have i19 := iz19 (Nat.le_trans (Nat.le_of_ble_eq_true rfl) hn)
  refine x_iload 4 dX7_comb_29 rfl rfl ?_
  refine x_if_lt (t := 75) 44 dX7_comb_31 rfl rfl (b_ite h (fun hc h => ?_) (fun hc h => ?_))
  · refine x_iload_n 3 dX7_comb_75 rfl rfl rfl ?_
    exact y_iret dX7_comb_76 rfl h
  · refine x_iload_n 3 dX7_comb_34 rfl rfl rfl ?_
    refine x_if_lt (t := 75) 40 dX7_comb_35 rfl rfl (b_ite h (fun hc h => ?_) (fun hc h => ?_))
    · refine x_iload_n 3 dX7_comb_75 rfl rfl rfl ?_
      exact y_iret dX7_comb_76 rfl h
    · refine x_aload_n 0 dX7_comb_38 rfl rfl rfl rfl rfl ?_
      refine x_aload_n 1 dX7_comb_39 rfl rfl rfl rfl rfl ?_
      refine x_aload_n 1 dX7_comb_40 rfl rfl rfl rfl rfl ?_
      refine x_iload_n 2 dX7_comb_41 rfl rfl rfl ?_
      refine x_iload 4 dX7_comb_42 rfl rfl ?_
      refine y_Vi 92 (M := mX4_child) (As := [(0, a2), (0, a4)]) (st := [(2, 6), (2, 19)]) dX7_comb_44 i6 rfl q1860 q1830 q1831 q371 q1832 rfl hmX4_child rfl rfl rfl rfl rfl rfl rfl rfl (k_mono h (fun r1 w2 h => ?_))
      refine y_Vi 86 (M := mX7_of) (As := [(2, 6), (0, r1)]) (st := []) dX7_comb_47 i19 rfl q1861 q1850 q1851 q374 q1852 rfl hmX7_of rfl rfl rfl rfl rfl rfl rfl rfl (k_mono h (fun r3 w4 h => ?_))
      refine x_istore 5 (ls' := [(2, 19), (2, 6), (0, a2), (0, a3), (0, a4), (0, r3)]) dX7_comb_50 rfl rfl rfl ?_
      refine x_iload 5 dX7_comb_52 rfl rfl ?_
      refine x_if_ge (t := 61) 7 dX7_comb_54 rfl rfl (b_ite h (fun hc h => ?_) (fun hc h => ?_))
      · refine x_aload_n 0 dX7_comb_61 rfl rfl rfl rfl rfl ?_
        refine x_iload 5 dX7_comb_62 rfl rfl ?_
        refine x_iload_n 3 dX7_comb_64 rfl rfl rfl ?_
        refine y_Vi 96 (M := mX7_pair) (As := [(0, r3), (0, a3)]) (st := []) dX7_comb_65 i19 rfl q1862 q1863 q1864 q374 q1865 rfl hmX7_pair rfl rfl rfl rfl rfl rfl rfl rfl (k_mono h (fun r5 w6 h => ?_))
        refine x_istore_n 3 (ls' := [(2, 19), (2, 6), (0, a2), (0, r5), (0, a4), (0, r3)]) dX7_comb_68 rfl rfl rfl rfl ?_
        refine x_iinc 4 (-1) (ls' := [(2, 19), (2, 6), (0, a2), (0, r5), (0, b_i (a4 + (-1))), (0, r3)]) dX7_comb_69 rfl rfl rfl rfl ?_
        refine x_goto (-43) (q := 29) dX7_comb_72 rfl ?_
        exact x_fg (fgk (fgk (fgk (fgk (fgk (fgd (fg0))))))) h
      · refine x_iconst (-1) (z := (-1)) dX7_comb_57 rfl (by decide) rfl ?_
        refine x_goto 10 (q := 68) dX7_comb_58 rfl ?_
        refine x_istore_n 3 (ls' := [(2, 19), (2, 6), (0, a2), (0, (-1)), (0, a4), (0, r3)]) dX7_comb_68 rfl rfl rfl rfl ?_
        refine x_iinc 4 (-1) (ls' := [(2, 19), (2, 6), (0, a2), (0, (-1)), (0, b_i (a4 + (-1))), (0, r3)]) dX7_comb_69 rfl rfl rfl rfl ?_
        refine x_goto (-43) (q := 29) dX7_comb_72 rfl ?_
        exact x_fg (fgk (fgk (fgk (fgk (fgk (fgd (fg0))))))) h
theorem rX7_pair {d n : Nat} {w : bW} {Q : Int → bW → Prop} {X : String → bW → Prop} (hn : 20 ≤ n) (a1 : Int) (a2 : Int) (h : b_K d mX7_make [(2, 19), (0, 18), (0, a1), (0, a2)] n w (fun r1 w2 => Q r1 w2) X) : b_K (d + 1) mX7_pair [(2, 19), (0, a1), (0, a2)] n w Q X := by
  have i19 := iz19 (Nat.le_trans (Nat.le_of_ble_eq_true rfl) hn)
  refine k_of (by decide) rfl rfl rfl (ls := [(2, 19), (0, a1), (0, a2)]) rfl ?_
  refine x_aload_n 0 dX7_pair_0 rfl rfl rfl rfl rfl ?_
  refine x_bipush 18 (z := 18) dX7_pair_1 rfl (by decide) rfl ?_
  refine x_iload_n 1 dX7_pair_3 rfl rfl rfl ?_
  refine x_iload_n 2 dX7_pair_4 rfl rfl rfl ?_
  refine y_Vi 38 (M := mX7_make) (As := [(0, 18), (0, a1), (0, a2)]) (st := []) dX7_pair_5 i19 rfl q727 q728 q729 q374 q730 rfl hmX7_make rfl rfl rfl rfl rfl rfl rfl rfl (k_mono h (fun r1 w2 h => ?_))
  exact y_iret dX7_pair_8 rfl h
theorem rX7_option {d n : Nat} {w : bW} {Q : Int → bW → Prop} {X : String → bW → Prop} (hn : 20 ≤ n) (a1 : Int) (h : b_K d mX7_make [(2, 19), (0, 10), (0, a1), (0, (-1))] n w (fun r1 w2 => Q r1 w2) X) : b_K (d + 1) mX7_option [(2, 19), (0, a1)] n w Q X := by
  have i19 := iz19 (Nat.le_trans (Nat.le_of_ble_eq_true rfl) hn)
  refine k_of (by decide) rfl rfl rfl (ls := [(2, 19), (0, a1)]) rfl ?_
  refine x_aload_n 0 dX7_option_0 rfl rfl rfl rfl rfl ?_
  refine x_bipush 10 (z := 10) dX7_option_1 rfl (by decide) rfl ?_
  refine x_iload_n 1 dX7_option_3 rfl rfl rfl ?_
  refine x_iconst (-1) (z := (-1)) dX7_option_4 rfl (by decide) rfl ?_
  refine y_Vi 38 (M := mX7_make) (As := [(0, 10), (0, a1), (0, (-1))]) (st := []) dX7_option_5 i19 rfl q727 q728 q729 q374 q730 rfl hmX7_make rfl rfl rfl rfl rfl rfl rfl rfl (k_mono h (fun r1 w2 h => ?_))
  exact y_iret dX7_option_8 rfl h
abbrev LX7_drop_0 (d n : Nat) (Q : Int → bW → Prop) (X : String → bW → Prop) (a1 : Int) (w : bW) : Prop := b_Y (d + 1) mX7_drop n Q X 0 [(2, 19), (0, a1)] [] w
theorem rX7_drop {d n : Nat} {w : bW} {Q : Int → bW → Prop} {X : String → bW → Prop} (hn : 27 ≤ n) (a1 : Int) (h : LX7_drop_0 d n Q X a1 w) : b_K (d + 1) mX7_drop [(2, 19), (0, a1)] n w Q X := by
  refine k_of (by decide) rfl rfl rfl (ls := [(2, 19), (0, a1)]) rfl ?_
  exact x_fg (fgk (fgk (fg0))) h
theorem sX7_drop_0 {d n : Nat} {w : bW} {Q : Int → bW → Prop} {X : String → bW → Prop} (hn : 27 ≤ n) (a1 : Int) (h : if w 19 7 ≤ a1 then (Q 0 w) else ((w 19 6 = 26) ∧ ((w 19 0 = 20) ∧ ((0 ≤ b_i ((w 19 7) - 1) ∧ b_i ((w 19 7) - 1) < 60000) ∧ ((w 19 1 = 21) ∧ ((0 ≤ b_i ((w 19 7) - 1) ∧ b_i ((w 19 7) - 1) < 60000) ∧ ((w 19 2 = 22) ∧ ((0 ≤ b_i ((w 19 7) - 1) ∧ b_i ((w 19 7) - 1) < 60000) ∧ (b_K d mX7_bucket [(0, w 20 (b_i ((w 19 7) - 1))), (0, w 21 (b_i ((w 19 7) - 1))), (0, w 22 (b_i ((w 19 7) - 1)))] n (b_up w 19 7 (b_i ((w 19 7) - 1))) (fun r8 w9 => (w9 19 5 = 25) ∧ ((0 ≤ w9 19 7 ∧ w9 19 7 < 60000) ∧ ((0 ≤ r8 ∧ r8 < 4096) ∧ (LX7_drop_0 d n Q X a1 (b_up w9 26 r8 (w9 25 (w9 19 7))))))) X))))))))) : LX7_drop_0 d n Q X a1 w := by
  have i19 := iz19 (Nat.le_trans (Nat.le_of_ble_eq_true rfl) hn)
  have i20 := iz20 (Nat.le_trans (Nat.le_of_ble_eq_true rfl) hn)
  have i21 := iz21 (Nat.le_trans (Nat.le_of_ble_eq_true rfl) hn)
  have i22 := iz22 (Nat.le_trans (Nat.le_of_ble_eq_true rfl) hn)
  have i25 := iz25 (Nat.le_trans (Nat.le_of_ble_eq_true rfl) hn)
  have i26 := iz26 (Nat.le_trans (Nat.le_of_ble_eq_true rfl) hn)
  refine x_aload_n 0 dX7_drop_0 rfl rfl rfl rfl rfl ?_
  refine y_get 43 7 (c := 6) (z := w 19 7) dX7_drop_1 i19 rfl in_X7 q773 rfl rfl rfl rfl rfl ?_
  refine x_iload_n 1 dX7_drop_4 rfl rfl rfl ?_
  refine x_icmp_le (t := 65) 60 dX7_drop_5 rfl rfl (b_ite h (fun hc h => ?_) (fun hc h => ?_))
  · exact y_vret dX7_drop_65 rfl h
  · refine x_aload_n 0 dX7_drop_8 rfl rfl rfl rfl rfl ?_
    refine x_dup dX7_drop_9 rfl rfl ?_
    refine y_get 43 7 (c := 6) (z := w 19 7) dX7_drop_10 i19 rfl in_X7 q773 rfl rfl rfl rfl rfl ?_
    refine x_iconst 1 (z := 1) dX7_drop_13 rfl (by decide) rfl ?_
    refine x_isub dX7_drop_14 rfl ?_
    refine x_put 43 7 (c := 6) dX7_drop_15 i19 rfl in_X7 tyX7_ok nmX7 q773 rfl rfl rfl (Or.inl rfl) (Or.inl ⟨rfl, rfl⟩) rfl ?_
    refine x_aload_n 0 dX7_drop_18 rfl rfl rfl rfl rfl ?_
    obtain ⟨e1, h⟩ := h
    refine y_get 33 6 (c := 6) (z := 26) dX7_drop_19 i19 rfl in_X7 q772 rfl rfl rfl e1 rfl ?_
    refine x_aload_n 0 dX7_drop_22 rfl rfl rfl rfl rfl ?_
    obtain ⟨e2, h⟩ := h
    refine y_get 10 0 (c := 6) (z := 20) dX7_drop_23 i19 rfl in_X7 q751 rfl rfl rfl e2 rfl ?_
    refine x_aload_n 0 dX7_drop_26 rfl rfl rfl rfl rfl ?_
    refine y_get 43 7 (c := 6) (z := b_i ((w 19 7) - 1)) dX7_drop_27 i19 rfl in_X7 q773 rfl rfl rfl rfl rfl ?_
    obtain ⟨e3, h⟩ := h
    refine y_bald (z := w 20 (b_i ((w 19 7) - 1))) dX7_drop_30 ⟨60000, i20, e3⟩ rfl rfl ?_
    refine x_aload_n 0 dX7_drop_31 rfl rfl rfl rfl rfl ?_
    obtain ⟨e4, h⟩ := h
    refine y_get 16 1 (c := 6) (z := 21) dX7_drop_32 i19 rfl in_X7 q757 rfl rfl rfl e4 rfl ?_
    refine x_aload_n 0 dX7_drop_35 rfl rfl rfl rfl rfl ?_
    refine y_get 43 7 (c := 6) (z := b_i ((w 19 7) - 1)) dX7_drop_36 i19 rfl in_X7 q773 rfl rfl rfl rfl rfl ?_
    obtain ⟨e5, h⟩ := h
    refine y_iald (z := w 21 (b_i ((w 19 7) - 1))) dX7_drop_39 ⟨60000, i21, e5⟩ rfl rfl ?_
    refine x_aload_n 0 dX7_drop_40 rfl rfl rfl rfl rfl ?_
    obtain ⟨e6, h⟩ := h
    refine y_get 20 2 (c := 6) (z := 22) dX7_drop_41 i19 rfl in_X7 q763 rfl rfl rfl e6 rfl ?_
    refine x_aload_n 0 dX7_drop_44 rfl rfl rfl rfl rfl ?_
    refine y_get 43 7 (c := 6) (z := b_i ((w 19 7) - 1)) dX7_drop_45 i19 rfl in_X7 q773 rfl rfl rfl rfl rfl ?_
    obtain ⟨e7, h⟩ := h
    refine y_iald (z := w 22 (b_i ((w 19 7) - 1))) dX7_drop_48 ⟨60000, i22, e7⟩ rfl rfl ?_
    refine y_Si 47 (M := mX7_bucket) (As := [(0, w 20 (b_i ((w 19 7) - 1))), (0, w 21 (b_i ((w 19 7) - 1))), (0, w 22 (b_i ((w 19 7) - 1)))]) (st := [(2, 26)]) dX7_drop_49 q735 q736 q374 q737 hmX7_bucket rfl rfl rfl rfl rfl rfl rfl rfl (k_mono h (fun r8 w9 h => ?_))
    refine x_aload_n 0 dX7_drop_52 rfl rfl rfl rfl rfl ?_
    obtain ⟨e10, h⟩ := h
    refine y_get 30 5 (c := 6) (z := 25) dX7_drop_53 i19 rfl in_X7 q771 rfl rfl rfl e10 rfl ?_
    refine x_aload_n 0 dX7_drop_56 rfl rfl rfl rfl rfl ?_
    refine y_get 43 7 (c := 6) (z := w9 19 7) dX7_drop_57 i19 rfl in_X7 q773 rfl rfl rfl rfl rfl ?_
    obtain ⟨e11, h⟩ := h
    refine y_iald (z := w9 25 (w9 19 7)) dX7_drop_60 ⟨60000, i25, e11⟩ rfl rfl ?_
    obtain ⟨e12, h⟩ := h
    refine y_iast (x' := w9 25 (w9 19 7)) dX7_drop_61 ⟨4096, i26, e12⟩ rfl rfl ?_
    refine x_goto (-62) (q := 0) dX7_drop_62 rfl ?_
    exact x_fg (fgk (fgk (fg0))) h
end RulesX7
