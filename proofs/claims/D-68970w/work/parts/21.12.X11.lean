section RulesX11
set_option maxRecDepth 100000
abbrev LX11_read_23 (d n : Nat) (Q : Int → bW → Prop) (X : String → bW → Prop) (a1 : Int) (a2 : Int) (a3 : Int) (s0 : Int) (w : bW) : Prop := b_Y (d + 1) mX11_read n Q X 23 [(2, 39), (2, a1), (0, a2), (0, a3), (9, 0), (9, 0), (9, 0)] [(0, s0)] w
abbrev LX11_read_62 (d n : Nat) (Q : Int → bW → Prop) (X : String → bW → Prop) (a1 : Int) (a2 : Int) (a3 : Int) (a4 : Int) (a5 : Int) (a6 : Int) (w : bW) : Prop := b_Y (d + 1) mX11_read n Q X 62 [(2, 39), (2, a1), (0, a2), (0, a3), (0, a4), (0, a5), (0, a6)] [] w
abbrev LX11_read_125 (d n : Nat) (Q : Int → bW → Prop) (X : String → bW → Prop) (a1 : Int) (a2 : Int) (a3 : Int) (a4 : Int) (a5 : Int) (a6 : Int) (w : bW) : Prop := b_Y (d + 1) mX11_read n Q X 125 [(2, 39), (2, a1), (0, a2), (0, a3), (0, a4), (0, a5), (0, a6)] [] w
theorem rX11_read {d n : Nat} {w : bW} {Q : Int → bW → Prop} {X : String → bW → Prop} (hn : 40 ≤ n) (a1 : Int) (a2 : Int) (a3 : Int) (h : if a3 ≤ 1 then (LX11_read_23 d n Q X a1 a2 a3 0 (b_up w 39 0 0)) else (b_ai n a1 1 1 a2 ∧ (if (b_up w 39 0 0) a1 a2 ≠ 67 then (LX11_read_23 d n Q X a1 a2 a3 0 (b_up w 39 0 0)) else (LX11_read_23 d n Q X a1 a2 a3 1 (b_up w 39 0 0))))) : b_K (d + 1) mX11_read [(2, 39), (2, a1), (0, a2), (0, a3)] n w Q X := by
  have i39 := iz39 (Nat.le_trans (Nat.le_of_ble_eq_true rfl) hn)
  refine k_of (by decide) rfl rfl rfl (ls := [(2, 39), (2, a1), (0, a2), (0, a3), (9, 0), (9, 0), (9, 0)]) rfl ?_
  refine x_aload_n 0 dX11_read_0 rfl rfl rfl rfl rfl ?_
  refine x_iconst 0 (z := 0) dX11_read_1 rfl (by decide) rfl ?_
  refine x_put 15 0 (c := 10) dX11_read_2 i39 rfl in_X11 tyX11_ok nmX11 q870 rfl rfl rfl (Or.inl rfl) (Or.inl ⟨rfl, rfl⟩) rfl ?_
  refine x_iload_n 3 dX11_read_5 rfl rfl rfl ?_
  refine x_iconst 1 (z := 1) dX11_read_6 rfl (by decide) rfl ?_
  refine x_icmp_le (t := 22) 15 dX11_read_7 rfl rfl (b_ite h (fun hc h => ?_) (fun hc h => ?_))
  · refine x_iconst 0 (z := 0) dX11_read_22 rfl (by decide) rfl ?_
    exact x_fg (fgk (fgk (fgk (fgk (fgk (fgk (fgk (fg0)))))))) h
  · refine x_aload_n 1 dX11_read_10 rfl rfl rfl rfl rfl ?_
    refine x_iload_n 2 dX11_read_11 rfl rfl rfl ?_
    obtain ⟨e1, h⟩ := h
    refine y_bald (z := (b_up w 39 0 0) a1 a2) dX11_read_12 e1 rfl rfl ?_
    refine x_bipush 67 (z := 67) dX11_read_13 rfl (by decide) rfl ?_
    refine x_icmp_ne (t := 22) 7 dX11_read_15 rfl rfl (b_ite h (fun hc h => ?_) (fun hc h => ?_))
    · refine x_iconst 0 (z := 0) dX11_read_22 rfl (by decide) rfl ?_
      exact x_fg (fgk (fgk (fgk (fgk (fgk (fgk (fgk (fg0)))))))) h
    · refine x_iconst 1 (z := 1) dX11_read_18 rfl (by decide) rfl ?_
      refine x_goto 4 (q := 23) dX11_read_19 rfl ?_
      exact x_fg (fgk (fgk (fgk (fgk (fgk (fgk (fgk (fg0)))))))) h
theorem sX11_read_23 {d n : Nat} {w : bW} {Q : Int → bW → Prop} {X : String → bW → Prop} (hn : 40 ≤ n) (a1 : Int) (a2 : Int) (a3 : Int) (s0 : Int) (h : if a3 < 2 then (Q (-1) w) else (if s0 ≠ 0 then (b_ai n a1 1 1 (b_i (a2 + 1)) ∧ (b_K d mX30_isDigit [(0, w a1 (b_i (a2 + 1)))] n w (fun r2 w3 => if r2 ≠ 0 then (LX11_read_62 d n Q X a1 a2 a3 s0 1 0 w3) else (Q (-1) w3)) X)) else (b_ai n a1 1 1 a2 ∧ (if w a1 a2 ≠ 65 then (Q (-1) w) else (b_ai n a1 1 1 (b_i (a2 + 1)) ∧ (b_K d mX30_isDigit [(0, w a1 (b_i (a2 + 1)))] n w (fun r6 w7 => if r6 ≠ 0 then (LX11_read_62 d n Q X a1 a2 a3 s0 1 0 w7) else (Q (-1) w7)) X)))))) : LX11_read_23 d n Q X a1 a2 a3 s0 w := by
  refine x_istore 4 (ls' := [(2, 39), (2, a1), (0, a2), (0, a3), (0, s0), (9, 0), (9, 0)]) dX11_read_23 rfl rfl rfl ?_
  refine x_iload_n 3 dX11_read_25 rfl rfl rfl ?_
  refine x_iconst 2 (z := 2) dX11_read_26 rfl (by decide) rfl ?_
  refine x_icmp_lt (t := 54) 27 dX11_read_27 rfl rfl (b_ite h (fun hc h => ?_) (fun hc h => ?_))
  · refine x_iconst (-1) (z := (-1)) dX11_read_54 rfl (by decide) rfl ?_
    exact y_iret dX11_read_55 rfl h
  · refine x_iload 4 dX11_read_30 rfl rfl ?_
    refine x_if_ne (t := 43) 11 dX11_read_32 rfl rfl (b_ite h (fun hc h => ?_) (fun hc h => ?_))
    · refine x_aload_n 1 dX11_read_43 rfl rfl rfl rfl rfl ?_
      refine x_iload_n 2 dX11_read_44 rfl rfl rfl ?_
      refine x_iconst 1 (z := 1) dX11_read_45 rfl (by decide) rfl ?_
      refine x_iadd dX11_read_46 rfl ?_
      obtain ⟨e1, h⟩ := h
      refine y_bald (z := w a1 (b_i (a2 + 1))) dX11_read_47 e1 rfl rfl ?_
      refine y_Si 19 (M := mX30_isDigit) (As := [(0, w a1 (b_i (a2 + 1)))]) (st := []) dX11_read_48 q1992 q1706 q398 q1707 hmX30_isDigit rfl rfl rfl rfl rfl rfl rfl rfl (k_mono h (fun r2 w3 h => ?_))
      refine x_if_ne (t := 56) 5 dX11_read_51 rfl rfl (b_ite h (fun hc h => ?_) (fun hc h => ?_))
      · refine x_iconst 1 (z := 1) dX11_read_56 rfl (by decide) rfl ?_
        refine x_istore 5 (ls' := [(2, 39), (2, a1), (0, a2), (0, a3), (0, s0), (0, 1), (9, 0)]) dX11_read_57 rfl rfl rfl ?_
        refine x_iconst 0 (z := 0) dX11_read_59 rfl (by decide) rfl ?_
        refine x_istore 6 (ls' := [(2, 39), (2, a1), (0, a2), (0, a3), (0, s0), (0, 1), (0, 0)]) dX11_read_60 rfl rfl rfl ?_
        exact x_fg (fgk (fgk (fgk (fgk (fgk (fgk (fgk (fg0)))))))) h
      · refine x_iconst (-1) (z := (-1)) dX11_read_54 rfl (by decide) rfl ?_
        exact y_iret dX11_read_55 rfl h
    · refine x_aload_n 1 dX11_read_35 rfl rfl rfl rfl rfl ?_
      refine x_iload_n 2 dX11_read_36 rfl rfl rfl ?_
      obtain ⟨e4, h⟩ := h
      refine y_bald (z := w a1 a2) dX11_read_37 e4 rfl rfl ?_
      refine x_bipush 65 (z := 65) dX11_read_38 rfl (by decide) rfl ?_
      refine x_icmp_ne (t := 54) 14 dX11_read_40 rfl rfl (b_ite h (fun hc h => ?_) (fun hc h => ?_))
      · refine x_iconst (-1) (z := (-1)) dX11_read_54 rfl (by decide) rfl ?_
        exact y_iret dX11_read_55 rfl h
      · refine x_aload_n 1 dX11_read_43 rfl rfl rfl rfl rfl ?_
        refine x_iload_n 2 dX11_read_44 rfl rfl rfl ?_
        refine x_iconst 1 (z := 1) dX11_read_45 rfl (by decide) rfl ?_
        refine x_iadd dX11_read_46 rfl ?_
        obtain ⟨e5, h⟩ := h
        refine y_bald (z := w a1 (b_i (a2 + 1))) dX11_read_47 e5 rfl rfl ?_
        refine y_Si 19 (M := mX30_isDigit) (As := [(0, w a1 (b_i (a2 + 1)))]) (st := []) dX11_read_48 q1992 q1706 q398 q1707 hmX30_isDigit rfl rfl rfl rfl rfl rfl rfl rfl (k_mono h (fun r6 w7 h => ?_))
        refine x_if_ne (t := 56) 5 dX11_read_51 rfl rfl (b_ite h (fun hc h => ?_) (fun hc h => ?_))
        · refine x_iconst 1 (z := 1) dX11_read_56 rfl (by decide) rfl ?_
          refine x_istore 5 (ls' := [(2, 39), (2, a1), (0, a2), (0, a3), (0, s0), (0, 1), (9, 0)]) dX11_read_57 rfl rfl rfl ?_
          refine x_iconst 0 (z := 0) dX11_read_59 rfl (by decide) rfl ?_
          refine x_istore 6 (ls' := [(2, 39), (2, a1), (0, a2), (0, a3), (0, s0), (0, 1), (0, 0)]) dX11_read_60 rfl rfl rfl ?_
          exact x_fg (fgk (fgk (fgk (fgk (fgk (fgk (fgk (fg0)))))))) h
        · refine x_iconst (-1) (z := (-1)) dX11_read_54 rfl (by decide) rfl ?_
          exact y_iret dX11_read_55 rfl h
theorem sX11_read_62 {d n : Nat} {w : bW} {Q : Int → bW → Prop} {X : String → bW → Prop} (hn : 40 ≤ n) (a1 : Int) (a2 : Int) (a3 : Int) (a4 : Int) (a5 : Int) (a6 : Int) (h : if a3 ≤ a5 then (if a5 ≠ 3 then (LX11_read_125 d n Q X a1 a2 a3 a4 a5 a6 w) else (b_ai n a1 1 1 (b_i (a2 + 1)) ∧ (if w a1 (b_i (a2 + 1)) = 48 then (Q (-1) w) else (LX11_read_125 d n Q X a1 a2 a3 a4 a5 a6 w)))) else (if 3 ≤ a5 then (if a5 ≠ 3 then (LX11_read_125 d n Q X a1 a2 a3 a4 a5 a6 w) else (b_ai n a1 1 1 (b_i (a2 + 1)) ∧ (if w a1 (b_i (a2 + 1)) = 48 then (Q (-1) w) else (LX11_read_125 d n Q X a1 a2 a3 a4 a5 a6 w)))) else (b_ai n a1 1 1 (b_i (a2 + a5)) ∧ (b_K d mX30_isDigit [(0, w a1 (b_i (a2 + a5)))] n w (fun r4 w5 => if r4 = 0 then (if a5 ≠ 3 then (LX11_read_125 d n Q X a1 a2 a3 a4 a5 a6 w5) else (b_ai n a1 1 1 (b_i (a2 + 1)) ∧ (if w5 a1 (b_i (a2 + 1)) = 48 then (Q (-1) w5) else (LX11_read_125 d n Q X a1 a2 a3 a4 a5 a6 w5)))) else (LX11_read_62 d n Q X a1 a2 a3 a4 (b_i (a5 + 1)) (b_i ((b_i ((b_i (10 * a6)) + (w5 a1 (b_i (a2 + a5))))) - 48)) w5)) X)))) : LX11_read_62 d n Q X a1 a2 a3 a4 a5 a6 w := by
  refine x_iload 5 dX11_read_62 rfl rfl ?_
  refine x_iload_n 3 dX11_read_64 rfl rfl rfl ?_
  refine x_icmp_ge (t := 109) 44 dX11_read_65 rfl rfl (b_ite h (fun hc h => ?_) (fun hc h => ?_))
  · refine x_iload 5 dX11_read_109 rfl rfl ?_
    refine x_iconst 3 (z := 3) dX11_read_111 rfl (by decide) rfl ?_
    refine x_icmp_ne (t := 125) 13 dX11_read_112 rfl rfl (b_ite h (fun hc h => ?_) (fun hc h => ?_))
    · exact x_fg (fgk (fgk (fgk (fgk (fgk (fgk (fgk (fg0)))))))) h
    · refine x_aload_n 1 dX11_read_115 rfl rfl rfl rfl rfl ?_
      refine x_iload_n 2 dX11_read_116 rfl rfl rfl ?_
      refine x_iconst 1 (z := 1) dX11_read_117 rfl (by decide) rfl ?_
      refine x_iadd dX11_read_118 rfl ?_
      obtain ⟨e1, h⟩ := h
      refine y_bald (z := w a1 (b_i (a2 + 1))) dX11_read_119 e1 rfl rfl ?_
      refine x_bipush 48 (z := 48) dX11_read_120 rfl (by decide) rfl ?_
      refine x_icmp_eq (t := 151) 29 dX11_read_122 rfl rfl (b_ite h (fun hc h => ?_) (fun hc h => ?_))
      · refine x_iconst (-1) (z := (-1)) dX11_read_151 rfl (by decide) rfl ?_
        exact y_iret dX11_read_152 rfl h
      · exact x_fg (fgk (fgk (fgk (fgk (fgk (fgk (fgk (fg0)))))))) h
  · refine x_iload 5 dX11_read_68 rfl rfl ?_
    refine x_iconst 3 (z := 3) dX11_read_70 rfl (by decide) rfl ?_
    refine x_icmp_ge (t := 109) 38 dX11_read_71 rfl rfl (b_ite h (fun hc h => ?_) (fun hc h => ?_))
    · refine x_iload 5 dX11_read_109 rfl rfl ?_
      refine x_iconst 3 (z := 3) dX11_read_111 rfl (by decide) rfl ?_
      refine x_icmp_ne (t := 125) 13 dX11_read_112 rfl rfl (b_ite h (fun hc h => ?_) (fun hc h => ?_))
      · exact x_fg (fgk (fgk (fgk (fgk (fgk (fgk (fgk (fg0)))))))) h
      · refine x_aload_n 1 dX11_read_115 rfl rfl rfl rfl rfl ?_
        refine x_iload_n 2 dX11_read_116 rfl rfl rfl ?_
        refine x_iconst 1 (z := 1) dX11_read_117 rfl (by decide) rfl ?_
        refine x_iadd dX11_read_118 rfl ?_
        obtain ⟨e2, h⟩ := h
        refine y_bald (z := w a1 (b_i (a2 + 1))) dX11_read_119 e2 rfl rfl ?_
        refine x_bipush 48 (z := 48) dX11_read_120 rfl (by decide) rfl ?_
        refine x_icmp_eq (t := 151) 29 dX11_read_122 rfl rfl (b_ite h (fun hc h => ?_) (fun hc h => ?_))
        · refine x_iconst (-1) (z := (-1)) dX11_read_151 rfl (by decide) rfl ?_
          exact y_iret dX11_read_152 rfl h
        · exact x_fg (fgk (fgk (fgk (fgk (fgk (fgk (fgk (fg0)))))))) h
    · refine x_aload_n 1 dX11_read_74 rfl rfl rfl rfl rfl ?_
      refine x_iload_n 2 dX11_read_75 rfl rfl rfl ?_
      refine x_iload 5 dX11_read_76 rfl rfl ?_
      refine x_iadd dX11_read_78 rfl ?_
      obtain ⟨e3, h⟩ := h
      refine y_bald (z := w a1 (b_i (a2 + a5))) dX11_read_79 e3 rfl rfl ?_
      refine y_Si 19 (M := mX30_isDigit) (As := [(0, w a1 (b_i (a2 + a5)))]) (st := []) dX11_read_80 q1992 q1706 q398 q1707 hmX30_isDigit rfl rfl rfl rfl rfl rfl rfl rfl (k_mono h (fun r4 w5 h => ?_))
      refine x_if_eq (t := 109) 26 dX11_read_83 rfl rfl (b_ite h (fun hc h => ?_) (fun hc h => ?_))
      · refine x_iload 5 dX11_read_109 rfl rfl ?_
        refine x_iconst 3 (z := 3) dX11_read_111 rfl (by decide) rfl ?_
        refine x_icmp_ne (t := 125) 13 dX11_read_112 rfl rfl (b_ite h (fun hc h => ?_) (fun hc h => ?_))
        · exact x_fg (fgk (fgk (fgk (fgk (fgk (fgk (fgk (fg0)))))))) h
        · refine x_aload_n 1 dX11_read_115 rfl rfl rfl rfl rfl ?_
          refine x_iload_n 2 dX11_read_116 rfl rfl rfl ?_
          refine x_iconst 1 (z := 1) dX11_read_117 rfl (by decide) rfl ?_
          refine x_iadd dX11_read_118 rfl ?_
          obtain ⟨e6, h⟩ := h
          refine y_bald (z := w5 a1 (b_i (a2 + 1))) dX11_read_119 e6 rfl rfl ?_
          refine x_bipush 48 (z := 48) dX11_read_120 rfl (by decide) rfl ?_
          refine x_icmp_eq (t := 151) 29 dX11_read_122 rfl rfl (b_ite h (fun hc h => ?_) (fun hc h => ?_))
          · refine x_iconst (-1) (z := (-1)) dX11_read_151 rfl (by decide) rfl ?_
            exact y_iret dX11_read_152 rfl h
          · exact x_fg (fgk (fgk (fgk (fgk (fgk (fgk (fgk (fg0)))))))) h
      · refine x_bipush 10 (z := 10) dX11_read_86 rfl (by decide) rfl ?_
        refine x_iload 6 dX11_read_88 rfl rfl ?_
        refine x_imul dX11_read_90 rfl ?_
        refine x_aload_n 1 dX11_read_91 rfl rfl rfl rfl rfl ?_
        refine x_iload_n 2 dX11_read_92 rfl rfl rfl ?_
        refine x_iload 5 dX11_read_93 rfl rfl ?_
        refine x_iadd dX11_read_95 rfl ?_
        refine y_bald (z := w5 a1 (b_i (a2 + a5))) dX11_read_96 e3 rfl rfl ?_
        refine x_iadd dX11_read_97 rfl ?_
        refine x_bipush 48 (z := 48) dX11_read_98 rfl (by decide) rfl ?_
        refine x_isub dX11_read_100 rfl ?_
        refine x_istore 6 (ls' := [(2, 39), (2, a1), (0, a2), (0, a3), (0, a4), (0, a5), (0, b_i ((b_i ((b_i (10 * a6)) + (w5 a1 (b_i (a2 + a5))))) - 48))]) dX11_read_101 rfl rfl rfl ?_
        refine x_iinc 5 1 (ls' := [(2, 39), (2, a1), (0, a2), (0, a3), (0, a4), (0, b_i (a5 + 1)), (0, b_i ((b_i ((b_i (10 * a6)) + (w5 a1 (b_i (a2 + a5))))) - 48))]) dX11_read_103 rfl rfl rfl rfl ?_
        refine x_goto (-44) (q := 62) dX11_read_106 rfl ?_
        exact x_fg (fgk (fgk (fgk (fgk (fgk (fgk (fgk (fg0)))))))) h
theorem sX11_read_125 {d n : Nat} {w : bW} {Q : Int → bW → Prop} {X : String → bW → Prop} (hn : 40 ≤ n) (a1 : Int) (a2 : Int) (a3 : Int) (a4 : Int) (a5 : Int) (a6 : Int) (h : if a3 ≤ a5 then (if a3 ≤ a5 then (if a4 = 0 then (Q a6 (b_up w 39 0 0)) else (Q (b_i (100 + a6)) (b_up w 39 0 0))) else (if a4 = 0 then (Q a6 (b_up w 39 0 (b_i ((b_i (a2 + a5)) + 1)))) else (Q (b_i (100 + a6)) (b_up w 39 0 (b_i ((b_i (a2 + a5)) + 1)))))) else (if a4 = 0 then (Q (-1) w) else (b_K d mX11_isMark [(2, a1), (0, b_i (a2 + a5)), (0, b_i (a3 - a5))] n w (fun r1 w2 => if r1 ≠ 0 then (if a3 ≤ a5 then (if a4 = 0 then (Q a6 (b_up w2 39 0 0)) else (Q (b_i (100 + a6)) (b_up w2 39 0 0))) else (if a4 = 0 then (Q a6 (b_up w2 39 0 (b_i ((b_i (a2 + a5)) + 1)))) else (Q (b_i (100 + a6)) (b_up w2 39 0 (b_i ((b_i (a2 + a5)) + 1)))))) else (Q (-1) w2)) X))) : LX11_read_125 d n Q X a1 a2 a3 a4 a5 a6 w := by
  have i39 := iz39 (Nat.le_trans (Nat.le_of_ble_eq_true rfl) hn)
  refine x_iload 5 dX11_read_125 rfl rfl ?_
  refine x_iload_n 3 dX11_read_127 rfl rfl rfl ?_
  refine x_icmp_ge (t := 153) 25 dX11_read_128 rfl rfl (b_ite h (fun hc h => ?_) (fun hc h => ?_))
  · refine x_aload_n 0 dX11_read_153 rfl rfl rfl rfl rfl ?_
    refine x_iload 5 dX11_read_154 rfl rfl ?_
    refine x_iload_n 3 dX11_read_156 rfl rfl rfl ?_
    refine x_icmp_ge (t := 169) 12 dX11_read_157 rfl rfl (b_ite h (fun hc h => ?_) (fun hc h => ?_))
    · refine x_iconst 0 (z := 0) dX11_read_169 rfl (by decide) rfl ?_
      refine x_put 15 0 (c := 10) dX11_read_170 i39 rfl in_X11 tyX11_ok nmX11 q870 rfl rfl rfl (Or.inl rfl) (Or.inl ⟨rfl, rfl⟩) rfl ?_
      refine x_iload 4 dX11_read_173 rfl rfl ?_
      refine x_if_eq (t := 186) 11 dX11_read_175 rfl rfl (b_ite h (fun hc h => ?_) (fun hc h => ?_))
      · refine x_iload 6 dX11_read_186 rfl rfl ?_
        exact y_iret dX11_read_188 rfl h
      · refine x_bipush 100 (z := 100) dX11_read_178 rfl (by decide) rfl ?_
        refine x_iload 6 dX11_read_180 rfl rfl ?_
        refine x_iadd dX11_read_182 rfl ?_
        refine x_goto 5 (q := 188) dX11_read_183 rfl ?_
        exact y_iret dX11_read_188 rfl h
    · refine x_iload_n 2 dX11_read_160 rfl rfl rfl ?_
      refine x_iload 5 dX11_read_161 rfl rfl ?_
      refine x_iadd dX11_read_163 rfl ?_
      refine x_iconst 1 (z := 1) dX11_read_164 rfl (by decide) rfl ?_
      refine x_iadd dX11_read_165 rfl ?_
      refine x_goto 4 (q := 170) dX11_read_166 rfl ?_
      refine x_put 15 0 (c := 10) dX11_read_170 i39 rfl in_X11 tyX11_ok nmX11 q870 rfl rfl rfl (Or.inl rfl) (Or.inl ⟨rfl, rfl⟩) rfl ?_
      refine x_iload 4 dX11_read_173 rfl rfl ?_
      refine x_if_eq (t := 186) 11 dX11_read_175 rfl rfl (b_ite h (fun hc h => ?_) (fun hc h => ?_))
      · refine x_iload 6 dX11_read_186 rfl rfl ?_
        exact y_iret dX11_read_188 rfl h
      · refine x_bipush 100 (z := 100) dX11_read_178 rfl (by decide) rfl ?_
        refine x_iload 6 dX11_read_180 rfl rfl ?_
        refine x_iadd dX11_read_182 rfl ?_
        refine x_goto 5 (q := 188) dX11_read_183 rfl ?_
        exact y_iret dX11_read_188 rfl h
  · refine x_iload 4 dX11_read_131 rfl rfl ?_
    refine x_if_eq (t := 151) 18 dX11_read_133 rfl rfl (b_ite h (fun hc h => ?_) (fun hc h => ?_))
    · refine x_iconst (-1) (z := (-1)) dX11_read_151 rfl (by decide) rfl ?_
      exact y_iret dX11_read_152 rfl h
    · refine x_aload_n 1 dX11_read_136 rfl rfl rfl rfl rfl ?_
      refine x_iload_n 2 dX11_read_137 rfl rfl rfl ?_
      refine x_iload 5 dX11_read_138 rfl rfl ?_
      refine x_iadd dX11_read_140 rfl ?_
      refine x_iload_n 3 dX11_read_141 rfl rfl rfl ?_
      refine x_iload 5 dX11_read_142 rfl rfl ?_
      refine x_isub dX11_read_144 rfl ?_
      refine y_Si 25 (M := mX11_isMark) (As := [(2, a1), (0, b_i (a2 + a5)), (0, b_i (a3 - a5))]) (st := []) dX11_read_145 q1993 q1994 q378 q1995 hmX11_isMark rfl rfl rfl rfl rfl rfl rfl rfl (k_mono h (fun r1 w2 h => ?_))
      refine x_if_ne (t := 153) 5 dX11_read_148 rfl rfl (b_ite h (fun hc h => ?_) (fun hc h => ?_))
      · refine x_aload_n 0 dX11_read_153 rfl rfl rfl rfl rfl ?_
        refine x_iload 5 dX11_read_154 rfl rfl ?_
        refine x_iload_n 3 dX11_read_156 rfl rfl rfl ?_
        refine x_icmp_ge (t := 169) 12 dX11_read_157 rfl rfl (b_ite h (fun hc h => ?_) (fun hc h => ?_))
        · refine x_iconst 0 (z := 0) dX11_read_169 rfl (by decide) rfl ?_
          refine x_put 15 0 (c := 10) dX11_read_170 i39 rfl in_X11 tyX11_ok nmX11 q870 rfl rfl rfl (Or.inl rfl) (Or.inl ⟨rfl, rfl⟩) rfl ?_
          refine x_iload 4 dX11_read_173 rfl rfl ?_
          refine x_if_eq (t := 186) 11 dX11_read_175 rfl rfl (b_ite h (fun hc h => ?_) (fun hc h => ?_))
          · refine x_iload 6 dX11_read_186 rfl rfl ?_
            exact y_iret dX11_read_188 rfl h
          · refine x_bipush 100 (z := 100) dX11_read_178 rfl (by decide) rfl ?_
            refine x_iload 6 dX11_read_180 rfl rfl ?_
            refine x_iadd dX11_read_182 rfl ?_
            refine x_goto 5 (q := 188) dX11_read_183 rfl ?_
            exact y_iret dX11_read_188 rfl h
        · refine x_iload_n 2 dX11_read_160 rfl rfl rfl ?_
          refine x_iload 5 dX11_read_161 rfl rfl ?_
          refine x_iadd dX11_read_163 rfl ?_
          refine x_iconst 1 (z := 1) dX11_read_164 rfl (by decide) rfl ?_
          refine x_iadd dX11_read_165 rfl ?_
          refine x_goto 4 (q := 170) dX11_read_166 rfl ?_
          refine x_put 15 0 (c := 10) dX11_read_170 i39 rfl in_X11 tyX11_ok nmX11 q870 rfl rfl rfl (Or.inl rfl) (Or.inl ⟨rfl, rfl⟩) rfl ?_
          refine x_iload 4 dX11_read_173 rfl rfl ?_
          refine x_if_eq (t := 186) 11 dX11_read_175 rfl rfl (b_ite h (fun hc h => ?_) (fun hc h => ?_))
          · refine x_iload 6 dX11_read_186 rfl rfl ?_
            exact y_iret dX11_read_188 rfl h
          · refine x_bipush 100 (z := 100) dX11_read_178 rfl (by decide) rfl ?_
            refine x_iload 6 dX11_read_180 rfl rfl ?_
            refine x_iadd dX11_read_182 rfl ?_
            refine x_goto 5 (q := 188) dX11_read_183 rfl ?_
            exact y_iret dX11_read_188 rfl h
      · refine x_iconst (-1) (z := (-1)) dX11_read_151 rfl (by decide) rfl ?_
        exact y_iret dX11_read_152 rfl h
abbrev LX11_isMark_2 (d n : Nat) (Q : Int → bW → Prop) (X : String → bW → Prop) (a0 : Int) (a1 : Int) (a2 : Int) (a3 : Int) (w : bW) : Prop := b_Y (d + 1) mX11_isMark n Q X 2 [(2, a0), (0, a1), (0, a2), (0, a3)] [] w
theorem rX11_isMark {d n : Nat} {w : bW} {Q : Int → bW → Prop} {X : String → bW → Prop} (a0 : Int) (a1 : Int) (a2 : Int) (h : LX11_isMark_2 d n Q X a0 a1 a2 1 w) : b_K (d + 1) mX11_isMark [(2, a0), (0, a1), (0, a2)] n w Q X := by
  refine k_of (by decide) rfl rfl rfl (ls := [(2, a0), (0, a1), (0, a2), (9, 0)]) rfl ?_
  refine x_iconst 1 (z := 1) dX11_isMark_0 rfl (by decide) rfl ?_
  refine x_istore_n 3 (ls' := [(2, a0), (0, a1), (0, a2), (0, 1)]) dX11_isMark_1 rfl rfl rfl rfl ?_
  exact x_fg (fgk (fgk (fgk (fgk (fg0))))) h
theorem sX11_isMark_2 {d n : Nat} {w : bW} {Q : Int → bW → Prop} {X : String → bW → Prop} (a0 : Int) (a1 : Int) (a2 : Int) (a3 : Int) (h : if a2 ≤ a3 then (b_ai n a0 1 1 a1 ∧ (if w a0 a1 ≠ 37 then (Q 0 w) else (if a3 ≠ a2 then (Q 0 w) else (if a2 ≤ 1 then (Q 0 w) else (if 32 < a2 then (Q 0 w) else (Q 1 w)))))) else (b_ai n a0 1 1 (b_i (a1 + a3)) ∧ (b_K d mX30_isPart [(0, w a0 (b_i (a1 + a3)))] n w (fun r3 w4 => if r3 = 0 then (b_ai n a0 1 1 a1 ∧ (if w4 a0 a1 ≠ 37 then (Q 0 w4) else (if a3 ≠ a2 then (Q 0 w4) else (if a2 ≤ 1 then (Q 0 w4) else (if 32 < a2 then (Q 0 w4) else (Q 1 w4)))))) else (LX11_isMark_2 d n Q X a0 a1 a2 (b_i (a3 + 1)) w4)) X))) : LX11_isMark_2 d n Q X a0 a1 a2 a3 w := by
  refine x_iload_n 3 dX11_isMark_2 rfl rfl rfl ?_
  refine x_iload_n 2 dX11_isMark_3 rfl rfl rfl ?_
  refine x_icmp_ge (t := 24) 20 dX11_isMark_4 rfl rfl (b_ite h (fun hc h => ?_) (fun hc h => ?_))
  · refine x_aload_n 0 dX11_isMark_24 rfl rfl rfl rfl rfl ?_
    refine x_iload_n 1 dX11_isMark_25 rfl rfl rfl ?_
    obtain ⟨e1, h⟩ := h
    refine y_bald (z := w a0 a1) dX11_isMark_26 e1 rfl rfl ?_
    refine x_bipush 37 (z := 37) dX11_isMark_27 rfl (by decide) rfl ?_
    refine x_icmp_ne (t := 52) 23 dX11_isMark_29 rfl rfl (b_ite h (fun hc h => ?_) (fun hc h => ?_))
    · refine x_iconst 0 (z := 0) dX11_isMark_52 rfl (by decide) rfl ?_
      exact y_zret dX11_isMark_53 rfl (by decide) h
    · refine x_iload_n 3 dX11_isMark_32 rfl rfl rfl ?_
      refine x_iload_n 2 dX11_isMark_33 rfl rfl rfl ?_
      refine x_icmp_ne (t := 52) 18 dX11_isMark_34 rfl rfl (b_ite h (fun hc h => ?_) (fun hc h => ?_))
      · refine x_iconst 0 (z := 0) dX11_isMark_52 rfl (by decide) rfl ?_
        exact y_zret dX11_isMark_53 rfl (by decide) h
      · refine x_iload_n 2 dX11_isMark_37 rfl rfl rfl ?_
        refine x_iconst 1 (z := 1) dX11_isMark_38 rfl (by decide) rfl ?_
        refine x_icmp_le (t := 52) 13 dX11_isMark_39 rfl rfl (b_ite h (fun hc h => ?_) (fun hc h => ?_))
        · refine x_iconst 0 (z := 0) dX11_isMark_52 rfl (by decide) rfl ?_
          exact y_zret dX11_isMark_53 rfl (by decide) h
        · refine x_iload_n 2 dX11_isMark_42 rfl rfl rfl ?_
          refine x_bipush 32 (z := 32) dX11_isMark_43 rfl (by decide) rfl ?_
          refine x_icmp_gt (t := 52) 7 dX11_isMark_45 rfl rfl (b_ite h (fun hc h => ?_) (fun hc h => ?_))
          · refine x_iconst 0 (z := 0) dX11_isMark_52 rfl (by decide) rfl ?_
            exact y_zret dX11_isMark_53 rfl (by decide) h
          · refine x_iconst 1 (z := 1) dX11_isMark_48 rfl (by decide) rfl ?_
            refine x_goto 4 (q := 53) dX11_isMark_49 rfl ?_
            exact y_zret dX11_isMark_53 rfl (by decide) h
  · refine x_aload_n 0 dX11_isMark_7 rfl rfl rfl rfl rfl ?_
    refine x_iload_n 1 dX11_isMark_8 rfl rfl rfl ?_
    refine x_iload_n 3 dX11_isMark_9 rfl rfl rfl ?_
    refine x_iadd dX11_isMark_10 rfl ?_
    obtain ⟨e2, h⟩ := h
    refine y_bald (z := w a0 (b_i (a1 + a3))) dX11_isMark_11 e2 rfl rfl ?_
    refine y_Si 29 (M := mX30_isPart) (As := [(0, w a0 (b_i (a1 + a3)))]) (st := []) dX11_isMark_12 q1996 q1724 q398 q1725 hmX30_isPart rfl rfl rfl rfl rfl rfl rfl rfl (k_mono h (fun r3 w4 h => ?_))
    refine x_if_eq (t := 24) 9 dX11_isMark_15 rfl rfl (b_ite h (fun hc h => ?_) (fun hc h => ?_))
    · refine x_aload_n 0 dX11_isMark_24 rfl rfl rfl rfl rfl ?_
      refine x_iload_n 1 dX11_isMark_25 rfl rfl rfl ?_
      obtain ⟨e5, h⟩ := h
      refine y_bald (z := w4 a0 a1) dX11_isMark_26 e5 rfl rfl ?_
      refine x_bipush 37 (z := 37) dX11_isMark_27 rfl (by decide) rfl ?_
      refine x_icmp_ne (t := 52) 23 dX11_isMark_29 rfl rfl (b_ite h (fun hc h => ?_) (fun hc h => ?_))
      · refine x_iconst 0 (z := 0) dX11_isMark_52 rfl (by decide) rfl ?_
        exact y_zret dX11_isMark_53 rfl (by decide) h
      · refine x_iload_n 3 dX11_isMark_32 rfl rfl rfl ?_
        refine x_iload_n 2 dX11_isMark_33 rfl rfl rfl ?_
        refine x_icmp_ne (t := 52) 18 dX11_isMark_34 rfl rfl (b_ite h (fun hc h => ?_) (fun hc h => ?_))
        · refine x_iconst 0 (z := 0) dX11_isMark_52 rfl (by decide) rfl ?_
          exact y_zret dX11_isMark_53 rfl (by decide) h
        · refine x_iload_n 2 dX11_isMark_37 rfl rfl rfl ?_
          refine x_iconst 1 (z := 1) dX11_isMark_38 rfl (by decide) rfl ?_
          refine x_icmp_le (t := 52) 13 dX11_isMark_39 rfl rfl (b_ite h (fun hc h => ?_) (fun hc h => ?_))
          · refine x_iconst 0 (z := 0) dX11_isMark_52 rfl (by decide) rfl ?_
            exact y_zret dX11_isMark_53 rfl (by decide) h
          · refine x_iload_n 2 dX11_isMark_42 rfl rfl rfl ?_
            refine x_bipush 32 (z := 32) dX11_isMark_43 rfl (by decide) rfl ?_
            refine x_icmp_gt (t := 52) 7 dX11_isMark_45 rfl rfl (b_ite h (fun hc h => ?_) (fun hc h => ?_))
            · refine x_iconst 0 (z := 0) dX11_isMark_52 rfl (by decide) rfl ?_
              exact y_zret dX11_isMark_53 rfl (by decide) h
            · refine x_iconst 1 (z := 1) dX11_isMark_48 rfl (by decide) rfl ?_
              refine x_goto 4 (q := 53) dX11_isMark_49 rfl ?_
              exact y_zret dX11_isMark_53 rfl (by decide) h
    · refine x_iinc 3 1 (ls' := [(2, a0), (0, a1), (0, a2), (0, b_i (a3 + 1))]) dX11_isMark_18 rfl rfl rfl rfl ?_
      refine x_goto (-19) (q := 2) dX11_isMark_21 rfl ?_
      exact x_fg (fgk (fgk (fgk (fgk (fg0))))) h
abbrev LX11_read_2_20 (d n : Nat) (Q : Int → bW → Prop) (X : String → bW → Prop) (a2 : Int) (a3 : Int) (a4 : Int) (w : bW) : Prop := b_Y (d + 1) mX11_read_2 n Q X 20 [(2, 39), (2, 27), (0, a2), (0, a3), (0, a4)] [] w
theorem rX11_read_2 {d n : Nat} {w : bW} {Q : Int → bW → Prop} {X : String → bW → Prop} (hn : 143 ≤ n) (a2 : Int) (h : b_K d mX8_count [(2, 27), (0, a2)] n w (fun r1 w2 => if r1 ≤ 40 then (LX11_read_2_20 d n Q X a2 r1 0 w2) else (Q (-1) w2)) X) : b_K (d + 1) mX11_read_2 [(2, 39), (2, 27), (0, a2)] n w Q X := by
  have i27 := iz27 (Nat.le_trans (Nat.le_of_ble_eq_true rfl) hn)
  have i39 := iz39 (Nat.le_trans (Nat.le_of_ble_eq_true rfl) hn)
  have i40 := iz40 (Nat.le_trans (Nat.le_of_ble_eq_true rfl) hn)
  refine k_of (by decide) rfl rfl rfl (ls := [(2, 39), (2, 27), (0, a2), (9, 0), (9, 0)]) rfl ?_
  refine x_aload_n 1 dX11_read_2_0 rfl rfl rfl rfl rfl ?_
  refine x_iload_n 2 dX11_read_2_1 rfl rfl rfl ?_
  refine y_Vi 32 (M := mX8_count) (As := [(0, a2)]) (st := []) dX11_read_2_2 i27 rfl q2894 q2087 q2088 q375 q2089 rfl hmX8_count rfl rfl rfl rfl rfl rfl rfl rfl (k_mono h (fun r1 w2 h => ?_))
  refine x_istore_n 3 (ls' := [(2, 39), (2, 27), (0, a2), (0, r1), (9, 0)]) dX11_read_2_5 rfl rfl rfl rfl ?_
  refine x_iload_n 3 dX11_read_2_6 rfl rfl rfl ?_
  refine x_aload_n 0 dX11_read_2_7 rfl rfl rfl rfl rfl ?_
  refine y_getF 9 1 (c := 10) (z := 40) dX11_read_2_8 i39 rfl in_X11 q873 rfl rfl rfl fn_39_1 (Nat.le_trans (Nat.le_of_ble_eq_true rfl) hn) rfl ?_
  refine y_alen (N := 40) dX11_read_2_11 i40 (by decide) (by decide) rfl ?_
  refine x_icmp_le (t := 17) 5 dX11_read_2_12 rfl rfl (b_ite h (fun hc h => ?_) (fun hc h => ?_))
  · refine x_iconst 0 (z := 0) dX11_read_2_17 rfl (by decide) rfl ?_
    refine x_istore 4 (ls' := [(2, 39), (2, 27), (0, a2), (0, r1), (0, 0)]) dX11_read_2_18 rfl rfl rfl ?_
    exact x_fg (fgk (fgk (fgk (fgk (fgk (fg0)))))) h
  · refine x_iconst (-1) (z := (-1)) dX11_read_2_15 rfl (by decide) rfl ?_
    exact y_iret dX11_read_2_16 rfl h
theorem sX11_read_2_20 {d n : Nat} {w : bW} {Q : Int → bW → Prop} {X : String → bW → Prop} (hn : 143 ≤ n) (a2 : Int) (a3 : Int) (a4 : Int) (h : if a3 ≤ a4 then (b_K d mX11_read [(2, 39), (2, 40), (0, 0), (0, a3)] n w (fun r1 w2 => Q r1 w2) X) else (b_K d mX8_byteAt [(2, 27), (0, a2), (0, a4)] n w (fun r3 w4 => (0 ≤ a4 ∧ a4 < 40) ∧ (LX11_read_2_20 d n Q X a2 a3 (b_i (a4 + 1)) (b_up w4 40 a4 (b_b8 r3)))) X)) : LX11_read_2_20 d n Q X a2 a3 a4 w := by
  have i27 := iz27 (Nat.le_trans (Nat.le_of_ble_eq_true rfl) hn)
  have i39 := iz39 (Nat.le_trans (Nat.le_of_ble_eq_true rfl) hn)
  have i40 := iz40 (Nat.le_trans (Nat.le_of_ble_eq_true rfl) hn)
  refine x_iload 4 dX11_read_2_20 rfl rfl ?_
  refine x_iload_n 3 dX11_read_2_22 rfl rfl rfl ?_
  refine x_icmp_ge (t := 47) 24 dX11_read_2_23 rfl rfl (b_ite h (fun hc h => ?_) (fun hc h => ?_))
  · refine x_aload_n 0 dX11_read_2_47 rfl rfl rfl rfl rfl ?_
    refine x_aload_n 0 dX11_read_2_48 rfl rfl rfl rfl rfl ?_
    refine y_getF 9 1 (c := 10) (z := 40) dX11_read_2_49 i39 rfl in_X11 q873 rfl rfl rfl fn_39_1 (Nat.le_trans (Nat.le_of_ble_eq_true rfl) hn) rfl ?_
    refine x_iconst 0 (z := 0) dX11_read_2_52 rfl (by decide) rfl ?_
    refine x_iload_n 3 dX11_read_2_53 rfl rfl rfl ?_
    refine y_Vi 42 (M := mX11_read) (As := [(2, 40), (0, 0), (0, a3)]) (st := []) dX11_read_2_54 i39 rfl q2896 q1989 q1990 q378 q1991 rfl hmX11_read rfl rfl rfl rfl rfl rfl rfl rfl (k_mono h (fun r1 w2 h => ?_))
    exact y_iret dX11_read_2_57 rfl h
  · refine x_aload_n 0 dX11_read_2_26 rfl rfl rfl rfl rfl ?_
    refine y_getF 9 1 (c := 10) (z := 40) dX11_read_2_27 i39 rfl in_X11 q873 rfl rfl rfl fn_39_1 (Nat.le_trans (Nat.le_of_ble_eq_true rfl) hn) rfl ?_
    refine x_iload 4 dX11_read_2_30 rfl rfl ?_
    refine x_aload_n 1 dX11_read_2_32 rfl rfl rfl rfl rfl ?_
    refine x_iload_n 2 dX11_read_2_33 rfl rfl rfl ?_
    refine x_iload 4 dX11_read_2_34 rfl rfl ?_
    refine y_Vi 38 (M := mX8_byteAt) (As := [(0, a2), (0, a4)]) (st := [(0, a4), (2, 40)]) dX11_read_2_36 i27 rfl q2895 q2092 q2093 q375 q2094 rfl hmX8_byteAt rfl rfl rfl rfl rfl rfl rfl rfl (k_mono h (fun r3 w4 h => ?_))
    refine x_i2b dX11_read_2_39 rfl ?_
    obtain ⟨e5, h⟩ := h
    refine y_bast (x' := b_b8 r3) dX11_read_2_40 ⟨40, i40, e5⟩ (b_b8_i _) rfl ?_
    refine x_iinc 4 1 (ls' := [(2, 39), (2, 27), (0, a2), (0, a3), (0, b_i (a4 + 1))]) dX11_read_2_41 rfl rfl rfl rfl ?_
    refine x_goto (-24) (q := 20) dX11_read_2_44 rfl ?_
    exact x_fg (fgk (fgk (fgk (fgk (fgk (fg0)))))) h
abbrev LX11_make_59 (d n : Nat) (Q : Int → bW → Prop) (X : String → bW → Prop) (a3 : Int) (a4 : Int) (a5 : Int) (a6 : Int) (a7 : Int) (w : bW) : Prop := b_Y (d + 1) mX11_make n Q X 59 [(2, 39), (2, 27), (9, 0), (2, a3), (0, a4), (0, a5), (0, a6), (0, a7)] [] w
theorem rX11_make {d n : Nat} {w : bW} {Q : Int → bW → Prop} {X : String → bW → Prop} (hn : 143 ≤ n) (a2 : Int) (a3 : Int) (a4 : Int) (a5 : Int) (h : if a2 < 100 then (if b_rem a2 100 ≤ 9 then (LX11_make_59 d n Q X a3 a4 a5 (b_rem a2 100) (b_i (0 + 1)) (b_up w 40 0 (b_b8 65))) else ((0 ≤ b_i (0 + 1) ∧ b_i (0 + 1) < 40) ∧ (LX11_make_59 d n Q X a3 a4 a5 (b_rem a2 100) (b_i ((b_i (0 + 1)) + 1)) (b_up (b_up w 40 0 (b_b8 65)) 40 (b_i (0 + 1)) (b_b8 (b_i (48 + (b_div (b_rem a2 100) 10)))))))) else (if b_rem a2 100 ≤ 9 then (LX11_make_59 d n Q X a3 a4 a5 (b_rem a2 100) (b_i (0 + 1)) (b_up w 40 0 (b_b8 67))) else ((0 ≤ b_i (0 + 1) ∧ b_i (0 + 1) < 40) ∧ (LX11_make_59 d n Q X a3 a4 a5 (b_rem a2 100) (b_i ((b_i (0 + 1)) + 1)) (b_up (b_up w 40 0 (b_b8 67)) 40 (b_i (0 + 1)) (b_b8 (b_i (48 + (b_div (b_rem a2 100) 10))))))))) : b_K (d + 1) mX11_make [(2, 39), (2, 27), (0, a2), (2, a3), (0, a4), (0, a5)] n w Q X := by
  have i39 := iz39 (Nat.le_trans (Nat.le_of_ble_eq_true rfl) hn)
  have i40 := iz40 (Nat.le_trans (Nat.le_of_ble_eq_true rfl) hn)
  refine k_of (by decide) rfl rfl rfl (ls := [(2, 39), (2, 27), (0, a2), (2, a3), (0, a4), (0, a5), (9, 0), (9, 0)]) rfl ?_
  refine x_iload_n 2 dX11_make_0 rfl rfl rfl ?_
  refine x_bipush 100 (z := 100) dX11_make_1 rfl (by decide) rfl ?_
  refine x_irem dX11_make_3 (by decide) rfl ?_
  refine x_istore 6 (ls' := [(2, 39), (2, 27), (0, a2), (2, a3), (0, a4), (0, a5), (0, b_rem a2 100), (9, 0)]) dX11_make_4 rfl rfl rfl ?_
  refine x_iconst 0 (z := 0) dX11_make_6 rfl (by decide) rfl ?_
  refine x_istore 7 (ls' := [(2, 39), (2, 27), (0, a2), (2, a3), (0, a4), (0, a5), (0, b_rem a2 100), (0, 0)]) dX11_make_7 rfl rfl rfl ?_
  refine x_aload_n 0 dX11_make_9 rfl rfl rfl rfl rfl ?_
  refine y_getF 9 1 (c := 10) (z := 40) dX11_make_10 i39 rfl in_X11 q873 rfl rfl rfl fn_39_1 (Nat.le_trans (Nat.le_of_ble_eq_true rfl) hn) rfl ?_
  refine x_iload 7 dX11_make_13 rfl rfl ?_
  refine x_iinc 7 1 (ls' := [(2, 39), (2, 27), (0, a2), (2, a3), (0, a4), (0, a5), (0, b_rem a2 100), (0, b_i (0 + 1))]) dX11_make_15 rfl rfl rfl rfl ?_
  refine x_iload_n 2 dX11_make_18 rfl rfl rfl ?_
  refine x_bipush 100 (z := 100) dX11_make_19 rfl (by decide) rfl ?_
  refine x_icmp_lt (t := 29) 8 dX11_make_21 rfl rfl (b_ite h (fun hc h => ?_) (fun hc h => ?_))
  · refine x_bipush 65 (z := 65) dX11_make_29 rfl (by decide) rfl ?_
    refine x_i2b dX11_make_31 rfl ?_
    refine y_bast (x' := b_b8 65) dX11_make_32 ⟨40, i40, by decide⟩ (b_b8_i _) rfl ?_
    refine x_iload 6 dX11_make_33 rfl rfl ?_
    refine x_bipush 9 (z := 9) dX11_make_35 rfl (by decide) rfl ?_
    refine x_icmp_le (t := 59) 22 dX11_make_37 rfl rfl (b_ite h (fun hc h => ?_) (fun hc h => ?_))
    · exact x_fg (fgk (fgk (fgd (fgk (fgk (fgk (fgk (fgk (fg0))))))))) h
    · refine x_aload_n 0 dX11_make_40 rfl rfl rfl rfl rfl ?_
      refine y_getF 9 1 (c := 10) (z := 40) dX11_make_41 i39 rfl in_X11 q873 rfl rfl rfl fn_39_1 (Nat.le_trans (Nat.le_of_ble_eq_true rfl) hn) rfl ?_
      refine x_iload 7 dX11_make_44 rfl rfl ?_
      refine x_iinc 7 1 (ls' := [(2, 39), (2, 27), (0, a2), (2, a3), (0, a4), (0, a5), (0, b_rem a2 100), (0, b_i ((b_i (0 + 1)) + 1))]) dX11_make_46 rfl rfl rfl rfl ?_
      refine x_bipush 48 (z := 48) dX11_make_49 rfl (by decide) rfl ?_
      refine x_iload 6 dX11_make_51 rfl rfl ?_
      refine x_bipush 10 (z := 10) dX11_make_53 rfl (by decide) rfl ?_
      refine x_idiv dX11_make_55 (by decide) rfl ?_
      refine x_iadd dX11_make_56 rfl ?_
      refine x_i2b dX11_make_57 rfl ?_
      obtain ⟨e1, h⟩ := h
      refine y_bast (x' := b_b8 (b_i (48 + (b_div (b_rem a2 100) 10)))) dX11_make_58 ⟨40, i40, e1⟩ (b_b8_i _) rfl ?_
      exact x_fg (fgk (fgk (fgd (fgk (fgk (fgk (fgk (fgk (fg0))))))))) h
  · refine x_bipush 67 (z := 67) dX11_make_24 rfl (by decide) rfl ?_
    refine x_goto 5 (q := 31) dX11_make_26 rfl ?_
    refine x_i2b dX11_make_31 rfl ?_
    refine y_bast (x' := b_b8 67) dX11_make_32 ⟨40, i40, by decide⟩ (b_b8_i _) rfl ?_
    refine x_iload 6 dX11_make_33 rfl rfl ?_
    refine x_bipush 9 (z := 9) dX11_make_35 rfl (by decide) rfl ?_
    refine x_icmp_le (t := 59) 22 dX11_make_37 rfl rfl (b_ite h (fun hc h => ?_) (fun hc h => ?_))
    · exact x_fg (fgk (fgk (fgd (fgk (fgk (fgk (fgk (fgk (fg0))))))))) h
    · refine x_aload_n 0 dX11_make_40 rfl rfl rfl rfl rfl ?_
      refine y_getF 9 1 (c := 10) (z := 40) dX11_make_41 i39 rfl in_X11 q873 rfl rfl rfl fn_39_1 (Nat.le_trans (Nat.le_of_ble_eq_true rfl) hn) rfl ?_
      refine x_iload 7 dX11_make_44 rfl rfl ?_
      refine x_iinc 7 1 (ls' := [(2, 39), (2, 27), (0, a2), (2, a3), (0, a4), (0, a5), (0, b_rem a2 100), (0, b_i ((b_i (0 + 1)) + 1))]) dX11_make_46 rfl rfl rfl rfl ?_
      refine x_bipush 48 (z := 48) dX11_make_49 rfl (by decide) rfl ?_
      refine x_iload 6 dX11_make_51 rfl rfl ?_
      refine x_bipush 10 (z := 10) dX11_make_53 rfl (by decide) rfl ?_
      refine x_idiv dX11_make_55 (by decide) rfl ?_
      refine x_iadd dX11_make_56 rfl ?_
      refine x_i2b dX11_make_57 rfl ?_
      obtain ⟨e2, h⟩ := h
      refine y_bast (x' := b_b8 (b_i (48 + (b_div (b_rem a2 100) 10)))) dX11_make_58 ⟨40, i40, e2⟩ (b_b8_i _) rfl ?_
      exact x_fg (fgk (fgk (fgd (fgk (fgk (fgk (fgk (fgk (fg0))))))))) h
theorem sX11_make_59 {d n : Nat} {w : bW} {Q : Int → bW → Prop} {X : String → bW → Prop} (hn : 143 ≤ n) (a3 : Int) (a4 : Int) (a5 : Int) (a6 : Int) (a7 : Int) (h : (0 ≤ a7 ∧ a7 < 40) ∧ (if a5 ≤ 0 then (b_K d mX8_ofBytes [(2, 27), (2, 40), (0, 0), (0, b_i (a7 + 1))] n (b_up w 40 a7 (b_b8 (b_i (48 + (b_rem a6 10))))) (fun r2 w3 => Q r2 w3) X) else ((0 ≤ b_i (a7 + 1) ∧ b_i (a7 + 1) < 40) ∧ (∃ N5 : Nat, b_is n a3 1 1 N5 ∧ ((a3 ≠ 40 ∧ (0 : Int) ≤ a4 ∧ (0 : Int) ≤ b_i ((b_i (a7 + 1)) + 1) ∧ (0 : Int) ≤ a5 ∧ (a4 : Int) + a5 ≤ N5 ∧ (b_i ((b_i (a7 + 1)) + 1) : Int) + a5 ≤ 40) ∧ (b_K d mX8_ofBytes [(2, 27), (2, 40), (0, 0), (0, b_i ((b_i ((b_i (a7 + 1)) + 1)) + a5))] n (b_cp (b_up (b_up w 40 a7 (b_b8 (b_i (48 + (b_rem a6 10))))) 40 (b_i (a7 + 1)) 37) a3 a4 40 (b_i ((b_i (a7 + 1)) + 1)) a5) (fun r8 w9 => Q r8 w9) X)))))) : LX11_make_59 d n Q X a3 a4 a5 a6 a7 w := by
  have i27 := iz27 (Nat.le_trans (Nat.le_of_ble_eq_true rfl) hn)
  have i39 := iz39 (Nat.le_trans (Nat.le_of_ble_eq_true rfl) hn)
  have i40 := iz40 (Nat.le_trans (Nat.le_of_ble_eq_true rfl) hn)
  refine x_aload_n 0 dX11_make_59 rfl rfl rfl rfl rfl ?_
  refine y_getF 9 1 (c := 10) (z := 40) dX11_make_60 i39 rfl in_X11 q873 rfl rfl rfl fn_39_1 (Nat.le_trans (Nat.le_of_ble_eq_true rfl) hn) rfl ?_
  refine x_iload 7 dX11_make_63 rfl rfl ?_
  refine x_iinc 7 1 (ls' := [(2, 39), (2, 27), (9, 0), (2, a3), (0, a4), (0, a5), (0, a6), (0, b_i (a7 + 1))]) dX11_make_65 rfl rfl rfl rfl ?_
  refine x_bipush 48 (z := 48) dX11_make_68 rfl (by decide) rfl ?_
  refine x_iload 6 dX11_make_70 rfl rfl ?_
  refine x_bipush 10 (z := 10) dX11_make_72 rfl (by decide) rfl ?_
  refine x_irem dX11_make_74 (by decide) rfl ?_
  refine x_iadd dX11_make_75 rfl ?_
  refine x_i2b dX11_make_76 rfl ?_
  obtain ⟨e1, h⟩ := h
  refine y_bast (x' := b_b8 (b_i (48 + (b_rem a6 10)))) dX11_make_77 ⟨40, i40, e1⟩ (b_b8_i _) rfl ?_
  refine x_iload 5 dX11_make_78 rfl rfl ?_
  refine x_if_le (t := 116) 36 dX11_make_80 rfl rfl (b_ite h (fun hc h => ?_) (fun hc h => ?_))
  · refine x_aload_n 1 dX11_make_116 rfl rfl rfl rfl rfl ?_
    refine x_aload_n 0 dX11_make_117 rfl rfl rfl rfl rfl ?_
    refine y_getF 9 1 (c := 10) (z := 40) dX11_make_118 i39 rfl in_X11 q873 rfl rfl rfl fn_39_1 (Nat.le_trans (Nat.le_of_ble_eq_true rfl) hn) rfl ?_
    refine x_iconst 0 (z := 0) dX11_make_121 rfl (by decide) rfl ?_
    refine x_iload 7 dX11_make_122 rfl rfl ?_
    refine y_Vi 52 (M := mX8_ofBytes) (As := [(2, 40), (0, 0), (0, b_i (a7 + 1))]) (st := []) dX11_make_124 i27 rfl q2982 q1998 q1999 q375 q2000 rfl hmX8_ofBytes rfl rfl rfl rfl rfl rfl rfl rfl (k_mono h (fun r2 w3 h => ?_))
    exact y_iret dX11_make_127 rfl h
  · refine x_aload_n 0 dX11_make_83 rfl rfl rfl rfl rfl ?_
    refine y_getF 9 1 (c := 10) (z := 40) dX11_make_84 i39 rfl in_X11 q873 rfl rfl rfl fn_39_1 (Nat.le_trans (Nat.le_of_ble_eq_true rfl) hn) rfl ?_
    refine x_iload 7 dX11_make_87 rfl rfl ?_
    refine x_iinc 7 1 (ls' := [(2, 39), (2, 27), (9, 0), (2, a3), (0, a4), (0, a5), (0, a6), (0, b_i ((b_i (a7 + 1)) + 1))]) dX11_make_89 rfl rfl rfl rfl ?_
    refine x_bipush 37 (z := 37) dX11_make_92 rfl (by decide) rfl ?_
    obtain ⟨e4, h⟩ := h
    refine y_bast (x' := 37) dX11_make_94 ⟨40, i40, e4⟩ (by decide) rfl ?_
    refine x_aload_n 3 dX11_make_95 rfl rfl rfl rfl rfl ?_
    refine x_iload 4 dX11_make_96 rfl rfl ?_
    refine x_aload_n 0 dX11_make_98 rfl rfl rfl rfl rfl ?_
    refine y_getF 9 1 (c := 10) (z := 40) dX11_make_99 i39 rfl in_X11 q873 rfl rfl rfl fn_39_1 (Nat.le_trans (Nat.le_of_ble_eq_true rfl) hn) rfl ?_
    refine x_iload 7 dX11_make_102 rfl rfl ?_
    refine x_iload 5 dX11_make_104 rfl rfl ?_
    obtain ⟨N5, e6, h⟩ := h
    obtain ⟨e7, h⟩ := h
    refine x_copyi 46 dX11_make_106 q2981 q1893 q1892 q400 e6 i40 e7.1 (by decide) e7.2.1 e7.2.2.1 e7.2.2.2.1 e7.2.2.2.2.1 e7.2.2.2.2.2 (Nat.le_add_left 1 d) rfl rfl ?_
    refine x_iload 7 dX11_make_109 rfl rfl ?_
    refine x_iload 5 dX11_make_111 rfl rfl ?_
    refine x_iadd dX11_make_113 rfl ?_
    refine x_istore 7 (ls' := [(2, 39), (2, 27), (9, 0), (2, a3), (0, a4), (0, a5), (0, a6), (0, b_i ((b_i ((b_i (a7 + 1)) + 1)) + a5))]) dX11_make_114 rfl rfl rfl ?_
    refine x_aload_n 1 dX11_make_116 rfl rfl rfl rfl rfl ?_
    refine x_aload_n 0 dX11_make_117 rfl rfl rfl rfl rfl ?_
    refine y_getF 9 1 (c := 10) (z := 40) dX11_make_118 i39 rfl in_X11 q873 rfl rfl rfl fn_39_1 (Nat.le_trans (Nat.le_of_ble_eq_true rfl) hn) rfl ?_
    refine x_iconst 0 (z := 0) dX11_make_121 rfl (by decide) rfl ?_
    refine x_iload 7 dX11_make_122 rfl rfl ?_
    refine y_Vi 52 (M := mX8_ofBytes) (As := [(2, 40), (0, 0), (0, b_i ((b_i ((b_i (a7 + 1)) + 1)) + a5))]) (st := []) dX11_make_124 i27 rfl q2982 q1998 q1999 q375 q2000 rfl hmX8_ofBytes rfl rfl rfl rfl rfl rfl rfl rfl (k_mono h (fun r8 w9 h => ?_))
    exact y_iret dX11_make_127 rfl h
theorem rX11_text {d n : Nat} {w : bW} {Q : Int → bW → Prop} {X : String → bW → Prop} (hn : 143 ≤ n) (h : Q 40 w) : b_K (d + 1) mX11_text [(2, 39)] n w Q X := by
  have i39 := iz39 (Nat.le_trans (Nat.le_of_ble_eq_true rfl) hn)
  refine k_of (by decide) rfl rfl rfl (ls := [(2, 39)]) rfl ?_
  refine x_aload_n 0 dX11_text_0 rfl rfl rfl rfl rfl ?_
  refine y_getF 9 1 (c := 10) (z := 40) dX11_text_1 i39 rfl in_X11 q873 rfl rfl rfl fn_39_1 (Nat.le_trans (Nat.le_of_ble_eq_true rfl) hn) rfl ?_
  exact y_aret dX11_text_4 rfl (Or.inr ⟨_, rfl⟩) h
end RulesX11
