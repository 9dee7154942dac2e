section RulesX28
set_option maxRecDepth 100000
theorem rX28_read {d n : Nat} {w : bW} {Q : Int → bW → Prop} {X : String → bW → Prop} (t : Int) (ht : b_is n t 0 26 20) (h : b_K d mX28_next [(2, t)] n (b_up (b_up (b_up w t 13 0) t 14 (-1)) t 17 0) (fun r1 w2 => b_K d mX28_item [(2, t), (0, (-1)), (0, 0)] n w2 (fun r3 w4 => if r3 = 0 then (Q 0 w4) else (if w4 t 15 = 0 then (Q 1 w4) else (b_K d mX28_fail [(2, t)] n w4 (fun r5 w6 => if r5 = 0 then (Q 0 w6) else (Q 1 w6)) X))) X) X) : b_K (d + 1) mX28_read [(2, t)] n w Q X := by
  refine k_of (by decide) rfl rfl rfl (ls := [(2, t)]) rfl ?_
  refine x_aload_n 0 dX28_read_0 rfl rfl rfl rfl rfl ?_
  refine x_iconst 0 (z := 0) dX28_read_1 rfl (by decide) rfl ?_
  refine x_put 105 13 (c := 26) dX28_read_2 ht rfl in_X28 tyX28_ok nmX28 q4185 rfl rfl rfl (Or.inl rfl) (Or.inl ⟨rfl, rfl⟩) rfl ?_
  refine x_aload_n 0 dX28_read_5 rfl rfl rfl rfl rfl ?_
  refine x_iconst (-1) (z := (-1)) dX28_read_6 rfl (by decide) rfl ?_
  refine x_put 102 14 (c := 26) dX28_read_7 ht rfl in_X28 tyX28_ok nmX28 q4186 rfl rfl rfl (Or.inl rfl) (Or.inl ⟨rfl, rfl⟩) rfl ?_
  refine x_aload_n 0 dX28_read_10 rfl rfl rfl rfl rfl ?_
  refine x_iconst 0 (z := 0) dX28_read_11 rfl (by decide) rfl ?_
  refine x_put 69 17 (c := 26) dX28_read_12 ht rfl in_X28 tyX28_ok nmX28 q4190 rfl rfl rfl (Or.inl rfl) (Or.inl ⟨rfl, rfl⟩) rfl ?_
  refine x_aload_n 0 dX28_read_15 rfl rfl rfl rfl rfl ?_
  refine y_Vv 118 (M := mX28_next) (As := []) (st := []) dX28_read_16 ht rfl q3167 q3169 qs182 q395 q3171 rfl hmX28_next rfl rfl rfl rfl rfl rfl rfl (k_mono h (fun r1 w2 h => ?_))
  refine x_aload_n 0 dX28_read_19 rfl rfl rfl rfl rfl ?_
  refine x_iconst (-1) (z := (-1)) dX28_read_20 rfl (by decide) rfl ?_
  refine x_iconst 0 (z := 0) dX28_read_21 rfl (by decide) rfl ?_
  refine y_Vi 121 (M := mX28_item) (As := [(0, (-1)), (0, 0)]) (st := []) dX28_read_22 ht rfl q3201 q3203 qs188 q395 q3204 rfl hmX28_item rfl rfl rfl rfl rfl rfl rfl rfl (k_mono h (fun r3 w4 h => ?_))
  refine x_if_eq (t := 46) 21 dX28_read_25 rfl rfl (b_ite h (fun hc h => ?_) (fun hc h => ?_))
  · refine x_iconst 0 (z := 0) dX28_read_46 rfl (by decide) rfl ?_
    exact y_zret dX28_read_47 rfl (by decide) h
  · refine x_aload_n 0 dX28_read_28 rfl rfl rfl rfl rfl ?_
    refine y_get 79 15 (c := 26) (z := w4 t 15) dX28_read_29 ht rfl in_X28 q4188 rfl rfl rfl rfl rfl ?_
    refine x_if_eq (t := 42) 10 dX28_read_32 rfl rfl (b_ite h (fun hc h => ?_) (fun hc h => ?_))
    · refine x_iconst 1 (z := 1) dX28_read_42 rfl (by decide) rfl ?_
      refine x_goto 4 (q := 47) dX28_read_43 rfl ?_
      exact y_zret dX28_read_47 rfl (by decide) h
    · refine x_aload_n 0 dX28_read_35 rfl rfl rfl rfl rfl ?_
      refine y_Vi 125 (M := mX28_fail) (As := []) (st := []) dX28_read_36 ht rfl q3248 q3250 qs192 q395 q3251 rfl hmX28_fail rfl rfl rfl rfl rfl rfl rfl rfl (k_mono h (fun r5 w6 h => ?_))
      refine x_if_eq (t := 46) 7 dX28_read_39 rfl rfl (b_ite h (fun hc h => ?_) (fun hc h => ?_))
      · refine x_iconst 0 (z := 0) dX28_read_46 rfl (by decide) rfl ?_
        exact y_zret dX28_read_47 rfl (by decide) h
      · refine x_iconst 1 (z := 1) dX28_read_42 rfl (by decide) rfl ?_
        refine x_goto 4 (q := 47) dX28_read_43 rfl ?_
        exact y_zret dX28_read_47 rfl (by decide) h
abbrev LX28_next_11 (d n : Nat) (Q : Int → bW → Prop) (X : String → bW → Prop) (a0 : Int) (a1 : Int) (a2 : Int) (w : bW) : Prop := b_Y (d + 1) mX28_next n Q X 11 [(2, a0), (0, a1), (0, a2)] [] w
abbrev LX28_next_47 (d n : Nat) (Q : Int → bW → Prop) (X : String → bW → Prop) (a0 : Int) (a1 : Int) (w : bW) : Prop := b_Y (d + 1) mX28_next n Q X 47 [(2, a0), (0, a1), (9, 0)] [] w
abbrev LX28_next_183 (d n : Nat) (Q : Int → bW → Prop) (X : String → bW → Prop) (a0 : Int) (a1 : Int) (a2 : Int) (w : bW) : Prop := b_Y (d + 1) mX28_next n Q X 183 [(2, a0), (0, a1), (0, a2)] [] w
theorem rX28_next {d n : Nat} {w : bW} {Q : Int → bW → Prop} {X : String → bW → Prop} (hn : 254 ≤ n) (t : Int) (ht : b_is n t 0 26 20) (h : b_K d mX28_look [(2, t), (0, w t 17)] n w (fun r1 w2 => LX28_next_11 d n Q X t (w t 17) r1 w2) X) : b_K (d + 1) mX28_next [(2, t)] n w Q X := by
  refine k_of (by decide) rfl rfl rfl (ls := [(2, t), (9, 0), (9, 0)]) rfl ?_
  refine x_aload_n 0 dX28_next_0 rfl rfl rfl rfl rfl ?_
  refine y_get 69 17 (c := 26) (z := w t 17) dX28_next_1 ht rfl in_X28 q4190 rfl rfl rfl rfl rfl ?_
  refine x_istore_n 1 (ls' := [(2, t), (0, w t 17), (9, 0)]) dX28_next_4 rfl rfl rfl rfl ?_
  refine x_aload_n 0 dX28_next_5 rfl rfl rfl rfl rfl ?_
  refine x_iload_n 1 dX28_next_6 rfl rfl rfl ?_
  refine y_Vi 72 (M := mX28_look) (As := [(0, w t 17)]) (st := []) dX28_next_7 ht rfl q3172 q3174 qs183 q395 q3175 rfl hmX28_look rfl rfl rfl rfl rfl rfl rfl rfl (k_mono h (fun r1 w2 h => ?_))
  refine x_istore_n 2 (ls' := [(2, t), (0, w t 17), (0, r1)]) dX28_next_10 rfl rfl rfl rfl ?_
  exact x_fg (fgk (fgk (fgk (fg0)))) h
theorem sX28_next_11 {d n : Nat} {w : bW} {Q : Int → bW → Prop} {X : String → bW → Prop} (hn : 254 ≤ n) (a0 : Int) (a1 : Int) (a2 : Int) (ha0 : b_is n a0 0 26 20) (h : if a2 = 32 then (if a2 ≠ 35 then (b_K d mX28_look [(2, a0), (0, b_i (a1 + 1))] n w (fun r1 w2 => LX28_next_11 d n Q X a0 (b_i (a1 + 1)) r1 w2) X) else (LX28_next_47 d n Q X a0 a1 w)) else (if a2 = 9 then (if a2 ≠ 35 then (b_K d mX28_look [(2, a0), (0, b_i (a1 + 1))] n w (fun r3 w4 => LX28_next_11 d n Q X a0 (b_i (a1 + 1)) r3 w4) X) else (LX28_next_47 d n Q X a0 a1 w)) else (if a2 = 13 then (if a2 ≠ 35 then (b_K d mX28_look [(2, a0), (0, b_i (a1 + 1))] n w (fun r5 w6 => LX28_next_11 d n Q X a0 (b_i (a1 + 1)) r5 w6) X) else (LX28_next_47 d n Q X a0 a1 w)) else (if a2 = 10 then (if a2 ≠ 35 then (b_K d mX28_look [(2, a0), (0, b_i (a1 + 1))] n w (fun r7 w8 => LX28_next_11 d n Q X a0 (b_i (a1 + 1)) r7 w8) X) else (LX28_next_47 d n Q X a0 a1 w)) else (if a2 ≠ 35 then (if a2 = 123 then (Q 0 (b_up (b_up (b_up w a0 16 a1) a0 15 a2) a0 17 (b_i (a1 + 1)))) else (if a2 = 125 then (Q 0 (b_up (b_up (b_up w a0 16 a1) a0 15 a2) a0 17 (b_i (a1 + 1)))) else (if a2 = 40 then (Q 0 (b_up (b_up (b_up w a0 16 a1) a0 15 a2) a0 17 (b_i (a1 + 1)))) else (if a2 = 41 then (Q 0 (b_up (b_up (b_up w a0 16 a1) a0 15 a2) a0 17 (b_i (a1 + 1)))) else (if a2 ≠ 59 then (if a1 < (b_up w a0 16 a1) a0 1 then (if a2 ≠ 48 then (LX28_next_183 d n Q X a0 a1 a2 (b_up w a0 16 a1)) else (b_K d mX28_look [(2, a0), (0, b_i (a1 + 1))] n (b_up w a0 16 a1) (fun r9 w10 => if r9 ≠ 120 then (LX28_next_183 d n Q X a0 a1 a2 w10) else (b_K d mX28_bytes [(2, a0), (0, b_i (a1 + 2))] n w10 (fun r11 w12 => Q 0 w12) X)) X)) else (Q 0 (b_up (b_up (b_up w a0 16 a1) a0 15 0) a0 17 a1))) else (Q 0 (b_up (b_up (b_up w a0 16 a1) a0 15 a2) a0 17 (b_i (a1 + 1))))))))) else (if a2 ≠ 35 then (b_K d mX28_look [(2, a0), (0, b_i (a1 + 1))] n w (fun r13 w14 => LX28_next_11 d n Q X a0 (b_i (a1 + 1)) r13 w14) X) else (LX28_next_47 d n Q X a0 a1 w))))))) : LX28_next_11 d n Q X a0 a1 a2 w := by
  refine x_iload_n 2 dX28_next_11 rfl rfl rfl ?_
  refine x_bipush 32 (z := 32) dX28_next_12 rfl (by decide) rfl ?_
  refine x_icmp_eq (t := 41) 27 dX28_next_14 rfl rfl (b_ite h (fun hc h => ?_) (fun hc h => ?_))
  · refine x_iload_n 2 dX28_next_41 rfl rfl rfl ?_
    refine x_bipush 35 (z := 35) dX28_next_42 rfl (by decide) rfl ?_
    refine x_icmp_ne (t := 72) 28 dX28_next_44 rfl rfl (b_ite h (fun hc h => ?_) (fun hc h => ?_))
    · refine x_iinc 1 1 (ls' := [(2, a0), (0, b_i (a1 + 1)), (0, a2)]) dX28_next_72 rfl rfl rfl rfl ?_
      refine x_aload_n 0 dX28_next_75 rfl rfl rfl rfl rfl ?_
      refine x_iload_n 1 dX28_next_76 rfl rfl rfl ?_
      refine y_Vi 72 (M := mX28_look) (As := [(0, b_i (a1 + 1))]) (st := []) dX28_next_77 ha0 rfl q3172 q3174 qs183 q395 q3175 rfl hmX28_look rfl rfl rfl rfl rfl rfl rfl rfl (k_mono h (fun r1 w2 h => ?_))
      refine x_istore_n 2 (ls' := [(2, a0), (0, b_i (a1 + 1)), (0, r1)]) dX28_next_80 rfl rfl rfl rfl ?_
      refine x_goto (-70) (q := 11) dX28_next_81 rfl ?_
      exact x_fg (fgk (fgk (fgk (fg0)))) h
    · exact x_fg (fgk (fgk (fgd (fg0)))) h
  · refine x_iload_n 2 dX28_next_17 rfl rfl rfl ?_
    refine x_bipush 9 (z := 9) dX28_next_18 rfl (by decide) rfl ?_
    refine x_icmp_eq (t := 41) 21 dX28_next_20 rfl rfl (b_ite h (fun hc h => ?_) (fun hc h => ?_))
    · refine x_iload_n 2 dX28_next_41 rfl rfl rfl ?_
      refine x_bipush 35 (z := 35) dX28_next_42 rfl (by decide) rfl ?_
      refine x_icmp_ne (t := 72) 28 dX28_next_44 rfl rfl (b_ite h (fun hc h => ?_) (fun hc h => ?_))
      · refine x_iinc 1 1 (ls' := [(2, a0), (0, b_i (a1 + 1)), (0, a2)]) dX28_next_72 rfl rfl rfl rfl ?_
        refine x_aload_n 0 dX28_next_75 rfl rfl rfl rfl rfl ?_
        refine x_iload_n 1 dX28_next_76 rfl rfl rfl ?_
        refine y_Vi 72 (M := mX28_look) (As := [(0, b_i (a1 + 1))]) (st := []) dX28_next_77 ha0 rfl q3172 q3174 qs183 q395 q3175 rfl hmX28_look rfl rfl rfl rfl rfl rfl rfl rfl (k_mono h (fun r3 w4 h => ?_))
        refine x_istore_n 2 (ls' := [(2, a0), (0, b_i (a1 + 1)), (0, r3)]) dX28_next_80 rfl rfl rfl rfl ?_
        refine x_goto (-70) (q := 11) dX28_next_81 rfl ?_
        exact x_fg (fgk (fgk (fgk (fg0)))) h
      · exact x_fg (fgk (fgk (fgd (fg0)))) h
    · refine x_iload_n 2 dX28_next_23 rfl rfl rfl ?_
      refine x_bipush 13 (z := 13) dX28_next_24 rfl (by decide) rfl ?_
      refine x_icmp_eq (t := 41) 15 dX28_next_26 rfl rfl (b_ite h (fun hc h => ?_) (fun hc h => ?_))
      · refine x_iload_n 2 dX28_next_41 rfl rfl rfl ?_
        refine x_bipush 35 (z := 35) dX28_next_42 rfl (by decide) rfl ?_
        refine x_icmp_ne (t := 72) 28 dX28_next_44 rfl rfl (b_ite h (fun hc h => ?_) (fun hc h => ?_))
        · refine x_iinc 1 1 (ls' := [(2, a0), (0, b_i (a1 + 1)), (0, a2)]) dX28_next_72 rfl rfl rfl rfl ?_
          refine x_aload_n 0 dX28_next_75 rfl rfl rfl rfl rfl ?_
          refine x_iload_n 1 dX28_next_76 rfl rfl rfl ?_
          refine y_Vi 72 (M := mX28_look) (As := [(0, b_i (a1 + 1))]) (st := []) dX28_next_77 ha0 rfl q3172 q3174 qs183 q395 q3175 rfl hmX28_look rfl rfl rfl rfl rfl rfl rfl rfl (k_mono h (fun r5 w6 h => ?_))
          refine x_istore_n 2 (ls' := [(2, a0), (0, b_i (a1 + 1)), (0, r5)]) dX28_next_80 rfl rfl rfl rfl ?_
          refine x_goto (-70) (q := 11) dX28_next_81 rfl ?_
          exact x_fg (fgk (fgk (fgk (fg0)))) h
        · exact x_fg (fgk (fgk (fgd (fg0)))) h
      · refine x_iload_n 2 dX28_next_29 rfl rfl rfl ?_
        refine x_bipush 10 (z := 10) dX28_next_30 rfl (by decide) rfl ?_
        refine x_icmp_eq (t := 41) 9 dX28_next_32 rfl rfl (b_ite h (fun hc h => ?_) (fun hc h => ?_))
        · refine x_iload_n 2 dX28_next_41 rfl rfl rfl ?_
          refine x_bipush 35 (z := 35) dX28_next_42 rfl (by decide) rfl ?_
          refine x_icmp_ne (t := 72) 28 dX28_next_44 rfl rfl (b_ite h (fun hc h => ?_) (fun hc h => ?_))
          · refine x_iinc 1 1 (ls' := [(2, a0), (0, b_i (a1 + 1)), (0, a2)]) dX28_next_72 rfl rfl rfl rfl ?_
            refine x_aload_n 0 dX28_next_75 rfl rfl rfl rfl rfl ?_
            refine x_iload_n 1 dX28_next_76 rfl rfl rfl ?_
            refine y_Vi 72 (M := mX28_look) (As := [(0, b_i (a1 + 1))]) (st := []) dX28_next_77 ha0 rfl q3172 q3174 qs183 q395 q3175 rfl hmX28_look rfl rfl rfl rfl rfl rfl rfl rfl (k_mono h (fun r7 w8 h => ?_))
            refine x_istore_n 2 (ls' := [(2, a0), (0, b_i (a1 + 1)), (0, r7)]) dX28_next_80 rfl rfl rfl rfl ?_
            refine x_goto (-70) (q := 11) dX28_next_81 rfl ?_
            exact x_fg (fgk (fgk (fgk (fg0)))) h
          · exact x_fg (fgk (fgk (fgd (fg0)))) h
        · refine x_iload_n 2 dX28_next_35 rfl rfl rfl ?_
          refine x_bipush 35 (z := 35) dX28_next_36 rfl (by decide) rfl ?_
          refine x_icmp_ne (t := 84) 46 dX28_next_38 rfl rfl (b_ite h (fun hc h => ?_) (fun hc h => ?_))
          · refine x_aload_n 0 dX28_next_84 rfl rfl rfl rfl rfl ?_
            refine x_iload_n 1 dX28_next_85 rfl rfl rfl ?_
            refine x_put 76 16 (c := 26) dX28_next_86 ha0 rfl in_X28 tyX28_ok nmX28 q4189 rfl rfl rfl (Or.inl rfl) (Or.inl ⟨rfl, rfl⟩) rfl ?_
            refine x_iload_n 2 dX28_next_89 rfl rfl rfl ?_
            refine x_bipush 123 (z := 123) dX28_next_90 rfl (by decide) rfl ?_
            refine x_icmp_eq (t := 119) 27 dX28_next_92 rfl rfl (b_ite h (fun hc h => ?_) (fun hc h => ?_))
            · refine x_aload_n 0 dX28_next_119 rfl rfl rfl rfl rfl ?_
              refine x_iload_n 2 dX28_next_120 rfl rfl rfl ?_
              refine x_put 79 15 (c := 26) dX28_next_121 ha0 rfl in_X28 tyX28_ok nmX28 q4188 rfl rfl rfl (Or.inl rfl) (Or.inl ⟨rfl, rfl⟩) rfl ?_
              refine x_aload_n 0 dX28_next_124 rfl rfl rfl rfl rfl ?_
              refine x_iload_n 1 dX28_next_125 rfl rfl rfl ?_
              refine x_iconst 1 (z := 1) dX28_next_126 rfl (by decide) rfl ?_
              refine x_iadd dX28_next_127 rfl ?_
              refine x_put 69 17 (c := 26) dX28_next_128 ha0 rfl in_X28 tyX28_ok nmX28 q4190 rfl rfl rfl (Or.inl rfl) (Or.inl ⟨rfl, rfl⟩) rfl ?_
              refine x_goto 169 (q := 300) dX28_next_131 rfl ?_
              exact y_vret dX28_next_300 rfl h
            · refine x_iload_n 2 dX28_next_95 rfl rfl rfl ?_
              refine x_bipush 125 (z := 125) dX28_next_96 rfl (by decide) rfl ?_
              refine x_icmp_eq (t := 119) 21 dX28_next_98 rfl rfl (b_ite h (fun hc h => ?_) (fun hc h => ?_))
              · refine x_aload_n 0 dX28_next_119 rfl rfl rfl rfl rfl ?_
                refine x_iload_n 2 dX28_next_120 rfl rfl rfl ?_
                refine x_put 79 15 (c := 26) dX28_next_121 ha0 rfl in_X28 tyX28_ok nmX28 q4188 rfl rfl rfl (Or.inl rfl) (Or.inl ⟨rfl, rfl⟩) rfl ?_
                refine x_aload_n 0 dX28_next_124 rfl rfl rfl rfl rfl ?_
                refine x_iload_n 1 dX28_next_125 rfl rfl rfl ?_
                refine x_iconst 1 (z := 1) dX28_next_126 rfl (by decide) rfl ?_
                refine x_iadd dX28_next_127 rfl ?_
                refine x_put 69 17 (c := 26) dX28_next_128 ha0 rfl in_X28 tyX28_ok nmX28 q4190 rfl rfl rfl (Or.inl rfl) (Or.inl ⟨rfl, rfl⟩) rfl ?_
                refine x_goto 169 (q := 300) dX28_next_131 rfl ?_
                exact y_vret dX28_next_300 rfl h
              · refine x_iload_n 2 dX28_next_101 rfl rfl rfl ?_
                refine x_bipush 40 (z := 40) dX28_next_102 rfl (by decide) rfl ?_
                refine x_icmp_eq (t := 119) 15 dX28_next_104 rfl rfl (b_ite h (fun hc h => ?_) (fun hc h => ?_))
                · refine x_aload_n 0 dX28_next_119 rfl rfl rfl rfl rfl ?_
                  refine x_iload_n 2 dX28_next_120 rfl rfl rfl ?_
                  refine x_put 79 15 (c := 26) dX28_next_121 ha0 rfl in_X28 tyX28_ok nmX28 q4188 rfl rfl rfl (Or.inl rfl) (Or.inl ⟨rfl, rfl⟩) rfl ?_
                  refine x_aload_n 0 dX28_next_124 rfl rfl rfl rfl rfl ?_
                  refine x_iload_n 1 dX28_next_125 rfl rfl rfl ?_
                  refine x_iconst 1 (z := 1) dX28_next_126 rfl (by decide) rfl ?_
                  refine x_iadd dX28_next_127 rfl ?_
                  refine x_put 69 17 (c := 26) dX28_next_128 ha0 rfl in_X28 tyX28_ok nmX28 q4190 rfl rfl rfl (Or.inl rfl) (Or.inl ⟨rfl, rfl⟩) rfl ?_
                  refine x_goto 169 (q := 300) dX28_next_131 rfl ?_
                  exact y_vret dX28_next_300 rfl h
                · refine x_iload_n 2 dX28_next_107 rfl rfl rfl ?_
                  refine x_bipush 41 (z := 41) dX28_next_108 rfl (by decide) rfl ?_
                  refine x_icmp_eq (t := 119) 9 dX28_next_110 rfl rfl (b_ite h (fun hc h => ?_) (fun hc h => ?_))
                  · refine x_aload_n 0 dX28_next_119 rfl rfl rfl rfl rfl ?_
                    refine x_iload_n 2 dX28_next_120 rfl rfl rfl ?_
                    refine x_put 79 15 (c := 26) dX28_next_121 ha0 rfl in_X28 tyX28_ok nmX28 q4188 rfl rfl rfl (Or.inl rfl) (Or.inl ⟨rfl, rfl⟩) rfl ?_
                    refine x_aload_n 0 dX28_next_124 rfl rfl rfl rfl rfl ?_
                    refine x_iload_n 1 dX28_next_125 rfl rfl rfl ?_
                    refine x_iconst 1 (z := 1) dX28_next_126 rfl (by decide) rfl ?_
                    refine x_iadd dX28_next_127 rfl ?_
                    refine x_put 69 17 (c := 26) dX28_next_128 ha0 rfl in_X28 tyX28_ok nmX28 q4190 rfl rfl rfl (Or.inl rfl) (Or.inl ⟨rfl, rfl⟩) rfl ?_
                    refine x_goto 169 (q := 300) dX28_next_131 rfl ?_
                    exact y_vret dX28_next_300 rfl h
                  · refine x_iload_n 2 dX28_next_113 rfl rfl rfl ?_
                    refine x_bipush 59 (z := 59) dX28_next_114 rfl (by decide) rfl ?_
                    refine x_icmp_ne (t := 134) 18 dX28_next_116 rfl rfl (b_ite h (fun hc h => ?_) (fun hc h => ?_))
                    · refine x_iload_n 1 dX28_next_134 rfl rfl rfl ?_
                      refine x_aload_n 0 dX28_next_135 rfl rfl rfl rfl rfl ?_
                      refine y_get 65 1 (c := 26) (z := (b_up w a0 16 a1) a0 1) dX28_next_136 ha0 rfl in_X28 q4156 rfl rfl rfl rfl rfl ?_
                      refine x_icmp_lt (t := 155) 16 dX28_next_139 rfl rfl (b_ite h (fun hc h => ?_) (fun hc h => ?_))
                      · refine x_iload_n 2 dX28_next_155 rfl rfl rfl ?_
                        refine x_bipush 48 (z := 48) dX28_next_156 rfl (by decide) rfl ?_
                        refine x_icmp_ne (t := 183) 25 dX28_next_158 rfl rfl (b_ite h (fun hc h => ?_) (fun hc h => ?_))
                        · exact x_fg (fgk (fgk (fgk (fg0)))) h
                        · refine x_aload_n 0 dX28_next_161 rfl rfl rfl rfl rfl ?_
                          refine x_iload_n 1 dX28_next_162 rfl rfl rfl ?_
                          refine x_iconst 1 (z := 1) dX28_next_163 rfl (by decide) rfl ?_
                          refine x_iadd dX28_next_164 rfl ?_
                          refine y_Vi 72 (M := mX28_look) (As := [(0, b_i (a1 + 1))]) (st := []) dX28_next_165 ha0 rfl q3172 q3174 qs183 q395 q3175 rfl hmX28_look rfl rfl rfl rfl rfl rfl rfl rfl (k_mono h (fun r9 w10 h => ?_))
                          refine x_bipush 120 (z := 120) dX28_next_168 rfl (by decide) rfl ?_
                          refine x_icmp_ne (t := 183) 13 dX28_next_170 rfl rfl (b_ite h (fun hc h => ?_) (fun hc h => ?_))
                          · exact x_fg (fgk (fgk (fgk (fg0)))) h
                          · refine x_aload_n 0 dX28_next_173 rfl rfl rfl rfl rfl ?_
                            refine x_iload_n 1 dX28_next_174 rfl rfl rfl ?_
                            refine x_iconst 2 (z := 2) dX28_next_175 rfl (by decide) rfl ?_
                            refine x_iadd dX28_next_176 rfl ?_
                            refine y_Vv 82 (M := mX28_bytes) (As := [(0, b_i (a1 + 2))]) (st := []) dX28_next_177 ha0 rfl q3176 q3178 qs184 q395 q3179 rfl hmX28_bytes rfl rfl rfl rfl rfl rfl rfl (k_mono h (fun r11 w12 h => ?_))
                            refine x_goto 120 (q := 300) dX28_next_180 rfl ?_
                            exact y_vret dX28_next_300 rfl h
                      · refine x_aload_n 0 dX28_next_142 rfl rfl rfl rfl rfl ?_
                        refine x_iconst 0 (z := 0) dX28_next_143 rfl (by decide) rfl ?_
                        refine x_put 79 15 (c := 26) dX28_next_144 ha0 rfl in_X28 tyX28_ok nmX28 q4188 rfl rfl rfl (Or.inl rfl) (Or.inl ⟨rfl, rfl⟩) rfl ?_
                        refine x_aload_n 0 dX28_next_147 rfl rfl rfl rfl rfl ?_
                        refine x_iload_n 1 dX28_next_148 rfl rfl rfl ?_
                        refine x_put 69 17 (c := 26) dX28_next_149 ha0 rfl in_X28 tyX28_ok nmX28 q4190 rfl rfl rfl (Or.inl rfl) (Or.inl ⟨rfl, rfl⟩) rfl ?_
                        refine x_goto 148 (q := 300) dX28_next_152 rfl ?_
                        exact y_vret dX28_next_300 rfl h
                    · refine x_aload_n 0 dX28_next_119 rfl rfl rfl rfl rfl ?_
                      refine x_iload_n 2 dX28_next_120 rfl rfl rfl ?_
                      refine x_put 79 15 (c := 26) dX28_next_121 ha0 rfl in_X28 tyX28_ok nmX28 q4188 rfl rfl rfl (Or.inl rfl) (Or.inl ⟨rfl, rfl⟩) rfl ?_
                      refine x_aload_n 0 dX28_next_124 rfl rfl rfl rfl rfl ?_
                      refine x_iload_n 1 dX28_next_125 rfl rfl rfl ?_
                      refine x_iconst 1 (z := 1) dX28_next_126 rfl (by decide) rfl ?_
                      refine x_iadd dX28_next_127 rfl ?_
                      refine x_put 69 17 (c := 26) dX28_next_128 ha0 rfl in_X28 tyX28_ok nmX28 q4190 rfl rfl rfl (Or.inl rfl) (Or.inl ⟨rfl, rfl⟩) rfl ?_
                      refine x_goto 169 (q := 300) dX28_next_131 rfl ?_
                      exact y_vret dX28_next_300 rfl h
          · refine x_iload_n 2 dX28_next_41 rfl rfl rfl ?_
            refine x_bipush 35 (z := 35) dX28_next_42 rfl (by decide) rfl ?_
            refine x_icmp_ne (t := 72) 28 dX28_next_44 rfl rfl (b_ite h (fun hc h => ?_) (fun hc h => ?_))
            · refine x_iinc 1 1 (ls' := [(2, a0), (0, b_i (a1 + 1)), (0, a2)]) dX28_next_72 rfl rfl rfl rfl ?_
              refine x_aload_n 0 dX28_next_75 rfl rfl rfl rfl rfl ?_
              refine x_iload_n 1 dX28_next_76 rfl rfl rfl ?_
              refine y_Vi 72 (M := mX28_look) (As := [(0, b_i (a1 + 1))]) (st := []) dX28_next_77 ha0 rfl q3172 q3174 qs183 q395 q3175 rfl hmX28_look rfl rfl rfl rfl rfl rfl rfl rfl (k_mono h (fun r13 w14 h => ?_))
              refine x_istore_n 2 (ls' := [(2, a0), (0, b_i (a1 + 1)), (0, r13)]) dX28_next_80 rfl rfl rfl rfl ?_
              refine x_goto (-70) (q := 11) dX28_next_81 rfl ?_
              exact x_fg (fgk (fgk (fgk (fg0)))) h
            · exact x_fg (fgk (fgk (fgd (fg0)))) h
theorem sX28_next_47 {d n : Nat} {w : bW} {Q : Int → bW → Prop} {X : String → bW → Prop} (hn : 254 ≤ n) (a0 : Int) (a1 : Int) (ha0 : b_is n a0 0 26 20) (h : if w a0 1 ≤ a1 then (b_K d mX28_look [(2, a0), (0, a1)] n w (fun r1 w2 => LX28_next_11 d n Q X a0 a1 r1 w2) X) else ((0 ≤ a1 ∧ a1 < 16384) ∧ (if w (a0 + 3) a1 = 10 then (b_K d mX28_look [(2, a0), (0, a1)] n w (fun r5 w6 => LX28_next_11 d n Q X a0 a1 r5 w6) X) else (LX28_next_47 d n Q X a0 (b_i (a1 + 1)) w)))) : LX28_next_47 d n Q X a0 a1 w := by
  refine x_iload_n 1 dX28_next_47 rfl rfl rfl ?_
  refine x_aload_n 0 dX28_next_48 rfl rfl rfl rfl rfl ?_
  refine y_get 65 1 (c := 26) (z := w a0 1) dX28_next_49 ha0 rfl in_X28 q4156 rfl rfl rfl rfl rfl ?_
  refine x_icmp_ge (t := 75) 23 dX28_next_52 rfl rfl (b_ite h (fun hc h => ?_) (fun hc h => ?_))
  · refine x_aload_n 0 dX28_next_75 rfl rfl rfl rfl rfl ?_
    refine x_iload_n 1 dX28_next_76 rfl rfl rfl ?_
    refine y_Vi 72 (M := mX28_look) (As := [(0, a1)]) (st := []) dX28_next_77 ha0 rfl q3172 q3174 qs183 q395 q3175 rfl hmX28_look rfl rfl rfl rfl rfl rfl rfl rfl (k_mono h (fun r1 w2 h => ?_))
    refine x_istore_n 2 (ls' := [(2, a0), (0, a1), (0, r1)]) dX28_next_80 rfl rfl rfl rfl ?_
    refine x_goto (-70) (q := 11) dX28_next_81 rfl ?_
    exact x_fg (fgk (fgk (fgk (fg0)))) h
  · refine x_aload_n 0 dX28_next_55 rfl rfl rfl rfl rfl ?_
    refine y_getO 9 0 (c := 26) dX28_next_56 ha0 rfl in_X28 q4154 rfl rfl rfl (fun h5 hf => of_X28_0 (Nat.le_trans (Nat.le_of_ble_eq_true rfl) hn) h5 ha0 hf) rfl (fun e3 => ?_)
    refine x_iload_n 1 dX28_next_59 rfl rfl rfl ?_
    obtain ⟨e4, h⟩ := h
    refine y_bald (z := w (a0 + 3) a1) dX28_next_60 ⟨16384, e3, e4⟩ rfl rfl ?_
    refine x_bipush 10 (z := 10) dX28_next_61 rfl (by decide) rfl ?_
    refine x_icmp_eq (t := 75) 12 dX28_next_63 rfl rfl (b_ite h (fun hc h => ?_) (fun hc h => ?_))
    · refine x_aload_n 0 dX28_next_75 rfl rfl rfl rfl rfl ?_
      refine x_iload_n 1 dX28_next_76 rfl rfl rfl ?_
      refine y_Vi 72 (M := mX28_look) (As := [(0, a1)]) (st := []) dX28_next_77 ha0 rfl q3172 q3174 qs183 q395 q3175 rfl hmX28_look rfl rfl rfl rfl rfl rfl rfl rfl (k_mono h (fun r5 w6 h => ?_))
      refine x_istore_n 2 (ls' := [(2, a0), (0, a1), (0, r5)]) dX28_next_80 rfl rfl rfl rfl ?_
      refine x_goto (-70) (q := 11) dX28_next_81 rfl ?_
      exact x_fg (fgk (fgk (fgk (fg0)))) h
    · refine x_iinc 1 1 (ls' := [(2, a0), (0, b_i (a1 + 1)), (9, 0)]) dX28_next_66 rfl rfl rfl rfl ?_
      refine x_goto (-22) (q := 47) dX28_next_69 rfl ?_
      exact x_fg (fgk (fgk (fgk (fg0)))) h
theorem sX28_next_183 {d n : Nat} {w : bW} {Q : Int → bW → Prop} {X : String → bW → Prop} (hn : 254 ≤ n) (a0 : Int) (a1 : Int) (a2 : Int) (ha0 : b_is n a0 0 26 20) (h : if a2 = 45 then (if a2 ≠ 45 then (b_K d mX28_digits [(2, a0), (0, a1)] n w (fun r1 w2 => Q 0 w2) X) else (b_K d mX28_digits [(2, a0), (0, b_i (a1 + 1))] n w (fun r3 w4 => Q 0 w4) X)) else (b_K d mX28_isDigit [(0, a2)] n w (fun r5 w6 => if r5 = 0 then (if a2 ≠ 34 then (b_K d mX28_isLetter [(0, a2)] n w6 (fun r7 w8 => if r7 = 0 then (b_K d mX28_named [(2, a0), (0, b_i (a1 + 1)), (0, b_i (a1 + 32))] n w8 (fun r9 w10 => if a2 ≠ 37 then (Q 0 (b_up (b_up w10 a0 17 r9) a0 15 (-1))) else (if (b_up w10 a0 17 r9) a0 17 ≤ b_i (a1 + 1) then (Q 0 (b_up (b_up w10 a0 17 r9) a0 15 (-1))) else (Q 0 (b_up (b_up w10 a0 17 r9) a0 15 5)))) X) else (b_K d mX28_named [(2, a0), (0, a1), (0, (b_up w8 a0 15 4) a0 1)] n (b_up w8 a0 15 4) (fun r11 w12 => Q 0 (b_up w12 a0 17 r11)) X)) X) else (b_K d mX28_string [(2, a0), (0, b_i (a1 + 1))] n w6 (fun r13 w14 => Q 0 w14) X)) else (if a2 ≠ 45 then (b_K d mX28_digits [(2, a0), (0, a1)] n w6 (fun r15 w16 => Q 0 w16) X) else (b_K d mX28_digits [(2, a0), (0, b_i (a1 + 1))] n w6 (fun r17 w18 => Q 0 w18) X))) X)) : LX28_next_183 d n Q X a0 a1 a2 w := by
  refine x_iload_n 2 dX28_next_183 rfl rfl rfl ?_
  refine x_bipush 45 (z := 45) dX28_next_184 rfl (by decide) rfl ?_
  refine x_icmp_eq (t := 196) 10 dX28_next_186 rfl rfl (b_ite h (fun hc h => ?_) (fun hc h => ?_))
  · refine x_aload_n 0 dX28_next_196 rfl rfl rfl rfl rfl ?_
    refine x_iload_n 2 dX28_next_197 rfl rfl rfl ?_
    refine x_bipush 45 (z := 45) dX28_next_198 rfl (by decide) rfl ?_
    refine x_icmp_ne (t := 209) 9 dX28_next_200 rfl rfl (b_ite h (fun hc h => ?_) (fun hc h => ?_))
    · refine x_iload_n 1 dX28_next_209 rfl rfl rfl ?_
      refine y_Vv 86 (M := mX28_digits) (As := [(0, a1)]) (st := []) dX28_next_210 ha0 rfl q3186 q3188 qs185 q395 q3189 rfl hmX28_digits rfl rfl rfl rfl rfl rfl rfl (k_mono h (fun r1 w2 h => ?_))
      refine x_goto 87 (q := 300) dX28_next_213 rfl ?_
      exact y_vret dX28_next_300 rfl h
    · refine x_iload_n 1 dX28_next_203 rfl rfl rfl ?_
      refine x_iconst 1 (z := 1) dX28_next_204 rfl (by decide) rfl ?_
      refine x_iadd dX28_next_205 rfl ?_
      refine x_goto 4 (q := 210) dX28_next_206 rfl ?_
      refine y_Vv 86 (M := mX28_digits) (As := [(0, b_i (a1 + 1))]) (st := []) dX28_next_210 ha0 rfl q3186 q3188 qs185 q395 q3189 rfl hmX28_digits rfl rfl rfl rfl rfl rfl rfl (k_mono h (fun r3 w4 h => ?_))
      refine x_goto 87 (q := 300) dX28_next_213 rfl ?_
      exact y_vret dX28_next_300 rfl h
  · refine x_iload_n 2 dX28_next_189 rfl rfl rfl ?_
    refine y_Si 61 (M := mX28_isDigit) (As := [(0, a2)]) (st := []) dX28_next_190 q3183 q3184 q395 q3185 hmX28_isDigit rfl rfl rfl rfl rfl rfl rfl rfl (k_mono h (fun r5 w6 h => ?_))
    refine x_if_eq (t := 216) 23 dX28_next_193 rfl rfl (b_ite h (fun hc h => ?_) (fun hc h => ?_))
    · refine x_iload_n 2 dX28_next_216 rfl rfl rfl ?_
      refine x_bipush 34 (z := 34) dX28_next_217 rfl (by decide) rfl ?_
      refine x_icmp_ne (t := 232) 13 dX28_next_219 rfl rfl (b_ite h (fun hc h => ?_) (fun hc h => ?_))
      · refine x_iload_n 2 dX28_next_232 rfl rfl rfl ?_
        refine y_Si 92 (M := mX28_isLetter) (As := [(0, a2)]) (st := []) dX28_next_233 q3194 q3195 q395 q3196 hmX28_isLetter rfl rfl rfl rfl rfl rfl rfl rfl (k_mono h (fun r7 w8 h => ?_))
        refine x_if_eq (t := 260) 24 dX28_next_236 rfl rfl (b_ite h (fun hc h => ?_) (fun hc h => ?_))
        · refine x_aload_n 0 dX28_next_260 rfl rfl rfl rfl rfl ?_
          refine x_aload_n 0 dX28_next_261 rfl rfl rfl rfl rfl ?_
          refine x_iload_n 1 dX28_next_262 rfl rfl rfl ?_
          refine x_iconst 1 (z := 1) dX28_next_263 rfl (by decide) rfl ?_
          refine x_iadd dX28_next_264 rfl ?_
          refine x_iload_n 1 dX28_next_265 rfl rfl rfl ?_
          refine x_bipush 32 (z := 32) dX28_next_266 rfl (by decide) rfl ?_
          refine x_iadd dX28_next_268 rfl ?_
          refine y_Vi 95 (M := mX28_named) (As := [(0, b_i (a1 + 1)), (0, b_i (a1 + 32))]) (st := [(2, a0)]) dX28_next_269 ha0 rfl q3197 q3199 qs187 q395 q3200 rfl hmX28_named rfl rfl rfl rfl rfl rfl rfl rfl (k_mono h (fun r9 w10 h => ?_))
          refine x_put 69 17 (c := 26) dX28_next_272 ha0 rfl in_X28 tyX28_ok nmX28 q4190 rfl rfl rfl (Or.inl rfl) (Or.inl ⟨rfl, rfl⟩) rfl ?_
          refine x_aload_n 0 dX28_next_275 rfl rfl rfl rfl rfl ?_
          refine x_iload_n 2 dX28_next_276 rfl rfl rfl ?_
          refine x_bipush 37 (z := 37) dX28_next_277 rfl (by decide) rfl ?_
          refine x_icmp_ne (t := 296) 17 dX28_next_279 rfl rfl (b_ite h (fun hc h => ?_) (fun hc h => ?_))
          · refine x_iconst (-1) (z := (-1)) dX28_next_296 rfl (by decide) rfl ?_
            refine x_put 79 15 (c := 26) dX28_next_297 ha0 rfl in_X28 tyX28_ok nmX28 q4188 rfl rfl rfl (Or.inl rfl) (Or.inl ⟨rfl, rfl⟩) rfl ?_
            exact y_vret dX28_next_300 rfl h
          · refine x_aload_n 0 dX28_next_282 rfl rfl rfl rfl rfl ?_
            refine y_get 69 17 (c := 26) (z := (b_up w10 a0 17 r9) a0 17) dX28_next_283 ha0 rfl in_X28 q4190 rfl rfl rfl rfl rfl ?_
            refine x_iload_n 1 dX28_next_286 rfl rfl rfl ?_
            refine x_iconst 1 (z := 1) dX28_next_287 rfl (by decide) rfl ?_
            refine x_iadd dX28_next_288 rfl ?_
            refine x_icmp_le (t := 296) 7 dX28_next_289 rfl rfl (b_ite h (fun hc h => ?_) (fun hc h => ?_))
            · refine x_iconst (-1) (z := (-1)) dX28_next_296 rfl (by decide) rfl ?_
              refine x_put 79 15 (c := 26) dX28_next_297 ha0 rfl in_X28 tyX28_ok nmX28 q4188 rfl rfl rfl (Or.inl rfl) (Or.inl ⟨rfl, rfl⟩) rfl ?_
              exact y_vret dX28_next_300 rfl h
            · refine x_iconst 5 (z := 5) dX28_next_292 rfl (by decide) rfl ?_
              refine x_goto 4 (q := 297) dX28_next_293 rfl ?_
              refine x_put 79 15 (c := 26) dX28_next_297 ha0 rfl in_X28 tyX28_ok nmX28 q4188 rfl rfl rfl (Or.inl rfl) (Or.inl ⟨rfl, rfl⟩) rfl ?_
              exact y_vret dX28_next_300 rfl h
        · refine x_aload_n 0 dX28_next_239 rfl rfl rfl rfl rfl ?_
          refine x_iconst 4 (z := 4) dX28_next_240 rfl (by decide) rfl ?_
          refine x_put 79 15 (c := 26) dX28_next_241 ha0 rfl in_X28 tyX28_ok nmX28 q4188 rfl rfl rfl (Or.inl rfl) (Or.inl ⟨rfl, rfl⟩) rfl ?_
          refine x_aload_n 0 dX28_next_244 rfl rfl rfl rfl rfl ?_
          refine x_aload_n 0 dX28_next_245 rfl rfl rfl rfl rfl ?_
          refine x_iload_n 1 dX28_next_246 rfl rfl rfl ?_
          refine x_aload_n 0 dX28_next_247 rfl rfl rfl rfl rfl ?_
          refine y_get 65 1 (c := 26) (z := (b_up w8 a0 15 4) a0 1) dX28_next_248 ha0 rfl in_X28 q4156 rfl rfl rfl rfl rfl ?_
          refine y_Vi 95 (M := mX28_named) (As := [(0, a1), (0, (b_up w8 a0 15 4) a0 1)]) (st := [(2, a0)]) dX28_next_251 ha0 rfl q3197 q3199 qs187 q395 q3200 rfl hmX28_named rfl rfl rfl rfl rfl rfl rfl rfl (k_mono h (fun r11 w12 h => ?_))
          refine x_put 69 17 (c := 26) dX28_next_254 ha0 rfl in_X28 tyX28_ok nmX28 q4190 rfl rfl rfl (Or.inl rfl) (Or.inl ⟨rfl, rfl⟩) rfl ?_
          refine x_goto 43 (q := 300) dX28_next_257 rfl ?_
          exact y_vret dX28_next_300 rfl h
      · refine x_aload_n 0 dX28_next_222 rfl rfl rfl rfl rfl ?_
        refine x_iload_n 1 dX28_next_223 rfl rfl rfl ?_
        refine x_iconst 1 (z := 1) dX28_next_224 rfl (by decide) rfl ?_
        refine x_iadd dX28_next_225 rfl ?_
        refine y_Vv 89 (M := mX28_string) (As := [(0, b_i (a1 + 1))]) (st := []) dX28_next_226 ha0 rfl q3190 q3192 qs186 q395 q3193 rfl hmX28_string rfl rfl rfl rfl rfl rfl rfl (k_mono h (fun r13 w14 h => ?_))
        refine x_goto 71 (q := 300) dX28_next_229 rfl ?_
        exact y_vret dX28_next_300 rfl h
    · refine x_aload_n 0 dX28_next_196 rfl rfl rfl rfl rfl ?_
      refine x_iload_n 2 dX28_next_197 rfl rfl rfl ?_
      refine x_bipush 45 (z := 45) dX28_next_198 rfl (by decide) rfl ?_
      refine x_icmp_ne (t := 209) 9 dX28_next_200 rfl rfl (b_ite h (fun hc h => ?_) (fun hc h => ?_))
      · refine x_iload_n 1 dX28_next_209 rfl rfl rfl ?_
        refine y_Vv 86 (M := mX28_digits) (As := [(0, a1)]) (st := []) dX28_next_210 ha0 rfl q3186 q3188 qs185 q395 q3189 rfl hmX28_digits rfl rfl rfl rfl rfl rfl rfl (k_mono h (fun r15 w16 h => ?_))
        refine x_goto 87 (q := 300) dX28_next_213 rfl ?_
        exact y_vret dX28_next_300 rfl h
      · refine x_iload_n 1 dX28_next_203 rfl rfl rfl ?_
        refine x_iconst 1 (z := 1) dX28_next_204 rfl (by decide) rfl ?_
        refine x_iadd dX28_next_205 rfl ?_
        refine x_goto 4 (q := 210) dX28_next_206 rfl ?_
        refine y_Vv 86 (M := mX28_digits) (As := [(0, b_i (a1 + 1))]) (st := []) dX28_next_210 ha0 rfl q3186 q3188 qs185 q395 q3189 rfl hmX28_digits rfl rfl rfl rfl rfl rfl rfl (k_mono h (fun r17 w18 h => ?_))
        refine x_goto 87 (q := 300) dX28_next_213 rfl ?_
        exact y_vret dX28_next_300 rfl h
theorem rX28_look {d n : Nat} {w : bW} {Q : Int → bW → Prop} {X : String → bW → Prop} (hn : 254 ≤ n) (t : Int) (a1 : Int) (ht : b_is n t 0 26 20) (h : if w t 1 ≤ a1 then (Q (-1) w) else ((0 ≤ a1 ∧ a1 < 16384) ∧ (Q (b_and (w (t + 3) a1) 255) w))) : b_K (d + 1) mX28_look [(2, t), (0, a1)] n w Q X := by
  refine k_of (by decide) rfl rfl rfl (ls := [(2, t), (0, a1)]) rfl ?_
  refine x_iload_n 1 dX28_look_0 rfl rfl rfl ?_
  refine x_aload_n 0 dX28_look_1 rfl rfl rfl rfl rfl ?_
  refine y_get 65 1 (c := 26) (z := w t 1) dX28_look_2 ht rfl in_X28 q4156 rfl rfl rfl rfl rfl ?_
  refine x_icmp_ge (t := 21) 16 dX28_look_5 rfl rfl (b_ite h (fun hc h => ?_) (fun hc h => ?_))
  · refine x_iconst (-1) (z := (-1)) dX28_look_21 rfl (by decide) rfl ?_
    exact y_iret dX28_look_22 rfl h
  · refine x_aload_n 0 dX28_look_8 rfl rfl rfl rfl rfl ?_
    refine y_getO 9 0 (c := 26) dX28_look_9 ht rfl in_X28 q4154 rfl rfl rfl (fun h5 hf => of_X28_0 (Nat.le_trans (Nat.le_of_ble_eq_true rfl) hn) h5 ht hf) rfl (fun e1 => ?_)
    refine x_iload_n 1 dX28_look_12 rfl rfl rfl ?_
    obtain ⟨e2, h⟩ := h
    refine y_bald (z := w (t + 3) a1) dX28_look_13 ⟨16384, e1, e2⟩ rfl rfl ?_
    refine x_sipush 255 (z := 255) dX28_look_14 rfl (by decide) rfl ?_
    refine x_iand dX28_look_17 rfl ?_
    refine x_goto 4 (q := 22) dX28_look_18 rfl ?_
    exact y_iret dX28_look_22 rfl h
abbrev LX28_bytes_2 (d n : Nat) (Q : Int → bW → Prop) (X : String → bW → Prop) (a0 : Int) (a1 : Int) (a2 : Int) (w : bW) : Prop := b_Y (d + 1) mX28_bytes n Q X 2 [(2, a0), (0, a1), (0, a2)] [] w
theorem rX28_bytes {d n : Nat} {w : bW} {Q : Int → bW → Prop} {X : String → bW → Prop} (t : Int) (a1 : Int) (ht : b_is n t 0 26 20) (h : LX28_bytes_2 d n Q X t a1 a1 w) : b_K (d + 1) mX28_bytes [(2, t), (0, a1)] n w Q X := by
  refine k_of (by decide) rfl rfl rfl (ls := [(2, t), (0, a1), (9, 0)]) rfl ?_
  refine x_iload_n 1 dX28_bytes_0 rfl rfl rfl ?_
  refine x_istore_n 2 (ls' := [(2, t), (0, a1), (0, a1)]) dX28_bytes_1 rfl rfl rfl rfl ?_
  exact x_fg (fgk (fgk (fgk (fg0)))) h
theorem sX28_bytes_2 {d n : Nat} {w : bW} {Q : Int → bW → Prop} {X : String → bW → Prop} (a0 : Int) (a1 : Int) (a2 : Int) (ha0 : b_is n a0 0 26 20) (h : b_K d mX28_look [(2, a0), (0, a2)] n w (fun r1 w2 => b_K d mX28_hex [(0, r1)] n w2 (fun r3 w4 => if r3 < 0 then (if b_rem (b_i (a2 - a1)) 2 ≠ 0 then (Q 0 (b_up (b_up w4 a0 15 (-1)) a0 17 a2)) else (Q 0 (b_up (b_up w4 a0 15 3) a0 17 a2))) else (LX28_bytes_2 d n Q X a0 a1 (b_i (a2 + 1)) w4)) X) X) : LX28_bytes_2 d n Q X a0 a1 a2 w := by
  refine x_aload_n 0 dX28_bytes_2 rfl rfl rfl rfl rfl ?_
  refine x_iload_n 2 dX28_bytes_3 rfl rfl rfl ?_
  refine y_Vi 72 (M := mX28_look) (As := [(0, a2)]) (st := []) dX28_bytes_4 ha0 rfl q3172 q3174 qs183 q395 q3175 rfl hmX28_look rfl rfl rfl rfl rfl rfl rfl rfl (k_mono h (fun r1 w2 h => ?_))
  refine y_Si 99 (M := mX28_hex) (As := [(0, r1)]) (st := []) dX28_bytes_7 q3180 q3181 q395 q3182 hmX28_hex rfl rfl rfl rfl rfl rfl rfl rfl (k_mono h (fun r3 w4 h => ?_))
  refine x_if_lt (t := 19) 9 dX28_bytes_10 rfl rfl (b_ite h (fun hc h => ?_) (fun hc h => ?_))
  · refine x_aload_n 0 dX28_bytes_19 rfl rfl rfl rfl rfl ?_
    refine x_iload_n 2 dX28_bytes_20 rfl rfl rfl ?_
    refine x_iload_n 1 dX28_bytes_21 rfl rfl rfl ?_
    refine x_isub dX28_bytes_22 rfl ?_
    refine x_iconst 2 (z := 2) dX28_bytes_23 rfl (by decide) rfl ?_
    refine x_irem dX28_bytes_24 (by decide) rfl ?_
    refine x_if_ne (t := 32) 7 dX28_bytes_25 rfl rfl (b_ite h (fun hc h => ?_) (fun hc h => ?_))
    · refine x_iconst (-1) (z := (-1)) dX28_bytes_32 rfl (by decide) rfl ?_
      refine x_put 79 15 (c := 26) dX28_bytes_33 ha0 rfl in_X28 tyX28_ok nmX28 q4188 rfl rfl rfl (Or.inl rfl) (Or.inl ⟨rfl, rfl⟩) rfl ?_
      refine x_aload_n 0 dX28_bytes_36 rfl rfl rfl rfl rfl ?_
      refine x_iload_n 2 dX28_bytes_37 rfl rfl rfl ?_
      refine x_put 69 17 (c := 26) dX28_bytes_38 ha0 rfl in_X28 tyX28_ok nmX28 q4190 rfl rfl rfl (Or.inl rfl) (Or.inl ⟨rfl, rfl⟩) rfl ?_
      exact y_vret dX28_bytes_41 rfl h
    · refine x_iconst 3 (z := 3) dX28_bytes_28 rfl (by decide) rfl ?_
      refine x_goto 4 (q := 33) dX28_bytes_29 rfl ?_
      refine x_put 79 15 (c := 26) dX28_bytes_33 ha0 rfl in_X28 tyX28_ok nmX28 q4188 rfl rfl rfl (Or.inl rfl) (Or.inl ⟨rfl, rfl⟩) rfl ?_
      refine x_aload_n 0 dX28_bytes_36 rfl rfl rfl rfl rfl ?_
      refine x_iload_n 2 dX28_bytes_37 rfl rfl rfl ?_
      refine x_put 69 17 (c := 26) dX28_bytes_38 ha0 rfl in_X28 tyX28_ok nmX28 q4190 rfl rfl rfl (Or.inl rfl) (Or.inl ⟨rfl, rfl⟩) rfl ?_
      exact y_vret dX28_bytes_41 rfl h
  · refine x_iinc 2 1 (ls' := [(2, a0), (0, a1), (0, b_i (a2 + 1))]) dX28_bytes_13 rfl rfl rfl rfl ?_
    refine x_goto (-14) (q := 2) dX28_bytes_16 rfl ?_
    exact x_fg (fgk (fgk (fgk (fg0)))) h
theorem rX28_hex {d n : Nat} {w : bW} {Q : Int → bW → Prop} {X : String → bW → Prop} (a0 : Int) (h : b_K d mX28_isDigit [(0, a0)] n w (fun r1 w2 => if r1 = 0 then (if a0 < 97 then (if a0 < 65 then (Q (-1) w2) else (if 70 < a0 then (Q (-1) w2) else (Q (b_i ((b_i (a0 - 65)) + 10)) w2))) else (if 102 < a0 then (if a0 < 65 then (Q (-1) w2) else (if 70 < a0 then (Q (-1) w2) else (Q (b_i ((b_i (a0 - 65)) + 10)) w2))) else (Q (b_i ((b_i (a0 - 97)) + 10)) w2))) else (Q (b_i (a0 - 48)) w2)) X) : b_K (d + 1) mX28_hex [(0, a0)] n w Q X := by
  refine k_of (by decide) rfl rfl rfl (ls := [(0, a0)]) rfl ?_
  refine x_iload_n 0 dX28_hex_0 rfl rfl rfl ?_
  refine y_Si 61 (M := mX28_isDigit) (As := [(0, a0)]) (st := []) dX28_hex_1 q3183 q3184 q395 q3185 hmX28_isDigit rfl rfl rfl rfl rfl rfl rfl rfl (k_mono h (fun r1 w2 h => ?_))
  refine x_if_eq (t := 14) 10 dX28_hex_4 rfl rfl (b_ite h (fun hc h => ?_) (fun hc h => ?_))
  · refine x_iload_n 0 dX28_hex_14 rfl rfl rfl ?_
    refine x_bipush 97 (z := 97) dX28_hex_15 rfl (by decide) rfl ?_
    refine x_icmp_lt (t := 36) 19 dX28_hex_17 rfl rfl (b_ite h (fun hc h => ?_) (fun hc h => ?_))
    · refine x_iload_n 0 dX28_hex_36 rfl rfl rfl ?_
      refine x_bipush 65 (z := 65) dX28_hex_37 rfl (by decide) rfl ?_
      refine x_icmp_lt (t := 58) 19 dX28_hex_39 rfl rfl (b_ite h (fun hc h => ?_) (fun hc h => ?_))
      · refine x_iconst (-1) (z := (-1)) dX28_hex_58 rfl (by decide) rfl ?_
        exact y_iret dX28_hex_59 rfl h
      · refine x_iload_n 0 dX28_hex_42 rfl rfl rfl ?_
        refine x_bipush 70 (z := 70) dX28_hex_43 rfl (by decide) rfl ?_
        refine x_icmp_gt (t := 58) 13 dX28_hex_45 rfl rfl (b_ite h (fun hc h => ?_) (fun hc h => ?_))
        · refine x_iconst (-1) (z := (-1)) dX28_hex_58 rfl (by decide) rfl ?_
          exact y_iret dX28_hex_59 rfl h
        · refine x_iload_n 0 dX28_hex_48 rfl rfl rfl ?_
          refine x_bipush 65 (z := 65) dX28_hex_49 rfl (by decide) rfl ?_
          refine x_isub dX28_hex_51 rfl ?_
          refine x_bipush 10 (z := 10) dX28_hex_52 rfl (by decide) rfl ?_
          refine x_iadd dX28_hex_54 rfl ?_
          refine x_goto 4 (q := 59) dX28_hex_55 rfl ?_
          exact y_iret dX28_hex_59 rfl h
    · refine x_iload_n 0 dX28_hex_20 rfl rfl rfl ?_
      refine x_bipush 102 (z := 102) dX28_hex_21 rfl (by decide) rfl ?_
      refine x_icmp_gt (t := 36) 13 dX28_hex_23 rfl rfl (b_ite h (fun hc h => ?_) (fun hc h => ?_))
      · refine x_iload_n 0 dX28_hex_36 rfl rfl rfl ?_
        refine x_bipush 65 (z := 65) dX28_hex_37 rfl (by decide) rfl ?_
        refine x_icmp_lt (t := 58) 19 dX28_hex_39 rfl rfl (b_ite h (fun hc h => ?_) (fun hc h => ?_))
        · refine x_iconst (-1) (z := (-1)) dX28_hex_58 rfl (by decide) rfl ?_
          exact y_iret dX28_hex_59 rfl h
        · refine x_iload_n 0 dX28_hex_42 rfl rfl rfl ?_
          refine x_bipush 70 (z := 70) dX28_hex_43 rfl (by decide) rfl ?_
          refine x_icmp_gt (t := 58) 13 dX28_hex_45 rfl rfl (b_ite h (fun hc h => ?_) (fun hc h => ?_))
          · refine x_iconst (-1) (z := (-1)) dX28_hex_58 rfl (by decide) rfl ?_
            exact y_iret dX28_hex_59 rfl h
          · refine x_iload_n 0 dX28_hex_48 rfl rfl rfl ?_
            refine x_bipush 65 (z := 65) dX28_hex_49 rfl (by decide) rfl ?_
            refine x_isub dX28_hex_51 rfl ?_
            refine x_bipush 10 (z := 10) dX28_hex_52 rfl (by decide) rfl ?_
            refine x_iadd dX28_hex_54 rfl ?_
            refine x_goto 4 (q := 59) dX28_hex_55 rfl ?_
            exact y_iret dX28_hex_59 rfl h
      · refine x_iload_n 0 dX28_hex_26 rfl rfl rfl ?_
        refine x_bipush 97 (z := 97) dX28_hex_27 rfl (by decide) rfl ?_
        refine x_isub dX28_hex_29 rfl ?_
        refine x_bipush 10 (z := 10) dX28_hex_30 rfl (by decide) rfl ?_
        refine x_iadd dX28_hex_32 rfl ?_
        refine x_goto 26 (q := 59) dX28_hex_33 rfl ?_
        exact y_iret dX28_hex_59 rfl h
  · refine x_iload_n 0 dX28_hex_7 rfl rfl rfl ?_
    refine x_bipush 48 (z := 48) dX28_hex_8 rfl (by decide) rfl ?_
    refine x_isub dX28_hex_10 rfl ?_
    refine x_goto 48 (q := 59) dX28_hex_11 rfl ?_
    exact y_iret dX28_hex_59 rfl h
theorem rX28_isDigit {d n : Nat} {w : bW} {Q : Int → bW → Prop} {X : String → bW → Prop} (a0 : Int) (h : if a0 < 48 then (Q 0 w) else (if 57 < a0 then (Q 0 w) else (Q 1 w))) : b_K (d + 1) mX28_isDigit [(0, a0)] n w Q X := by
  refine k_of (by decide) rfl rfl rfl (ls := [(0, a0)]) rfl ?_
  refine x_iload_n 0 dX28_isDigit_0 rfl rfl rfl ?_
  refine x_bipush 48 (z := 48) dX28_isDigit_1 rfl (by decide) rfl ?_
  refine x_icmp_lt (t := 16) 13 dX28_isDigit_3 rfl rfl (b_ite h (fun hc h => ?_) (fun hc h => ?_))
  · refine x_iconst 0 (z := 0) dX28_isDigit_16 rfl (by decide) rfl ?_
    exact y_zret dX28_isDigit_17 rfl (by decide) h
  · refine x_iload_n 0 dX28_isDigit_6 rfl rfl rfl ?_
    refine x_bipush 57 (z := 57) dX28_isDigit_7 rfl (by decide) rfl ?_
    refine x_icmp_gt (t := 16) 7 dX28_isDigit_9 rfl rfl (b_ite h (fun hc h => ?_) (fun hc h => ?_))
    · refine x_iconst 0 (z := 0) dX28_isDigit_16 rfl (by decide) rfl ?_
      exact y_zret dX28_isDigit_17 rfl (by decide) h
    · refine x_iconst 1 (z := 1) dX28_isDigit_12 rfl (by decide) rfl ?_
      refine x_goto 4 (q := 17) dX28_isDigit_13 rfl ?_
      exact y_zret dX28_isDigit_17 rfl (by decide) h
abbrev LX28_digits_2 (d n : Nat) (Q : Int → bW → Prop) (X : String → bW → Prop) (a0 : Int) (a1 : Int) (a2 : Int) (w : bW) : Prop := b_Y (d + 1) mX28_digits n Q X 2 [(2, a0), (0, a1), (0, a2)] [] w
theorem rX28_digits {d n : Nat} {w : bW} {Q : Int → bW → Prop} {X : String → bW → Prop} (t : Int) (a1 : Int) (ht : b_is n t 0 26 20) (h : LX28_digits_2 d n Q X t a1 a1 w) : b_K (d + 1) mX28_digits [(2, t), (0, a1)] n w Q X := by
  refine k_of (by decide) rfl rfl rfl (ls := [(2, t), (0, a1), (9, 0)]) rfl ?_
  refine x_iload_n 1 dX28_digits_0 rfl rfl rfl ?_
  refine x_istore_n 2 (ls' := [(2, t), (0, a1), (0, a1)]) dX28_digits_1 rfl rfl rfl rfl ?_
  exact x_fg (fgk (fgk (fgk (fg0)))) h
theorem sX28_digits_2 {d n : Nat} {w : bW} {Q : Int → bW → Prop} {X : String → bW → Prop} (a0 : Int) (a1 : Int) (a2 : Int) (ha0 : b_is n a0 0 26 20) (h : b_K d mX28_look [(2, a0), (0, a2)] n w (fun r1 w2 => b_K d mX28_isDigit [(0, r1)] n w2 (fun r3 w4 => if r3 = 0 then (if a2 ≤ a1 then (Q 0 (b_up (b_up w4 a0 15 (-1)) a0 17 a2)) else (Q 0 (b_up (b_up w4 a0 15 1) a0 17 a2))) else (LX28_digits_2 d n Q X a0 a1 (b_i (a2 + 1)) w4)) X) X) : LX28_digits_2 d n Q X a0 a1 a2 w := by
  refine x_aload_n 0 dX28_digits_2 rfl rfl rfl rfl rfl ?_
  refine x_iload_n 2 dX28_digits_3 rfl rfl rfl ?_
  refine y_Vi 72 (M := mX28_look) (As := [(0, a2)]) (st := []) dX28_digits_4 ha0 rfl q3172 q3174 qs183 q395 q3175 rfl hmX28_look rfl rfl rfl rfl rfl rfl rfl rfl (k_mono h (fun r1 w2 h => ?_))
  refine y_Si 61 (M := mX28_isDigit) (As := [(0, r1)]) (st := []) dX28_digits_7 q3183 q3184 q395 q3185 hmX28_isDigit rfl rfl rfl rfl rfl rfl rfl rfl (k_mono h (fun r3 w4 h => ?_))
  refine x_if_eq (t := 19) 9 dX28_digits_10 rfl rfl (b_ite h (fun hc h => ?_) (fun hc h => ?_))
  · refine x_aload_n 0 dX28_digits_19 rfl rfl rfl rfl rfl ?_
    refine x_iload_n 2 dX28_digits_20 rfl rfl rfl ?_
    refine x_iload_n 1 dX28_digits_21 rfl rfl rfl ?_
    refine x_icmp_le (t := 29) 7 dX28_digits_22 rfl rfl (b_ite h (fun hc h => ?_) (fun hc h => ?_))
    · refine x_iconst (-1) (z := (-1)) dX28_digits_29 rfl (by decide) rfl ?_
      refine x_put 79 15 (c := 26) dX28_digits_30 ha0 rfl in_X28 tyX28_ok nmX28 q4188 rfl rfl rfl (Or.inl rfl) (Or.inl ⟨rfl, rfl⟩) rfl ?_
      refine x_aload_n 0 dX28_digits_33 rfl rfl rfl rfl rfl ?_
      refine x_iload_n 2 dX28_digits_34 rfl rfl rfl ?_
      refine x_put 69 17 (c := 26) dX28_digits_35 ha0 rfl in_X28 tyX28_ok nmX28 q4190 rfl rfl rfl (Or.inl rfl) (Or.inl ⟨rfl, rfl⟩) rfl ?_
      exact y_vret dX28_digits_38 rfl h
    · refine x_iconst 1 (z := 1) dX28_digits_25 rfl (by decide) rfl ?_
      refine x_goto 4 (q := 30) dX28_digits_26 rfl ?_
      refine x_put 79 15 (c := 26) dX28_digits_30 ha0 rfl in_X28 tyX28_ok nmX28 q4188 rfl rfl rfl (Or.inl rfl) (Or.inl ⟨rfl, rfl⟩) rfl ?_
      refine x_aload_n 0 dX28_digits_33 rfl rfl rfl rfl rfl ?_
      refine x_iload_n 2 dX28_digits_34 rfl rfl rfl ?_
      refine x_put 69 17 (c := 26) dX28_digits_35 ha0 rfl in_X28 tyX28_ok nmX28 q4190 rfl rfl rfl (Or.inl rfl) (Or.inl ⟨rfl, rfl⟩) rfl ?_
      exact y_vret dX28_digits_38 rfl h
  · refine x_iinc 2 1 (ls' := [(2, a0), (0, a1), (0, b_i (a2 + 1))]) dX28_digits_13 rfl rfl rfl rfl ?_
    refine x_goto (-14) (q := 2) dX28_digits_16 rfl ?_
    exact x_fg (fgk (fgk (fgk (fg0)))) h
abbrev LX28_string_7 (d n : Nat) (Q : Int → bW → Prop) (X : String → bW → Prop) (a0 : Int) (a2 : Int) (w : bW) : Prop := b_Y (d + 1) mX28_string n Q X 7 [(2, a0), (9, 0), (0, a2), (9, 0), (9, 0), (9, 0)] [] w
abbrev LX28_string_72 (d n : Nat) (Q : Int → bW → Prop) (X : String → bW → Prop) (a0 : Int) (a2 : Int) (a3 : Int) (s0 : Int) (w : bW) : Prop := b_Y (d + 1) mX28_string n Q X 72 [(2, a0), (9, 0), (0, a2), (0, a3), (9, 0), (9, 0)] [(0, s0)] w
theorem rX28_string {d n : Nat} {w : bW} {Q : Int → bW → Prop} {X : String → bW → Prop} (t : Int) (a1 : Int) (ht : b_is n t 0 26 20) (h : LX28_string_7 d n Q X t a1 (b_up w t 15 2)) : b_K (d + 1) mX28_string [(2, t), (0, a1)] n w Q X := by
  refine k_of (by decide) rfl rfl rfl (ls := [(2, t), (0, a1), (9, 0), (9, 0), (9, 0), (9, 0)]) rfl ?_
  refine x_iload_n 1 dX28_string_0 rfl rfl rfl ?_
  refine x_istore_n 2 (ls' := [(2, t), (0, a1), (0, a1), (9, 0), (9, 0), (9, 0)]) dX28_string_1 rfl rfl rfl rfl ?_
  refine x_aload_n 0 dX28_string_2 rfl rfl rfl rfl rfl ?_
  refine x_iconst 2 (z := 2) dX28_string_3 rfl (by decide) rfl ?_
  refine x_put 79 15 (c := 26) dX28_string_4 ht rfl in_X28 tyX28_ok nmX28 q4188 rfl rfl rfl (Or.inl rfl) (Or.inl ⟨rfl, rfl⟩) rfl ?_
  exact x_fg (fgk (fgd (fgk (fgk (fgk (fgk (fg0))))))) h
theorem sX28_string_7 {d n : Nat} {w : bW} {Q : Int → bW → Prop} {X : String → bW → Prop} (a0 : Int) (a2 : Int) (ha0 : b_is n a0 0 26 20) (h : if w a0 15 ≠ 2 then (Q 0 (b_up w a0 17 (b_i (a2 + 1)))) else (b_K d mX28_look [(2, a0), (0, a2)] n w (fun r1 w2 => if r1 = 34 then (Q 0 (b_up w2 a0 17 (b_i (a2 + 1)))) else (b_K d mX28_look [(2, a0), (0, a2)] n w2 (fun r3 w4 => b_K d mX28_look [(2, a0), (0, b_i (a2 + 1))] n w4 (fun r5 w6 => if r3 ≠ 92 then (LX28_string_72 d n Q X a0 a2 r3 0 w6) else (if r5 = 92 then (LX28_string_72 d n Q X a0 a2 r3 1 w6) else (if r5 = 34 then (LX28_string_72 d n Q X a0 a2 r3 1 w6) else (if r5 ≠ 110 then (LX28_string_72 d n Q X a0 a2 r3 0 w6) else (LX28_string_72 d n Q X a0 a2 r3 1 w6))))) X) X)) X)) : LX28_string_7 d n Q X a0 a2 w := by
  refine x_aload_n 0 dX28_string_7 rfl rfl rfl rfl rfl ?_
  refine y_get 79 15 (c := 26) (z := w a0 15) dX28_string_8 ha0 rfl in_X28 q4188 rfl rfl rfl rfl rfl ?_
  refine x_iconst 2 (z := 2) dX28_string_11 rfl (by decide) rfl ?_
  refine x_icmp_ne (t := 124) 112 dX28_string_12 rfl rfl (b_ite h (fun hc h => ?_) (fun hc h => ?_))
  · refine x_aload_n 0 dX28_string_124 rfl rfl rfl rfl rfl ?_
    refine x_iload_n 2 dX28_string_125 rfl rfl rfl ?_
    refine x_iconst 1 (z := 1) dX28_string_126 rfl (by decide) rfl ?_
    refine x_iadd dX28_string_127 rfl ?_
    refine x_put 69 17 (c := 26) dX28_string_128 ha0 rfl in_X28 tyX28_ok nmX28 q4190 rfl rfl rfl (Or.inl rfl) (Or.inl ⟨rfl, rfl⟩) rfl ?_
    exact y_vret dX28_string_131 rfl h
  · refine x_aload_n 0 dX28_string_15 rfl rfl rfl rfl rfl ?_
    refine x_iload_n 2 dX28_string_16 rfl rfl rfl ?_
    refine y_Vi 72 (M := mX28_look) (As := [(0, a2)]) (st := []) dX28_string_17 ha0 rfl q3172 q3174 qs183 q395 q3175 rfl hmX28_look rfl rfl rfl rfl rfl rfl rfl rfl (k_mono h (fun r1 w2 h => ?_))
    refine x_bipush 34 (z := 34) dX28_string_20 rfl (by decide) rfl ?_
    refine x_icmp_eq (t := 124) 102 dX28_string_22 rfl rfl (b_ite h (fun hc h => ?_) (fun hc h => ?_))
    · refine x_aload_n 0 dX28_string_124 rfl rfl rfl rfl rfl ?_
      refine x_iload_n 2 dX28_string_125 rfl rfl rfl ?_
      refine x_iconst 1 (z := 1) dX28_string_126 rfl (by decide) rfl ?_
      refine x_iadd dX28_string_127 rfl ?_
      refine x_put 69 17 (c := 26) dX28_string_128 ha0 rfl in_X28 tyX28_ok nmX28 q4190 rfl rfl rfl (Or.inl rfl) (Or.inl ⟨rfl, rfl⟩) rfl ?_
      exact y_vret dX28_string_131 rfl h
    · refine x_aload_n 0 dX28_string_25 rfl rfl rfl rfl rfl ?_
      refine x_iload_n 2 dX28_string_26 rfl rfl rfl ?_
      refine y_Vi 72 (M := mX28_look) (As := [(0, a2)]) (st := []) dX28_string_27 ha0 rfl q3172 q3174 qs183 q395 q3175 rfl hmX28_look rfl rfl rfl rfl rfl rfl rfl rfl (k_mono h (fun r3 w4 h => ?_))
      refine x_istore_n 3 (ls' := [(2, a0), (9, 0), (0, a2), (0, r3), (9, 0), (9, 0)]) dX28_string_30 rfl rfl rfl rfl ?_
      refine x_aload_n 0 dX28_string_31 rfl rfl rfl rfl rfl ?_
      refine x_iload_n 2 dX28_string_32 rfl rfl rfl ?_
      refine x_iconst 1 (z := 1) dX28_string_33 rfl (by decide) rfl ?_
      refine x_iadd dX28_string_34 rfl ?_
      refine y_Vi 72 (M := mX28_look) (As := [(0, b_i (a2 + 1))]) (st := []) dX28_string_35 ha0 rfl q3172 q3174 qs183 q395 q3175 rfl hmX28_look rfl rfl rfl rfl rfl rfl rfl rfl (k_mono h (fun r5 w6 h => ?_))
      refine x_istore 4 (ls' := [(2, a0), (9, 0), (0, a2), (0, r3), (0, r5), (9, 0)]) dX28_string_38 rfl rfl rfl ?_
      refine x_iload_n 3 dX28_string_40 rfl rfl rfl ?_
      refine x_bipush 92 (z := 92) dX28_string_41 rfl (by decide) rfl ?_
      refine x_icmp_ne (t := 71) 28 dX28_string_43 rfl rfl (b_ite h (fun hc h => ?_) (fun hc h => ?_))
      · refine x_iconst 0 (z := 0) dX28_string_71 rfl (by decide) rfl ?_
        exact x_fg (fgk (fgk (fgk (fgk (fgd (fgk (fg0))))))) h
      · refine x_iload 4 dX28_string_46 rfl rfl ?_
        refine x_bipush 92 (z := 92) dX28_string_48 rfl (by decide) rfl ?_
        refine x_icmp_eq (t := 67) 17 dX28_string_50 rfl rfl (b_ite h (fun hc h => ?_) (fun hc h => ?_))
        · refine x_iconst 1 (z := 1) dX28_string_67 rfl (by decide) rfl ?_
          refine x_goto 4 (q := 72) dX28_string_68 rfl ?_
          exact x_fg (fgk (fgk (fgk (fgk (fgd (fgk (fg0))))))) h
        · refine x_iload 4 dX28_string_53 rfl rfl ?_
          refine x_bipush 34 (z := 34) dX28_string_55 rfl (by decide) rfl ?_
          refine x_icmp_eq (t := 67) 10 dX28_string_57 rfl rfl (b_ite h (fun hc h => ?_) (fun hc h => ?_))
          · refine x_iconst 1 (z := 1) dX28_string_67 rfl (by decide) rfl ?_
            refine x_goto 4 (q := 72) dX28_string_68 rfl ?_
            exact x_fg (fgk (fgk (fgk (fgk (fgd (fgk (fg0))))))) h
          · refine x_iload 4 dX28_string_60 rfl rfl ?_
            refine x_bipush 110 (z := 110) dX28_string_62 rfl (by decide) rfl ?_
            refine x_icmp_ne (t := 71) 7 dX28_string_64 rfl rfl (b_ite h (fun hc h => ?_) (fun hc h => ?_))
            · refine x_iconst 0 (z := 0) dX28_string_71 rfl (by decide) rfl ?_
              exact x_fg (fgk (fgk (fgk (fgk (fgd (fgk (fg0))))))) h
            · refine x_iconst 1 (z := 1) dX28_string_67 rfl (by decide) rfl ?_
              refine x_goto 4 (q := 72) dX28_string_68 rfl ?_
              exact x_fg (fgk (fgk (fgk (fgk (fgd (fgk (fg0))))))) h
theorem sX28_string_72 {d n : Nat} {w : bW} {Q : Int → bW → Prop} {X : String → bW → Prop} (a0 : Int) (a2 : Int) (a3 : Int) (s0 : Int) (ha0 : b_is n a0 0 26 20) (h : if s0 ≠ 0 then (if s0 = 0 then (LX28_string_7 d n Q X a0 (b_i (a2 + 1)) (b_up w a0 15 2)) else (LX28_string_7 d n Q X a0 (b_i (a2 + 2)) (b_up w a0 15 2))) else (if a3 < 32 then (if s0 = 0 then (LX28_string_7 d n Q X a0 (b_i (a2 + 1)) (b_up w a0 15 (-1))) else (LX28_string_7 d n Q X a0 (b_i (a2 + 2)) (b_up w a0 15 (-1)))) else (if 126 < a3 then (if s0 = 0 then (LX28_string_7 d n Q X a0 (b_i (a2 + 1)) (b_up w a0 15 (-1))) else (LX28_string_7 d n Q X a0 (b_i (a2 + 2)) (b_up w a0 15 (-1)))) else (if a3 = 92 then (if s0 = 0 then (LX28_string_7 d n Q X a0 (b_i (a2 + 1)) (b_up w a0 15 (-1))) else (LX28_string_7 d n Q X a0 (b_i (a2 + 2)) (b_up w a0 15 (-1)))) else (if s0 = 0 then (LX28_string_7 d n Q X a0 (b_i (a2 + 1)) (b_up w a0 15 2)) else (LX28_string_7 d n Q X a0 (b_i (a2 + 2)) (b_up w a0 15 2))))))) : LX28_string_72 d n Q X a0 a2 a3 s0 w := by
  refine x_istore 5 (ls' := [(2, a0), (9, 0), (0, a2), (0, a3), (9, 0), (0, s0)]) dX28_string_72 rfl rfl rfl ?_
  refine x_aload_n 0 dX28_string_74 rfl rfl rfl rfl rfl ?_
  refine x_iload 5 dX28_string_75 rfl rfl ?_
  refine x_if_ne (t := 98) 21 dX28_string_77 rfl rfl (b_ite h (fun hc h => ?_) (fun hc h => ?_))
  · refine x_iconst 2 (z := 2) dX28_string_98 rfl (by decide) rfl ?_
    refine x_goto 4 (q := 103) dX28_string_99 rfl ?_
    refine x_put 79 15 (c := 26) dX28_string_103 ha0 rfl in_X28 tyX28_ok nmX28 q4188 rfl rfl rfl (Or.inl rfl) (Or.inl ⟨rfl, rfl⟩) rfl ?_
    refine x_iload 5 dX28_string_106 rfl rfl ?_
    refine x_if_eq (t := 117) 9 dX28_string_108 rfl rfl (b_ite h (fun hc h => ?_) (fun hc h => ?_))
    · refine x_iload_n 2 dX28_string_117 rfl rfl rfl ?_
      refine x_iconst 1 (z := 1) dX28_string_118 rfl (by decide) rfl ?_
      refine x_iadd dX28_string_119 rfl ?_
      refine x_istore_n 2 (ls' := [(2, a0), (9, 0), (0, b_i (a2 + 1)), (0, a3), (9, 0), (0, s0)]) dX28_string_120 rfl rfl rfl rfl ?_
      refine x_goto (-114) (q := 7) dX28_string_121 rfl ?_
      exact x_fg (fgk (fgk (fgk (fgd (fgk (fgd (fg0))))))) h
    · refine x_iload_n 2 dX28_string_111 rfl rfl rfl ?_
      refine x_iconst 2 (z := 2) dX28_string_112 rfl (by decide) rfl ?_
      refine x_iadd dX28_string_113 rfl ?_
      refine x_goto 6 (q := 120) dX28_string_114 rfl ?_
      refine x_istore_n 2 (ls' := [(2, a0), (9, 0), (0, b_i (a2 + 2)), (0, a3), (9, 0), (0, s0)]) dX28_string_120 rfl rfl rfl rfl ?_
      refine x_goto (-114) (q := 7) dX28_string_121 rfl ?_
      exact x_fg (fgk (fgk (fgk (fgd (fgk (fgd (fg0))))))) h
  · refine x_iload_n 3 dX28_string_80 rfl rfl rfl ?_
    refine x_bipush 32 (z := 32) dX28_string_81 rfl (by decide) rfl ?_
    refine x_icmp_lt (t := 102) 19 dX28_string_83 rfl rfl (b_ite h (fun hc h => ?_) (fun hc h => ?_))
    · refine x_iconst (-1) (z := (-1)) dX28_string_102 rfl (by decide) rfl ?_
      refine x_put 79 15 (c := 26) dX28_string_103 ha0 rfl in_X28 tyX28_ok nmX28 q4188 rfl rfl rfl (Or.inl rfl) (Or.inl ⟨rfl, rfl⟩) rfl ?_
      refine x_iload 5 dX28_string_106 rfl rfl ?_
      refine x_if_eq (t := 117) 9 dX28_string_108 rfl rfl (b_ite h (fun hc h => ?_) (fun hc h => ?_))
      · refine x_iload_n 2 dX28_string_117 rfl rfl rfl ?_
        refine x_iconst 1 (z := 1) dX28_string_118 rfl (by decide) rfl ?_
        refine x_iadd dX28_string_119 rfl ?_
        refine x_istore_n 2 (ls' := [(2, a0), (9, 0), (0, b_i (a2 + 1)), (0, a3), (9, 0), (0, s0)]) dX28_string_120 rfl rfl rfl rfl ?_
        refine x_goto (-114) (q := 7) dX28_string_121 rfl ?_
        exact x_fg (fgk (fgk (fgk (fgd (fgk (fgd (fg0))))))) h
      · refine x_iload_n 2 dX28_string_111 rfl rfl rfl ?_
        refine x_iconst 2 (z := 2) dX28_string_112 rfl (by decide) rfl ?_
        refine x_iadd dX28_string_113 rfl ?_
        refine x_goto 6 (q := 120) dX28_string_114 rfl ?_
        refine x_istore_n 2 (ls' := [(2, a0), (9, 0), (0, b_i (a2 + 2)), (0, a3), (9, 0), (0, s0)]) dX28_string_120 rfl rfl rfl rfl ?_
        refine x_goto (-114) (q := 7) dX28_string_121 rfl ?_
        exact x_fg (fgk (fgk (fgk (fgd (fgk (fgd (fg0))))))) h
    · refine x_iload_n 3 dX28_string_86 rfl rfl rfl ?_
      refine x_bipush 126 (z := 126) dX28_string_87 rfl (by decide) rfl ?_
      refine x_icmp_gt (t := 102) 13 dX28_string_89 rfl rfl (b_ite h (fun hc h => ?_) (fun hc h => ?_))
      · refine x_iconst (-1) (z := (-1)) dX28_string_102 rfl (by decide) rfl ?_
        refine x_put 79 15 (c := 26) dX28_string_103 ha0 rfl in_X28 tyX28_ok nmX28 q4188 rfl rfl rfl (Or.inl rfl) (Or.inl ⟨rfl, rfl⟩) rfl ?_
        refine x_iload 5 dX28_string_106 rfl rfl ?_
        refine x_if_eq (t := 117) 9 dX28_string_108 rfl rfl (b_ite h (fun hc h => ?_) (fun hc h => ?_))
        · refine x_iload_n 2 dX28_string_117 rfl rfl rfl ?_
          refine x_iconst 1 (z := 1) dX28_string_118 rfl (by decide) rfl ?_
          refine x_iadd dX28_string_119 rfl ?_
          refine x_istore_n 2 (ls' := [(2, a0), (9, 0), (0, b_i (a2 + 1)), (0, a3), (9, 0), (0, s0)]) dX28_string_120 rfl rfl rfl rfl ?_
          refine x_goto (-114) (q := 7) dX28_string_121 rfl ?_
          exact x_fg (fgk (fgk (fgk (fgd (fgk (fgd (fg0))))))) h
        · refine x_iload_n 2 dX28_string_111 rfl rfl rfl ?_
          refine x_iconst 2 (z := 2) dX28_string_112 rfl (by decide) rfl ?_
          refine x_iadd dX28_string_113 rfl ?_
          refine x_goto 6 (q := 120) dX28_string_114 rfl ?_
          refine x_istore_n 2 (ls' := [(2, a0), (9, 0), (0, b_i (a2 + 2)), (0, a3), (9, 0), (0, s0)]) dX28_string_120 rfl rfl rfl rfl ?_
          refine x_goto (-114) (q := 7) dX28_string_121 rfl ?_
          exact x_fg (fgk (fgk (fgk (fgd (fgk (fgd (fg0))))))) h
      · refine x_iload_n 3 dX28_string_92 rfl rfl rfl ?_
        refine x_bipush 92 (z := 92) dX28_string_93 rfl (by decide) rfl ?_
        refine x_icmp_eq (t := 102) 7 dX28_string_95 rfl rfl (b_ite h (fun hc h => ?_) (fun hc h => ?_))
        · refine x_iconst (-1) (z := (-1)) dX28_string_102 rfl (by decide) rfl ?_
          refine x_put 79 15 (c := 26) dX28_string_103 ha0 rfl in_X28 tyX28_ok nmX28 q4188 rfl rfl rfl (Or.inl rfl) (Or.inl ⟨rfl, rfl⟩) rfl ?_
          refine x_iload 5 dX28_string_106 rfl rfl ?_
          refine x_if_eq (t := 117) 9 dX28_string_108 rfl rfl (b_ite h (fun hc h => ?_) (fun hc h => ?_))
          · refine x_iload_n 2 dX28_string_117 rfl rfl rfl ?_
            refine x_iconst 1 (z := 1) dX28_string_118 rfl (by decide) rfl ?_
            refine x_iadd dX28_string_119 rfl ?_
            refine x_istore_n 2 (ls' := [(2, a0), (9, 0), (0, b_i (a2 + 1)), (0, a3), (9, 0), (0, s0)]) dX28_string_120 rfl rfl rfl rfl ?_
            refine x_goto (-114) (q := 7) dX28_string_121 rfl ?_
            exact x_fg (fgk (fgk (fgk (fgd (fgk (fgd (fg0))))))) h
          · refine x_iload_n 2 dX28_string_111 rfl rfl rfl ?_
            refine x_iconst 2 (z := 2) dX28_string_112 rfl (by decide) rfl ?_
            refine x_iadd dX28_string_113 rfl ?_
            refine x_goto 6 (q := 120) dX28_string_114 rfl ?_
            refine x_istore_n 2 (ls' := [(2, a0), (9, 0), (0, b_i (a2 + 2)), (0, a3), (9, 0), (0, s0)]) dX28_string_120 rfl rfl rfl rfl ?_
            refine x_goto (-114) (q := 7) dX28_string_121 rfl ?_
            exact x_fg (fgk (fgk (fgk (fgd (fgk (fgd (fg0))))))) h
        · refine x_iconst 2 (z := 2) dX28_string_98 rfl (by decide) rfl ?_
          refine x_goto 4 (q := 103) dX28_string_99 rfl ?_
          refine x_put 79 15 (c := 26) dX28_string_103 ha0 rfl in_X28 tyX28_ok nmX28 q4188 rfl rfl rfl (Or.inl rfl) (Or.inl ⟨rfl, rfl⟩) rfl ?_
          refine x_iload 5 dX28_string_106 rfl rfl ?_
          refine x_if_eq (t := 117) 9 dX28_string_108 rfl rfl (b_ite h (fun hc h => ?_) (fun hc h => ?_))
          · refine x_iload_n 2 dX28_string_117 rfl rfl rfl ?_
            refine x_iconst 1 (z := 1) dX28_string_118 rfl (by decide) rfl ?_
            refine x_iadd dX28_string_119 rfl ?_
            refine x_istore_n 2 (ls' := [(2, a0), (9, 0), (0, b_i (a2 + 1)), (0, a3), (9, 0), (0, s0)]) dX28_string_120 rfl rfl rfl rfl ?_
            refine x_goto (-114) (q := 7) dX28_string_121 rfl ?_
            exact x_fg (fgk (fgk (fgk (fgd (fgk (fgd (fg0))))))) h
          · refine x_iload_n 2 dX28_string_111 rfl rfl rfl ?_
            refine x_iconst 2 (z := 2) dX28_string_112 rfl (by decide) rfl ?_
            refine x_iadd dX28_string_113 rfl ?_
            refine x_goto 6 (q := 120) dX28_string_114 rfl ?_
            refine x_istore_n 2 (ls' := [(2, a0), (9, 0), (0, b_i (a2 + 2)), (0, a3), (9, 0), (0, s0)]) dX28_string_120 rfl rfl rfl rfl ?_
            refine x_goto (-114) (q := 7) dX28_string_121 rfl ?_
            exact x_fg (fgk (fgk (fgk (fgd (fgk (fgd (fg0))))))) h
theorem rX28_isLetter {d n : Nat} {w : bW} {Q : Int → bW → Prop} {X : String → bW → Prop} (a0 : Int) (h : if a0 < 97 then (if a0 < 65 then (if a0 ≠ 95 then (Q 0 w) else (Q 1 w)) else (if a0 ≤ 90 then (Q 1 w) else (if a0 ≠ 95 then (Q 0 w) else (Q 1 w)))) else (if a0 ≤ 122 then (Q 1 w) else (if a0 < 65 then (if a0 ≠ 95 then (Q 0 w) else (Q 1 w)) else (if a0 ≤ 90 then (Q 1 w) else (if a0 ≠ 95 then (Q 0 w) else (Q 1 w)))))) : b_K (d + 1) mX28_isLetter [(0, a0)] n w Q X := by
  refine k_of (by decide) rfl rfl rfl (ls := [(0, a0)]) rfl ?_
  refine x_iload_n 0 dX28_isLetter_0 rfl rfl rfl ?_
  refine x_bipush 97 (z := 97) dX28_isLetter_1 rfl (by decide) rfl ?_
  refine x_icmp_lt (t := 12) 9 dX28_isLetter_3 rfl rfl (b_ite h (fun hc h => ?_) (fun hc h => ?_))
  · refine x_iload_n 0 dX28_isLetter_12 rfl rfl rfl ?_
    refine x_bipush 65 (z := 65) dX28_isLetter_13 rfl (by decide) rfl ?_
    refine x_icmp_lt (t := 24) 9 dX28_isLetter_15 rfl rfl (b_ite h (fun hc h => ?_) (fun hc h => ?_))
    · refine x_iload_n 0 dX28_isLetter_24 rfl rfl rfl ?_
      refine x_bipush 95 (z := 95) dX28_isLetter_25 rfl (by decide) rfl ?_
      refine x_icmp_ne (t := 34) 7 dX28_isLetter_27 rfl rfl (b_ite h (fun hc h => ?_) (fun hc h => ?_))
      · refine x_iconst 0 (z := 0) dX28_isLetter_34 rfl (by decide) rfl ?_
        exact y_zret dX28_isLetter_35 rfl (by decide) h
      · refine x_iconst 1 (z := 1) dX28_isLetter_30 rfl (by decide) rfl ?_
        refine x_goto 4 (q := 35) dX28_isLetter_31 rfl ?_
        exact y_zret dX28_isLetter_35 rfl (by decide) h
    · refine x_iload_n 0 dX28_isLetter_18 rfl rfl rfl ?_
      refine x_bipush 90 (z := 90) dX28_isLetter_19 rfl (by decide) rfl ?_
      refine x_icmp_le (t := 30) 9 dX28_isLetter_21 rfl rfl (b_ite h (fun hc h => ?_) (fun hc h => ?_))
      · refine x_iconst 1 (z := 1) dX28_isLetter_30 rfl (by decide) rfl ?_
        refine x_goto 4 (q := 35) dX28_isLetter_31 rfl ?_
        exact y_zret dX28_isLetter_35 rfl (by decide) h
      · refine x_iload_n 0 dX28_isLetter_24 rfl rfl rfl ?_
        refine x_bipush 95 (z := 95) dX28_isLetter_25 rfl (by decide) rfl ?_
        refine x_icmp_ne (t := 34) 7 dX28_isLetter_27 rfl rfl (b_ite h (fun hc h => ?_) (fun hc h => ?_))
        · refine x_iconst 0 (z := 0) dX28_isLetter_34 rfl (by decide) rfl ?_
          exact y_zret dX28_isLetter_35 rfl (by decide) h
        · refine x_iconst 1 (z := 1) dX28_isLetter_30 rfl (by decide) rfl ?_
          refine x_goto 4 (q := 35) dX28_isLetter_31 rfl ?_
          exact y_zret dX28_isLetter_35 rfl (by decide) h
  · refine x_iload_n 0 dX28_isLetter_6 rfl rfl rfl ?_
    refine x_bipush 122 (z := 122) dX28_isLetter_7 rfl (by decide) rfl ?_
    refine x_icmp_le (t := 30) 21 dX28_isLetter_9 rfl rfl (b_ite h (fun hc h => ?_) (fun hc h => ?_))
    · refine x_iconst 1 (z := 1) dX28_isLetter_30 rfl (by decide) rfl ?_
      refine x_goto 4 (q := 35) dX28_isLetter_31 rfl ?_
      exact y_zret dX28_isLetter_35 rfl (by decide) h
    · refine x_iload_n 0 dX28_isLetter_12 rfl rfl rfl ?_
      refine x_bipush 65 (z := 65) dX28_isLetter_13 rfl (by decide) rfl ?_
      refine x_icmp_lt (t := 24) 9 dX28_isLetter_15 rfl rfl (b_ite h (fun hc h => ?_) (fun hc h => ?_))
      · refine x_iload_n 0 dX28_isLetter_24 rfl rfl rfl ?_
        refine x_bipush 95 (z := 95) dX28_isLetter_25 rfl (by decide) rfl ?_
        refine x_icmp_ne (t := 34) 7 dX28_isLetter_27 rfl rfl (b_ite h (fun hc h => ?_) (fun hc h => ?_))
        · refine x_iconst 0 (z := 0) dX28_isLetter_34 rfl (by decide) rfl ?_
          exact y_zret dX28_isLetter_35 rfl (by decide) h
        · refine x_iconst 1 (z := 1) dX28_isLetter_30 rfl (by decide) rfl ?_
          refine x_goto 4 (q := 35) dX28_isLetter_31 rfl ?_
          exact y_zret dX28_isLetter_35 rfl (by decide) h
      · refine x_iload_n 0 dX28_isLetter_18 rfl rfl rfl ?_
        refine x_bipush 90 (z := 90) dX28_isLetter_19 rfl (by decide) rfl ?_
        refine x_icmp_le (t := 30) 9 dX28_isLetter_21 rfl rfl (b_ite h (fun hc h => ?_) (fun hc h => ?_))
        · refine x_iconst 1 (z := 1) dX28_isLetter_30 rfl (by decide) rfl ?_
          refine x_goto 4 (q := 35) dX28_isLetter_31 rfl ?_
          exact y_zret dX28_isLetter_35 rfl (by decide) h
        · refine x_iload_n 0 dX28_isLetter_24 rfl rfl rfl ?_
          refine x_bipush 95 (z := 95) dX28_isLetter_25 rfl (by decide) rfl ?_
          refine x_icmp_ne (t := 34) 7 dX28_isLetter_27 rfl rfl (b_ite h (fun hc h => ?_) (fun hc h => ?_))
          · refine x_iconst 0 (z := 0) dX28_isLetter_34 rfl (by decide) rfl ?_
            exact y_zret dX28_isLetter_35 rfl (by decide) h
          · refine x_iconst 1 (z := 1) dX28_isLetter_30 rfl (by decide) rfl ?_
            refine x_goto 4 (q := 35) dX28_isLetter_31 rfl ?_
            exact y_zret dX28_isLetter_35 rfl (by decide) h
abbrev LX28_named_2 (d n : Nat) (Q : Int → bW → Prop) (X : String → bW → Prop) (a0 : Int) (a2 : Int) (a3 : Int) (w : bW) : Prop := b_Y (d + 1) mX28_named n Q X 2 [(2, a0), (9, 0), (0, a2), (0, a3)] [] w
theorem rX28_named {d n : Nat} {w : bW} {Q : Int → bW → Prop} {X : String → bW → Prop} (t : Int) (a1 : Int) (a2 : Int) (ht : b_is n t 0 26 20) (h : LX28_named_2 d n Q X t a2 a1 w) : b_K (d + 1) mX28_named [(2, t), (0, a1), (0, a2)] n w Q X := by
  refine k_of (by decide) rfl rfl rfl (ls := [(2, t), (0, a1), (0, a2), (9, 0)]) rfl ?_
  refine x_iload_n 1 dX28_named_0 rfl rfl rfl ?_
  refine x_istore_n 3 (ls' := [(2, t), (0, a1), (0, a2), (0, a1)]) dX28_named_1 rfl rfl rfl rfl ?_
  exact x_fg (fgk (fgd (fgk (fgk (fg0))))) h
theorem sX28_named_2 {d n : Nat} {w : bW} {Q : Int → bW → Prop} {X : String → bW → Prop} (a0 : Int) (a2 : Int) (a3 : Int) (ha0 : b_is n a0 0 26 20) (h : if a2 ≤ a3 then (Q a3 w) else (b_K d mX28_look [(2, a0), (0, a3)] n w (fun r1 w2 => b_K d mX28_isLetter [(0, r1)] n w2 (fun r3 w4 => if r3 ≠ 0 then (LX28_named_2 d n Q X a0 a2 (b_i (a3 + 1)) w4) else (b_K d mX28_look [(2, a0), (0, a3)] n w4 (fun r5 w6 => b_K d mX28_isDigit [(0, r5)] n w6 (fun r7 w8 => if r7 = 0 then (Q a3 w8) else (LX28_named_2 d n Q X a0 a2 (b_i (a3 + 1)) w8)) X) X)) X) X)) : LX28_named_2 d n Q X a0 a2 a3 w := by
  refine x_iload_n 3 dX28_named_2 rfl rfl rfl ?_
  refine x_iload_n 2 dX28_named_3 rfl rfl rfl ?_
  refine x_icmp_ge (t := 35) 31 dX28_named_4 rfl rfl (b_ite h (fun hc h => ?_) (fun hc h => ?_))
  · refine x_iload_n 3 dX28_named_35 rfl rfl rfl ?_
    exact y_iret dX28_named_36 rfl h
  · refine x_aload_n 0 dX28_named_7 rfl rfl rfl rfl rfl ?_
    refine x_iload_n 3 dX28_named_8 rfl rfl rfl ?_
    refine y_Vi 72 (M := mX28_look) (As := [(0, a3)]) (st := []) dX28_named_9 ha0 rfl q3172 q3174 qs183 q395 q3175 rfl hmX28_look rfl rfl rfl rfl rfl rfl rfl rfl (k_mono h (fun r1 w2 h => ?_))
    refine y_Si 92 (M := mX28_isLetter) (As := [(0, r1)]) (st := []) dX28_named_12 q3194 q3195 q395 q3196 hmX28_isLetter rfl rfl rfl rfl rfl rfl rfl rfl (k_mono h (fun r3 w4 h => ?_))
    refine x_if_ne (t := 29) 14 dX28_named_15 rfl rfl (b_ite h (fun hc h => ?_) (fun hc h => ?_))
    · refine x_iinc 3 1 (ls' := [(2, a0), (9, 0), (0, a2), (0, b_i (a3 + 1))]) dX28_named_29 rfl rfl rfl rfl ?_
      refine x_goto (-30) (q := 2) dX28_named_32 rfl ?_
      exact x_fg (fgk (fgk (fgk (fgk (fg0))))) h
    · refine x_aload_n 0 dX28_named_18 rfl rfl rfl rfl rfl ?_
      refine x_iload_n 3 dX28_named_19 rfl rfl rfl ?_
      refine y_Vi 72 (M := mX28_look) (As := [(0, a3)]) (st := []) dX28_named_20 ha0 rfl q3172 q3174 qs183 q395 q3175 rfl hmX28_look rfl rfl rfl rfl rfl rfl rfl rfl (k_mono h (fun r5 w6 h => ?_))
      refine y_Si 61 (M := mX28_isDigit) (As := [(0, r5)]) (st := []) dX28_named_23 q3183 q3184 q395 q3185 hmX28_isDigit rfl rfl rfl rfl rfl rfl rfl rfl (k_mono h (fun r7 w8 h => ?_))
      refine x_if_eq (t := 35) 9 dX28_named_26 rfl rfl (b_ite h (fun hc h => ?_) (fun hc h => ?_))
      · refine x_iload_n 3 dX28_named_35 rfl rfl rfl ?_
        exact y_iret dX28_named_36 rfl h
      · refine x_iinc 3 1 (ls' := [(2, a0), (9, 0), (0, a2), (0, b_i (a3 + 1))]) dX28_named_29 rfl rfl rfl rfl ?_
        refine x_goto (-30) (q := 2) dX28_named_32 rfl ?_
        exact x_fg (fgk (fgk (fgk (fgk (fg0))))) h
theorem rX28_item {d n : Nat} {w : bW} {Q : Int → bW → Prop} {X : String → bW → Prop} (t : Int) (a1 : Int) (a2 : Int) (ht : b_is n t 0 26 20) (h : if w t 15 = 1 then (b_K d mX28_leaf [(2, t), (0, a1), (0, a2)] n w (fun r1 w2 => (r1 = 0 ∨ r1 = 1) ∧ Q r1 w2) X) else (if w t 15 = 2 then (b_K d mX28_leaf [(2, t), (0, a1), (0, a2)] n w (fun r3 w4 => (r3 = 0 ∨ r3 = 1) ∧ Q r3 w4) X) else (if w t 15 ≠ 3 then (if w t 15 ≠ 123 then (if w t 15 ≠ 4 then (b_K d mX28_fail [(2, t)] n w (fun r5 w6 => (r5 = 0 ∨ r5 = 1) ∧ Q r5 w6) X) else (b_K d mX28_application [(2, t), (0, a1), (0, a2)] n w (fun r7 w8 => (r7 = 0 ∨ r7 = 1) ∧ Q r7 w8) X)) else (b_K d mX28_sequence [(2, t), (0, a1), (0, a2)] n w (fun r9 w10 => (r9 = 0 ∨ r9 = 1) ∧ Q r9 w10) X)) else (b_K d mX28_leaf [(2, t), (0, a1), (0, a2)] n w (fun r11 w12 => (r11 = 0 ∨ r11 = 1) ∧ Q r11 w12) X)))) : b_K (d + 1) mX28_item [(2, t), (0, a1), (0, a2)] n w Q X := by
  refine k_of (by decide) rfl rfl rfl (ls := [(2, t), (0, a1), (0, a2)]) rfl ?_
  refine x_aload_n 0 dX28_item_0 rfl rfl rfl rfl rfl ?_
  refine y_get 79 15 (c := 26) (z := w t 15) dX28_item_1 ht rfl in_X28 q4188 rfl rfl rfl rfl rfl ?_
  refine x_iconst 1 (z := 1) dX28_item_4 rfl (by decide) rfl ?_
  refine x_icmp_eq (t := 24) 19 dX28_item_5 rfl rfl (b_ite h (fun hc h => ?_) (fun hc h => ?_))
  · refine x_aload_n 0 dX28_item_24 rfl rfl rfl rfl rfl ?_
    refine x_iload_n 1 dX28_item_25 rfl rfl rfl ?_
    refine x_iload_n 2 dX28_item_26 rfl rfl rfl ?_
    refine y_Vi 133 (M := mX28_leaf) (As := [(0, a1), (0, a2)]) (st := []) dX28_item_27 ht rfl q3205 q3207 qs189 q395 q3208 rfl hmX28_leaf rfl rfl rfl rfl rfl rfl rfl rfl (k_mono h (fun r1 w2 h => ?_))
    exact y_zret dX28_item_30 rfl h.1 h.2
  · refine x_aload_n 0 dX28_item_8 rfl rfl rfl rfl rfl ?_
    refine y_get 79 15 (c := 26) (z := w t 15) dX28_item_9 ht rfl in_X28 q4188 rfl rfl rfl rfl rfl ?_
    refine x_iconst 2 (z := 2) dX28_item_12 rfl (by decide) rfl ?_
    refine x_icmp_eq (t := 24) 11 dX28_item_13 rfl rfl (b_ite h (fun hc h => ?_) (fun hc h => ?_))
    · refine x_aload_n 0 dX28_item_24 rfl rfl rfl rfl rfl ?_
      refine x_iload_n 1 dX28_item_25 rfl rfl rfl ?_
      refine x_iload_n 2 dX28_item_26 rfl rfl rfl ?_
      refine y_Vi 133 (M := mX28_leaf) (As := [(0, a1), (0, a2)]) (st := []) dX28_item_27 ht rfl q3205 q3207 qs189 q395 q3208 rfl hmX28_leaf rfl rfl rfl rfl rfl rfl rfl rfl (k_mono h (fun r3 w4 h => ?_))
      exact y_zret dX28_item_30 rfl h.1 h.2
    · refine x_aload_n 0 dX28_item_16 rfl rfl rfl rfl rfl ?_
      refine y_get 79 15 (c := 26) (z := w t 15) dX28_item_17 ht rfl in_X28 q4188 rfl rfl rfl rfl rfl ?_
      refine x_iconst 3 (z := 3) dX28_item_20 rfl (by decide) rfl ?_
      refine x_icmp_ne (t := 31) 10 dX28_item_21 rfl rfl (b_ite h (fun hc h => ?_) (fun hc h => ?_))
      · refine x_aload_n 0 dX28_item_31 rfl rfl rfl rfl rfl ?_
        refine y_get 79 15 (c := 26) (z := w t 15) dX28_item_32 ht rfl in_X28 q4188 rfl rfl rfl rfl rfl ?_
        refine x_bipush 123 (z := 123) dX28_item_35 rfl (by decide) rfl ?_
        refine x_icmp_ne (t := 49) 12 dX28_item_37 rfl rfl (b_ite h (fun hc h => ?_) (fun hc h => ?_))
        · refine x_aload_n 0 dX28_item_49 rfl rfl rfl rfl rfl ?_
          refine y_get 79 15 (c := 26) (z := w t 15) dX28_item_50 ht rfl in_X28 q4188 rfl rfl rfl rfl rfl ?_
          refine x_iconst 4 (z := 4) dX28_item_53 rfl (by decide) rfl ?_
          refine x_icmp_ne (t := 66) 12 dX28_item_54 rfl rfl (b_ite h (fun hc h => ?_) (fun hc h => ?_))
          · refine x_aload_n 0 dX28_item_66 rfl rfl rfl rfl rfl ?_
            refine y_Vi 125 (M := mX28_fail) (As := []) (st := []) dX28_item_67 ht rfl q3248 q3250 qs192 q395 q3251 rfl hmX28_fail rfl rfl rfl rfl rfl rfl rfl rfl (k_mono h (fun r5 w6 h => ?_))
            exact y_zret dX28_item_70 rfl h.1 h.2
          · refine x_aload_n 0 dX28_item_57 rfl rfl rfl rfl rfl ?_
            refine x_iload_n 1 dX28_item_58 rfl rfl rfl ?_
            refine x_iload_n 2 dX28_item_59 rfl rfl rfl ?_
            refine y_Vi 139 (M := mX28_application) (As := [(0, a1), (0, a2)]) (st := []) dX28_item_60 ht rfl q3252 q3254 qs193 q395 q3255 rfl hmX28_application rfl rfl rfl rfl rfl rfl rfl rfl (k_mono h (fun r7 w8 h => ?_))
            refine x_goto 7 (q := 70) dX28_item_63 rfl ?_
            exact y_zret dX28_item_70 rfl h.1 h.2
        · refine x_aload_n 0 dX28_item_40 rfl rfl rfl rfl rfl ?_
          refine x_iload_n 1 dX28_item_41 rfl rfl rfl ?_
          refine x_iload_n 2 dX28_item_42 rfl rfl rfl ?_
          refine y_Vi 136 (M := mX28_sequence) (As := [(0, a1), (0, a2)]) (st := []) dX28_item_43 ht rfl q3244 q3246 qs191 q395 q3247 rfl hmX28_sequence rfl rfl rfl rfl rfl rfl rfl rfl (k_mono h (fun r9 w10 h => ?_))
          refine x_goto 24 (q := 70) dX28_item_46 rfl ?_
          exact y_zret dX28_item_70 rfl h.1 h.2
      · refine x_aload_n 0 dX28_item_24 rfl rfl rfl rfl rfl ?_
        refine x_iload_n 1 dX28_item_25 rfl rfl rfl ?_
        refine x_iload_n 2 dX28_item_26 rfl rfl rfl ?_
        refine y_Vi 133 (M := mX28_leaf) (As := [(0, a1), (0, a2)]) (st := []) dX28_item_27 ht rfl q3205 q3207 qs189 q395 q3208 rfl hmX28_leaf rfl rfl rfl rfl rfl rfl rfl rfl (k_mono h (fun r11 w12 h => ?_))
        exact y_zret dX28_item_30 rfl h.1 h.2
theorem rX28_leaf {d n : Nat} {w : bW} {Q : Int → bW → Prop} {X : String → bW → Prop} (t : Int) (a1 : Int) (a2 : Int) (ht : b_is n t 0 26 20) (h : if w t 15 ≠ 4 then (b_K d mX28_term [(2, t), (0, w t 15), (0, a1), (0, a2)] n w (fun r1 w2 => b_K d mX28_next [(2, t)] n w2 (fun r3 w4 => if r1 < 0 then (Q 0 w4) else (Q 1 w4)) X) X) else (b_K d mX28_term [(2, t), (0, 5), (0, a1), (0, a2)] n w (fun r5 w6 => b_K d mX28_next [(2, t)] n w6 (fun r7 w8 => if r5 < 0 then (Q 0 w8) else (Q 1 w8)) X) X)) : b_K (d + 1) mX28_leaf [(2, t), (0, a1), (0, a2)] n w Q X := by
  refine k_of (by decide) rfl rfl rfl (ls := [(2, t), (0, a1), (0, a2), (9, 0)]) rfl ?_
  refine x_aload_n 0 dX28_leaf_0 rfl rfl rfl rfl rfl ?_
  refine x_aload_n 0 dX28_leaf_1 rfl rfl rfl rfl rfl ?_
  refine y_get 79 15 (c := 26) (z := w t 15) dX28_leaf_2 ht rfl in_X28 q4188 rfl rfl rfl rfl rfl ?_
  refine x_iconst 4 (z := 4) dX28_leaf_5 rfl (by decide) rfl ?_
  refine x_icmp_ne (t := 13) 7 dX28_leaf_6 rfl rfl (b_ite h (fun hc h => ?_) (fun hc h => ?_))
  · refine x_aload_n 0 dX28_leaf_13 rfl rfl rfl rfl rfl ?_
    refine y_get 79 15 (c := 26) (z := w t 15) dX28_leaf_14 ht rfl in_X28 q4188 rfl rfl rfl rfl rfl ?_
    refine x_iload_n 1 dX28_leaf_17 rfl rfl rfl ?_
    refine x_iload_n 2 dX28_leaf_18 rfl rfl rfl ?_
    refine y_Vi 129 (M := mX28_term) (As := [(0, w t 15), (0, a1), (0, a2)]) (st := []) dX28_leaf_19 ht rfl q3209 q3211 qs190 q395 q3212 rfl hmX28_term rfl rfl rfl rfl rfl rfl rfl rfl (k_mono h (fun r1 w2 h => ?_))
    refine x_istore_n 3 (ls' := [(2, t), (0, a1), (0, a2), (0, r1)]) dX28_leaf_22 rfl rfl rfl rfl ?_
    refine x_aload_n 0 dX28_leaf_23 rfl rfl rfl rfl rfl ?_
    refine y_Vv 118 (M := mX28_next) (As := []) (st := []) dX28_leaf_24 ht rfl q3167 q3169 qs182 q395 q3171 rfl hmX28_next rfl rfl rfl rfl rfl rfl rfl (k_mono h (fun r3 w4 h => ?_))
    refine x_iload_n 3 dX28_leaf_27 rfl rfl rfl ?_
    refine x_if_lt (t := 35) 7 dX28_leaf_28 rfl rfl (b_ite h (fun hc h => ?_) (fun hc h => ?_))
    · refine x_iconst 0 (z := 0) dX28_leaf_35 rfl (by decide) rfl ?_
      exact y_zret dX28_leaf_36 rfl (by decide) h
    · refine x_iconst 1 (z := 1) dX28_leaf_31 rfl (by decide) rfl ?_
      refine x_goto 4 (q := 36) dX28_leaf_32 rfl ?_
      exact y_zret dX28_leaf_36 rfl (by decide) h
  · refine x_iconst 5 (z := 5) dX28_leaf_9 rfl (by decide) rfl ?_
    refine x_goto 7 (q := 17) dX28_leaf_10 rfl ?_
    refine x_iload_n 1 dX28_leaf_17 rfl rfl rfl ?_
    refine x_iload_n 2 dX28_leaf_18 rfl rfl rfl ?_
    refine y_Vi 129 (M := mX28_term) (As := [(0, 5), (0, a1), (0, a2)]) (st := []) dX28_leaf_19 ht rfl q3209 q3211 qs190 q395 q3212 rfl hmX28_term rfl rfl rfl rfl rfl rfl rfl rfl (k_mono h (fun r5 w6 h => ?_))
    refine x_istore_n 3 (ls' := [(2, t), (0, a1), (0, a2), (0, r5)]) dX28_leaf_22 rfl rfl rfl rfl ?_
    refine x_aload_n 0 dX28_leaf_23 rfl rfl rfl rfl rfl ?_
    refine y_Vv 118 (M := mX28_next) (As := []) (st := []) dX28_leaf_24 ht rfl q3167 q3169 qs182 q395 q3171 rfl hmX28_next rfl rfl rfl rfl rfl rfl rfl (k_mono h (fun r7 w8 h => ?_))
    refine x_iload_n 3 dX28_leaf_27 rfl rfl rfl ?_
    refine x_if_lt (t := 35) 7 dX28_leaf_28 rfl rfl (b_ite h (fun hc h => ?_) (fun hc h => ?_))
    · refine x_iconst 0 (z := 0) dX28_leaf_35 rfl (by decide) rfl ?_
      exact y_zret dX28_leaf_36 rfl (by decide) h
    · refine x_iconst 1 (z := 1) dX28_leaf_31 rfl (by decide) rfl ?_
      refine x_goto 4 (q := 36) dX28_leaf_32 rfl ?_
      exact y_zret dX28_leaf_36 rfl (by decide) h
abbrev LX28_term_53 (d n : Nat) (Q : Int → bW → Prop) (X : String → bW → Prop) (a0 : Int) (a1 : Int) (a2 : Int) (w : bW) : Prop := b_Y (d + 1) mX28_term n Q X 53 [(2, a0), (0, a1), (0, a2), (9, 0), (9, 0)] [] w
abbrev LX28_term_190 (d n : Nat) (Q : Int → bW → Prop) (X : String → bW → Prop) (a0 : Int) (a2 : Int) (a4 : Int) (s0 : Int) (s1 : Int) (s2 : Int) (w : bW) : Prop := b_Y (d + 1) mX28_term n Q X 190 [(2, a0), (9, 0), (0, a2), (9, 0), (0, a4)] [(0, s0), (0, s1), (2, s2)] w
theorem rX28_term {d n : Nat} {w : bW} {Q : Int → bW → Prop} {X : String → bW → Prop} (hn : 254 ≤ n) (t : Int) (a1 : Int) (a2 : Int) (a3 : Int) (ht : b_is n t 0 26 20) (h : if w t 13 = 4096 then (Q (-1) (b_up w t 14 (w t 16))) else (if 60 ≤ a3 then (Q (-1) (b_up w t 14 (w t 16))) else (if a1 ≠ 1 then (LX28_term_53 d n Q X t a1 a2 w) else (b_K d mX26_read [(2, t + 15), (2, t + 3), (0, w t 16), (0, w t 17)] n w (fun r3 w4 => if r3 ≠ 0 then (LX28_term_53 d n Q X t a1 a2 w4) else (Q (-1) (b_up w4 t 14 (w4 t 16)))) X)))) : b_K (d + 1) mX28_term [(2, t), (0, a1), (0, a2), (0, a3)] n w Q X := by
  refine k_of (by decide) rfl rfl rfl (ls := [(2, t), (0, a1), (0, a2), (0, a3), (9, 0)]) rfl ?_
  refine x_aload_n 0 dX28_term_0 rfl rfl rfl rfl rfl ?_
  refine y_get 105 13 (c := 26) (z := w t 13) dX28_term_1 ht rfl in_X28 q4185 rfl rfl rfl rfl rfl ?_
  refine x_sipush 4096 (z := 4096) dX28_term_4 rfl (by decide) rfl ?_
  refine x_icmp_eq (t := 43) 36 dX28_term_7 rfl rfl (b_ite h (fun hc h => ?_) (fun hc h => ?_))
  · refine x_aload_n 0 dX28_term_43 rfl rfl rfl rfl rfl ?_
    refine x_aload_n 0 dX28_term_44 rfl rfl rfl rfl rfl ?_
    refine y_get 76 16 (c := 26) (z := w t 16) dX28_term_45 ht rfl in_X28 q4189 rfl rfl rfl rfl rfl ?_
    refine x_put 102 14 (c := 26) dX28_term_48 ht rfl in_X28 tyX28_ok nmX28 q4186 rfl rfl rfl (Or.inl rfl) (Or.inl ⟨rfl, rfl⟩) rfl ?_
    refine x_iconst (-1) (z := (-1)) dX28_term_51 rfl (by decide) rfl ?_
    exact y_iret dX28_term_52 rfl h
  · refine x_iload_n 3 dX28_term_10 rfl rfl rfl ?_
    refine x_bipush 60 (z := 60) dX28_term_11 rfl (by decide) rfl ?_
    refine x_icmp_ge (t := 43) 30 dX28_term_13 rfl rfl (b_ite h (fun hc h => ?_) (fun hc h => ?_))
    · refine x_aload_n 0 dX28_term_43 rfl rfl rfl rfl rfl ?_
      refine x_aload_n 0 dX28_term_44 rfl rfl rfl rfl rfl ?_
      refine y_get 76 16 (c := 26) (z := w t 16) dX28_term_45 ht rfl in_X28 q4189 rfl rfl rfl rfl rfl ?_
      refine x_put 102 14 (c := 26) dX28_term_48 ht rfl in_X28 tyX28_ok nmX28 q4186 rfl rfl rfl (Or.inl rfl) (Or.inl ⟨rfl, rfl⟩) rfl ?_
      refine x_iconst (-1) (z := (-1)) dX28_term_51 rfl (by decide) rfl ?_
      exact y_iret dX28_term_52 rfl h
    · refine x_iload_n 1 dX28_term_16 rfl rfl rfl ?_
      refine x_iconst 1 (z := 1) dX28_term_17 rfl (by decide) rfl ?_
      refine x_icmp_ne (t := 53) 35 dX28_term_18 rfl rfl (b_ite h (fun hc h => ?_) (fun hc h => ?_))
      · exact x_fg (fgk (fgk (fgk (fgd (fgk (fg0)))))) h
      · refine x_aload_n 0 dX28_term_21 rfl rfl rfl rfl rfl ?_
        refine y_getO 53 19 (c := 26) dX28_term_22 ht rfl in_X28 q4192 rfl rfl rfl (fun h5 hf => of_X28_19 (Nat.le_trans (Nat.le_of_ble_eq_true rfl) hn) h5 ht hf) rfl (fun e1 => ?_)
        refine x_aload_n 0 dX28_term_25 rfl rfl rfl rfl rfl ?_
        refine y_getO 9 0 (c := 26) dX28_term_26 ht rfl in_X28 q4154 rfl rfl rfl (fun h5 hf => of_X28_0 (Nat.le_trans (Nat.le_of_ble_eq_true rfl) hn) h5 ht hf) rfl (fun e2 => ?_)
        refine x_aload_n 0 dX28_term_29 rfl rfl rfl rfl rfl ?_
        refine y_get 76 16 (c := 26) (z := w t 16) dX28_term_30 ht rfl in_X28 q4189 rfl rfl rfl rfl rfl ?_
        refine x_aload_n 0 dX28_term_33 rfl rfl rfl rfl rfl ?_
        refine y_get 69 17 (c := 26) (z := w t 17) dX28_term_34 ht rfl in_X28 q4190 rfl rfl rfl rfl rfl ?_
        refine y_Vi 108 (M := mX26_read) (As := [(2, t + 3), (0, w t 16), (0, w t 17)]) (st := []) dX28_term_37 e1 rfl q3213 q3214 q3215 q393 q3216 rfl hmX26_read rfl rfl rfl rfl rfl rfl rfl rfl (k_mono h (fun r3 w4 h => ?_))
        refine x_if_ne (t := 53) 13 dX28_term_40 rfl rfl (b_ite h (fun hc h => ?_) (fun hc h => ?_))
        · exact x_fg (fgk (fgk (fgk (fgd (fgk (fg0)))))) h
        · refine x_aload_n 0 dX28_term_43 rfl rfl rfl rfl rfl ?_
          refine x_aload_n 0 dX28_term_44 rfl rfl rfl rfl rfl ?_
          refine y_get 76 16 (c := 26) (z := w4 t 16) dX28_term_45 ht rfl in_X28 q4189 rfl rfl rfl rfl rfl ?_
          refine x_put 102 14 (c := 26) dX28_term_48 ht rfl in_X28 tyX28_ok nmX28 q4186 rfl rfl rfl (Or.inl rfl) (Or.inl ⟨rfl, rfl⟩) rfl ?_
          refine x_iconst (-1) (z := (-1)) dX28_term_51 rfl (by decide) rfl ?_
          exact y_iret dX28_term_52 rfl h
theorem sX28_term_53 {d n : Nat} {w : bW} {Q : Int → bW → Prop} {X : String → bW → Prop} (hn : 254 ≤ n) (a0 : Int) (a1 : Int) (a2 : Int) (ha0 : b_is n a0 0 26 20) (h : (0 ≤ w a0 13 ∧ w a0 13 < 4096) ∧ ((0 ≤ w a0 13 ∧ w a0 13 < 4096) ∧ ((0 ≤ w a0 13 ∧ w a0 13 < 4096) ∧ ((0 ≤ w a0 13 ∧ w a0 13 < 4096) ∧ ((0 ≤ w a0 13 ∧ w a0 13 < 4096) ∧ ((0 ≤ w a0 13 ∧ w a0 13 < 4096) ∧ ((0 ≤ w a0 13 ∧ w a0 13 < 4096) ∧ ((0 ≤ w a0 13 ∧ w a0 13 < 4096) ∧ ((0 ≤ w a0 13 ∧ w a0 13 < 4096) ∧ ((0 ≤ w a0 13 ∧ w a0 13 < 4096) ∧ (if a1 ≠ 5 then (LX28_term_190 d n Q X a0 a2 (w a0 13) (-1) (w a0 13) (a0 + 13) (b_up (b_up (b_up (b_up (b_up (b_up (b_up (b_up (b_up (b_up (b_up w a0 13 (b_i ((w a0 13) + 1))) (a0 + 4) (w a0 13) (b_b8 a1)) (a0 + 5) (w a0 13) ((b_up (b_up w a0 13 (b_i ((w a0 13) + 1))) (a0 + 4) (w a0 13) (b_b8 a1)) a0 16)) (a0 + 6) (w a0 13) ((b_up (b_up (b_up w a0 13 (b_i ((w a0 13) + 1))) (a0 + 4) (w a0 13) (b_b8 a1)) (a0 + 5) (w a0 13) ((b_up (b_up w a0 13 (b_i ((w a0 13) + 1))) (a0 + 4) (w a0 13) (b_b8 a1)) a0 16)) a0 17)) (a0 + 7) (w a0 13) (-1)) (a0 + 8) (w a0 13) (-1)) (a0 + 9) (w a0 13) (-1)) (a0 + 10) (w a0 13) (-1)) (a0 + 11) (w a0 13) (-1)) (a0 + 12) (w a0 13) 0) (a0 + 14) (w a0 13) 0)) else (b_K d mX29_find [(2, a0 + 1), (2, a0 + 3), (0, (b_up (b_up (b_up (b_up (b_up (b_up (b_up (b_up (b_up (b_up (b_up w a0 13 (b_i ((w a0 13) + 1))) (a0 + 4) (w a0 13) (b_b8 a1)) (a0 + 5) (w a0 13) ((b_up (b_up w a0 13 (b_i ((w a0 13) + 1))) (a0 + 4) (w a0 13) (b_b8 a1)) a0 16)) (a0 + 6) (w a0 13) ((b_up (b_up (b_up w a0 13 (b_i ((w a0 13) + 1))) (a0 + 4) (w a0 13) (b_b8 a1)) (a0 + 5) (w a0 13) ((b_up (b_up w a0 13 (b_i ((w a0 13) + 1))) (a0 + 4) (w a0 13) (b_b8 a1)) a0 16)) a0 17)) (a0 + 7) (w a0 13) (-1)) (a0 + 8) (w a0 13) (-1)) (a0 + 9) (w a0 13) (-1)) (a0 + 10) (w a0 13) (-1)) (a0 + 11) (w a0 13) (-1)) (a0 + 12) (w a0 13) 0) (a0 + 14) (w a0 13) 0) a0 16), (0, (b_up (b_up (b_up (b_up (b_up (b_up (b_up (b_up (b_up (b_up (b_up w a0 13 (b_i ((w a0 13) + 1))) (a0 + 4) (w a0 13) (b_b8 a1)) (a0 + 5) (w a0 13) ((b_up (b_up w a0 13 (b_i ((w a0 13) + 1))) (a0 + 4) (w a0 13) (b_b8 a1)) a0 16)) (a0 + 6) (w a0 13) ((b_up (b_up (b_up w a0 13 (b_i ((w a0 13) + 1))) (a0 + 4) (w a0 13) (b_b8 a1)) (a0 + 5) (w a0 13) ((b_up (b_up w a0 13 (b_i ((w a0 13) + 1))) (a0 + 4) (w a0 13) (b_b8 a1)) a0 16)) a0 17)) (a0 + 7) (w a0 13) (-1)) (a0 + 8) (w a0 13) (-1)) (a0 + 9) (w a0 13) (-1)) (a0 + 10) (w a0 13) (-1)) (a0 + 11) (w a0 13) (-1)) (a0 + 12) (w a0 13) 0) (a0 + 14) (w a0 13) 0) a0 17)] n (b_up (b_up (b_up (b_up (b_up (b_up (b_up (b_up (b_up (b_up (b_up w a0 13 (b_i ((w a0 13) + 1))) (a0 + 4) (w a0 13) (b_b8 a1)) (a0 + 5) (w a0 13) ((b_up (b_up w a0 13 (b_i ((w a0 13) + 1))) (a0 + 4) (w a0 13) (b_b8 a1)) a0 16)) (a0 + 6) (w a0 13) ((b_up (b_up (b_up w a0 13 (b_i ((w a0 13) + 1))) (a0 + 4) (w a0 13) (b_b8 a1)) (a0 + 5) (w a0 13) ((b_up (b_up w a0 13 (b_i ((w a0 13) + 1))) (a0 + 4) (w a0 13) (b_b8 a1)) a0 16)) a0 17)) (a0 + 7) (w a0 13) (-1)) (a0 + 8) (w a0 13) (-1)) (a0 + 9) (w a0 13) (-1)) (a0 + 10) (w a0 13) (-1)) (a0 + 11) (w a0 13) (-1)) (a0 + 12) (w a0 13) 0) (a0 + 14) (w a0 13) 0) (fun r24 w25 => LX28_term_190 d n Q X a0 a2 (w a0 13) r24 (w a0 13) (a0 + 13) w25) X)))))))))))) : LX28_term_53 d n Q X a0 a1 a2 w := by
  refine x_aload_n 0 dX28_term_53 rfl rfl rfl rfl rfl ?_
  refine y_get 105 13 (c := 26) (z := w a0 13) dX28_term_54 ha0 rfl in_X28 q4185 rfl rfl rfl rfl rfl ?_
  refine x_istore 4 (ls' := [(2, a0), (0, a1), (0, a2), (9, 0), (0, w a0 13)]) dX28_term_57 rfl rfl rfl ?_
  refine x_aload_n 0 dX28_term_59 rfl rfl rfl rfl rfl ?_
  refine x_dup dX28_term_60 rfl rfl ?_
  refine y_get 105 13 (c := 26) (z := w a0 13) dX28_term_61 ha0 rfl in_X28 q4185 rfl rfl rfl rfl rfl ?_
  refine x_iconst 1 (z := 1) dX28_term_64 rfl (by decide) rfl ?_
  refine x_iadd dX28_term_65 rfl ?_
  refine x_put 105 13 (c := 26) dX28_term_66 ha0 rfl in_X28 tyX28_ok nmX28 q4185 rfl rfl rfl (Or.inl rfl) (Or.inl ⟨rfl, rfl⟩) rfl ?_
  refine x_aload_n 0 dX28_term_69 rfl rfl rfl rfl rfl ?_
  refine y_getO 15 2 (c := 26) dX28_term_70 ha0 rfl in_X28 q4158 rfl rfl rfl (fun h5 hf => of_X28_2 (Nat.le_trans (Nat.le_of_ble_eq_true rfl) hn) h5 ha0 hf) rfl (fun e1 => ?_)
  refine x_iload 4 dX28_term_73 rfl rfl ?_
  refine x_iload_n 1 dX28_term_75 rfl rfl rfl ?_
  refine x_i2b dX28_term_76 rfl ?_
  obtain ⟨e2, h⟩ := h
  refine y_bast (x' := b_b8 a1) dX28_term_77 ⟨4096, e1, e2⟩ (b_b8_i _) rfl ?_
  refine x_aload_n 0 dX28_term_78 rfl rfl rfl rfl rfl ?_
  refine y_getO 18 3 (c := 26) dX28_term_79 ha0 rfl in_X28 q4161 rfl rfl rfl (fun h5 hf => of_X28_3 (Nat.le_trans (Nat.le_of_ble_eq_true rfl) hn) h5 ha0 hf) rfl (fun e3 => ?_)
  refine x_iload 4 dX28_term_82 rfl rfl ?_
  refine x_aload_n 0 dX28_term_84 rfl rfl rfl rfl rfl ?_
  refine y_get 76 16 (c := 26) (z := (b_up (b_up w a0 13 (b_i ((w a0 13) + 1))) (a0 + 4) (w a0 13) (b_b8 a1)) a0 16) dX28_term_85 ha0 rfl in_X28 q4189 rfl rfl rfl rfl rfl ?_
  obtain ⟨e4, h⟩ := h
  refine y_iast (x' := (b_up (b_up w a0 13 (b_i ((w a0 13) + 1))) (a0 + 4) (w a0 13) (b_b8 a1)) a0 16) dX28_term_88 ⟨4096, e3, e4⟩ rfl rfl ?_
  refine x_aload_n 0 dX28_term_89 rfl rfl rfl rfl rfl ?_
  refine y_getO 22 4 (c := 26) dX28_term_90 ha0 rfl in_X28 q4163 rfl rfl rfl (fun h5 hf => of_X28_4 (Nat.le_trans (Nat.le_of_ble_eq_true rfl) hn) h5 ha0 hf) rfl (fun e5 => ?_)
  refine x_iload 4 dX28_term_93 rfl rfl ?_
  refine x_aload_n 0 dX28_term_95 rfl rfl rfl rfl rfl ?_
  refine y_get 69 17 (c := 26) (z := (b_up (b_up (b_up w a0 13 (b_i ((w a0 13) + 1))) (a0 + 4) (w a0 13) (b_b8 a1)) (a0 + 5) (w a0 13) ((b_up (b_up w a0 13 (b_i ((w a0 13) + 1))) (a0 + 4) (w a0 13) (b_b8 a1)) a0 16)) a0 17) dX28_term_96 ha0 rfl in_X28 q4190 rfl rfl rfl rfl rfl ?_
  obtain ⟨e6, h⟩ := h
  refine y_iast (x' := (b_up (b_up (b_up w a0 13 (b_i ((w a0 13) + 1))) (a0 + 4) (w a0 13) (b_b8 a1)) (a0 + 5) (w a0 13) ((b_up (b_up w a0 13 (b_i ((w a0 13) + 1))) (a0 + 4) (w a0 13) (b_b8 a1)) a0 16)) a0 17) dX28_term_99 ⟨4096, e5, e6⟩ rfl rfl ?_
  refine x_aload_n 0 dX28_term_100 rfl rfl rfl rfl rfl ?_
  refine y_getO 25 5 (c := 26) dX28_term_101 ha0 rfl in_X28 q4165 rfl rfl rfl (fun h5 hf => of_X28_5 (Nat.le_trans (Nat.le_of_ble_eq_true rfl) hn) h5 ha0 hf) rfl (fun e7 => ?_)
  refine x_iload 4 dX28_term_104 rfl rfl ?_
  refine x_iconst (-1) (z := (-1)) dX28_term_106 rfl (by decide) rfl ?_
  obtain ⟨e8, h⟩ := h
  refine y_iast (x' := (-1)) dX28_term_107 ⟨4096, e7, e8⟩ rfl rfl ?_
  refine x_aload_n 0 dX28_term_108 rfl rfl rfl rfl rfl ?_
  refine y_getO 28 6 (c := 26) dX28_term_109 ha0 rfl in_X28 q4167 rfl rfl rfl (fun h5 hf => of_X28_6 (Nat.le_trans (Nat.le_of_ble_eq_true rfl) hn) h5 ha0 hf) rfl (fun e9 => ?_)
  refine x_iload 4 dX28_term_112 rfl rfl ?_
  refine x_iconst (-1) (z := (-1)) dX28_term_114 rfl (by decide) rfl ?_
  obtain ⟨e10, h⟩ := h
  refine y_iast (x' := (-1)) dX28_term_115 ⟨4096, e9, e10⟩ rfl rfl ?_
  refine x_aload_n 0 dX28_term_116 rfl rfl rfl rfl rfl ?_
  refine y_getO 31 7 (c := 26) dX28_term_117 ha0 rfl in_X28 q4169 rfl rfl rfl (fun h5 hf => of_X28_7 (Nat.le_trans (Nat.le_of_ble_eq_true rfl) hn) h5 ha0 hf) rfl (fun e11 => ?_)
  refine x_iload 4 dX28_term_120 rfl rfl ?_
  refine x_iconst (-1) (z := (-1)) dX28_term_122 rfl (by decide) rfl ?_
  obtain ⟨e12, h⟩ := h
  refine y_iast (x' := (-1)) dX28_term_123 ⟨4096, e11, e12⟩ rfl rfl ?_
  refine x_aload_n 0 dX28_term_124 rfl rfl rfl rfl rfl ?_
  refine y_getO 34 8 (c := 26) dX28_term_125 ha0 rfl in_X28 q4172 rfl rfl rfl (fun h5 hf => of_X28_8 (Nat.le_trans (Nat.le_of_ble_eq_true rfl) hn) h5 ha0 hf) rfl (fun e13 => ?_)
  refine x_iload 4 dX28_term_128 rfl rfl ?_
  refine x_iconst (-1) (z := (-1)) dX28_term_130 rfl (by decide) rfl ?_
  obtain ⟨e14, h⟩ := h
  refine y_iast (x' := (-1)) dX28_term_131 ⟨4096, e13, e14⟩ rfl rfl ?_
  refine x_aload_n 0 dX28_term_132 rfl rfl rfl rfl rfl ?_
  refine y_getO 37 9 (c := 26) dX28_term_133 ha0 rfl in_X28 q4175 rfl rfl rfl (fun h5 hf => of_X28_9 (Nat.le_trans (Nat.le_of_ble_eq_true rfl) hn) h5 ha0 hf) rfl (fun e15 => ?_)
  refine x_iload 4 dX28_term_136 rfl rfl ?_
  refine x_iconst (-1) (z := (-1)) dX28_term_138 rfl (by decide) rfl ?_
  obtain ⟨e16, h⟩ := h
  refine y_iast (x' := (-1)) dX28_term_139 ⟨4096, e15, e16⟩ rfl rfl ?_
  refine x_aload_n 0 dX28_term_140 rfl rfl rfl rfl rfl ?_
  refine y_getO 40 10 (c := 26) dX28_term_141 ha0 rfl in_X28 q4176 rfl rfl rfl (fun h5 hf => of_X28_10 (Nat.le_trans (Nat.le_of_ble_eq_true rfl) hn) h5 ha0 hf) rfl (fun e17 => ?_)
  refine x_iload 4 dX28_term_144 rfl rfl ?_
  refine x_iconst 0 (z := 0) dX28_term_146 rfl (by decide) rfl ?_
  obtain ⟨e18, h⟩ := h
  refine y_iast (x' := 0) dX28_term_147 ⟨4096, e17, e18⟩ rfl rfl ?_
  refine x_aload_n 0 dX28_term_148 rfl rfl rfl rfl rfl ?_
  refine y_getO 46 12 (c := 26) dX28_term_149 ha0 rfl in_X28 q4182 rfl rfl rfl (fun h5 hf => of_X28_12 (Nat.le_trans (Nat.le_of_ble_eq_true rfl) hn) h5 ha0 hf) rfl (fun e19 => ?_)
  refine x_iload 4 dX28_term_152 rfl rfl ?_
  refine x_iconst 0 (z := 0) dX28_term_154 rfl (by decide) rfl ?_
  obtain ⟨e20, h⟩ := h
  refine y_zast (x' := 0) dX28_term_155 ⟨4096, e19, e20⟩ (by decide) rfl ?_
  refine x_aload_n 0 dX28_term_156 rfl rfl rfl rfl rfl ?_
  refine y_getO 43 11 (c := 26) dX28_term_157 ha0 rfl in_X28 q4179 rfl rfl rfl (fun h5 hf => of_X28_11 (Nat.le_trans (Nat.le_of_ble_eq_true rfl) hn) h5 ha0 hf) rfl (fun e21 => ?_)
  refine x_iload 4 dX28_term_160 rfl rfl ?_
  refine x_iload_n 1 dX28_term_162 rfl rfl rfl ?_
  refine x_iconst 5 (z := 5) dX28_term_163 rfl (by decide) rfl ?_
  refine x_icmp_ne (t := 189) 25 dX28_term_164 rfl rfl (b_ite h (fun hc h => ?_) (fun hc h => ?_))
  · refine x_iconst (-1) (z := (-1)) dX28_term_189 rfl (by decide) rfl ?_
    exact x_fg (fgk (fgd (fgk (fgk (fgk (fg0)))))) h
  · refine x_aload_n 0 dX28_term_167 rfl rfl rfl rfl rfl ?_
    refine y_getO 57 18 (c := 26) dX28_term_168 ha0 rfl in_X28 q4191 rfl rfl rfl (fun h5 hf => of_X28_18 (Nat.le_trans (Nat.le_of_ble_eq_true rfl) hn) h5 ha0 hf) rfl (fun e22 => ?_)
    refine x_aload_n 0 dX28_term_171 rfl rfl rfl rfl rfl ?_
    refine y_getO 9 0 (c := 26) dX28_term_172 ha0 rfl in_X28 q4154 rfl rfl rfl (fun h5 hf => of_X28_0 (Nat.le_trans (Nat.le_of_ble_eq_true rfl) hn) h5 ha0 hf) rfl (fun e23 => ?_)
    refine x_aload_n 0 dX28_term_175 rfl rfl rfl rfl rfl ?_
    refine y_get 76 16 (c := 26) (z := (b_up (b_up (b_up (b_up (b_up (b_up (b_up (b_up (b_up (b_up (b_up w a0 13 (b_i ((w a0 13) + 1))) (a0 + 4) (w a0 13) (b_b8 a1)) (a0 + 5) (w a0 13) ((b_up (b_up w a0 13 (b_i ((w a0 13) + 1))) (a0 + 4) (w a0 13) (b_b8 a1)) a0 16)) (a0 + 6) (w a0 13) ((b_up (b_up (b_up w a0 13 (b_i ((w a0 13) + 1))) (a0 + 4) (w a0 13) (b_b8 a1)) (a0 + 5) (w a0 13) ((b_up (b_up w a0 13 (b_i ((w a0 13) + 1))) (a0 + 4) (w a0 13) (b_b8 a1)) a0 16)) a0 17)) (a0 + 7) (w a0 13) (-1)) (a0 + 8) (w a0 13) (-1)) (a0 + 9) (w a0 13) (-1)) (a0 + 10) (w a0 13) (-1)) (a0 + 11) (w a0 13) (-1)) (a0 + 12) (w a0 13) 0) (a0 + 14) (w a0 13) 0) a0 16) dX28_term_176 ha0 rfl in_X28 q4189 rfl rfl rfl rfl rfl ?_
    refine x_aload_n 0 dX28_term_179 rfl rfl rfl rfl rfl ?_
    refine y_get 69 17 (c := 26) (z := (b_up (b_up (b_up (b_up (b_up (b_up (b_up (b_up (b_up (b_up (b_up w a0 13 (b_i ((w a0 13) + 1))) (a0 + 4) (w a0 13) (b_b8 a1)) (a0 + 5) (w a0 13) ((b_up (b_up w a0 13 (b_i ((w a0 13) + 1))) (a0 + 4) (w a0 13) (b_b8 a1)) a0 16)) (a0 + 6) (w a0 13) ((b_up (b_up (b_up w a0 13 (b_i ((w a0 13) + 1))) (a0 + 4) (w a0 13) (b_b8 a1)) (a0 + 5) (w a0 13) ((b_up (b_up w a0 13 (b_i ((w a0 13) + 1))) (a0 + 4) (w a0 13) (b_b8 a1)) a0 16)) a0 17)) (a0 + 7) (w a0 13) (-1)) (a0 + 8) (w a0 13) (-1)) (a0 + 9) (w a0 13) (-1)) (a0 + 10) (w a0 13) (-1)) (a0 + 11) (w a0 13) (-1)) (a0 + 12) (w a0 13) 0) (a0 + 14) (w a0 13) 0) a0 17) dX28_term_180 ha0 rfl in_X28 q4190 rfl rfl rfl rfl rfl ?_
    refine y_Vi 112 (M := mX29_find) (As := [(2, a0 + 3), (0, (b_up (b_up (b_up (b_up (b_up (b_up (b_up (b_up (b_up (b_up (b_up w a0 13 (b_i ((w a0 13) + 1))) (a0 + 4) (w a0 13) (b_b8 a1)) (a0 + 5) (w a0 13) ((b_up (b_up w a0 13 (b_i ((w a0 13) + 1))) (a0 + 4) (w a0 13) (b_b8 a1)) a0 16)) (a0 + 6) (w a0 13) ((b_up (b_up (b_up w a0 13 (b_i ((w a0 13) + 1))) (a0 + 4) (w a0 13) (b_b8 a1)) (a0 + 5) (w a0 13) ((b_up (b_up w a0 13 (b_i ((w a0 13) + 1))) (a0 + 4) (w a0 13) (b_b8 a1)) a0 16)) a0 17)) (a0 + 7) (w a0 13) (-1)) (a0 + 8) (w a0 13) (-1)) (a0 + 9) (w a0 13) (-1)) (a0 + 10) (w a0 13) (-1)) (a0 + 11) (w a0 13) (-1)) (a0 + 12) (w a0 13) 0) (a0 + 14) (w a0 13) 0) a0 16), (0, (b_up (b_up (b_up (b_up (b_up (b_up (b_up (b_up (b_up (b_up (b_up w a0 13 (b_i ((w a0 13) + 1))) (a0 + 4) (w a0 13) (b_b8 a1)) (a0 + 5) (w a0 13) ((b_up (b_up w a0 13 (b_i ((w a0 13) + 1))) (a0 + 4) (w a0 13) (b_b8 a1)) a0 16)) (a0 + 6) (w a0 13) ((b_up (b_up (b_up w a0 13 (b_i ((w a0 13) + 1))) (a0 + 4) (w a0 13) (b_b8 a1)) (a0 + 5) (w a0 13) ((b_up (b_up w a0 13 (b_i ((w a0 13) + 1))) (a0 + 4) (w a0 13) (b_b8 a1)) a0 16)) a0 17)) (a0 + 7) (w a0 13) (-1)) (a0 + 8) (w a0 13) (-1)) (a0 + 9) (w a0 13) (-1)) (a0 + 10) (w a0 13) (-1)) (a0 + 11) (w a0 13) (-1)) (a0 + 12) (w a0 13) 0) (a0 + 14) (w a0 13) 0) a0 17)]) (st := [(0, w a0 13), (2, a0 + 13)]) dX28_term_183 e22 rfl q3238 q3239 q3240 q396 q3241 rfl hmX29_find rfl rfl rfl rfl rfl rfl rfl rfl (k_mono h (fun r24 w25 h => ?_))
    refine x_goto 4 (q := 190) dX28_term_186 rfl ?_
    exact x_fg (fgk (fgd (fgk (fgk (fgk (fg0)))))) h
theorem sX28_term_190 {d n : Nat} {w : bW} {Q : Int → bW → Prop} {X : String → bW → Prop} (hn : 254 ≤ n) (a0 : Int) (a2 : Int) (a4 : Int) (s0 : Int) (s1 : Int) (s2 : Int) (ha0 : b_is n a0 0 26 20) (h : b_ai n s2 1 0 s1 ∧ (if a2 < 0 then (Q a4 (b_up w s2 s1 s0)) else ((0 ≤ a2 ∧ a2 < 4096) ∧ (if 0 ≤ (b_up w s2 s1 s0) (a0 + 9) a2 then ((0 ≤ a2 ∧ a2 < 4096) ∧ ((0 ≤ (b_up w s2 s1 s0) (a0 + 11) a2 ∧ (b_up w s2 s1 s0) (a0 + 11) a2 < 4096) ∧ ((0 ≤ a2 ∧ a2 < 4096) ∧ (Q a4 (b_up (b_up (b_up (b_up w s2 s1 s0) (a0 + 10) ((b_up w s2 s1 s0) (a0 + 11) a2) a4) (a0 + 11) a2 a4) (a0 + 12) a2 (b_i (((b_up (b_up (b_up w s2 s1 s0) (a0 + 10) ((b_up w s2 s1 s0) (a0 + 11) a2) a4) (a0 + 11) a2 a4) (a0 + 12) a2) + 1))))))) else ((0 ≤ a2 ∧ a2 < 4096) ∧ ((0 ≤ a2 ∧ a2 < 4096) ∧ (Q a4 (b_up (b_up (b_up (b_up w s2 s1 s0) (a0 + 9) a2 a4) (a0 + 11) a2 a4) (a0 + 12) a2 (b_i (((b_up (b_up (b_up w s2 s1 s0) (a0 + 9) a2 a4) (a0 + 11) a2 a4) (a0 + 12) a2) + 1)))))))))) : LX28_term_190 d n Q X a0 a2 a4 s0 s1 s2 w := by
  obtain ⟨e1, h⟩ := h
  refine y_iast (x' := s0) dX28_term_190 e1 rfl rfl ?_
  refine x_iload_n 2 dX28_term_191 rfl rfl rfl ?_
  refine x_if_lt (t := 246) 54 dX28_term_192 rfl rfl (b_ite h (fun hc h => ?_) (fun hc h => ?_))
  · refine x_iload 4 dX28_term_246 rfl rfl ?_
    exact y_iret dX28_term_248 rfl h
  · refine x_aload_n 0 dX28_term_195 rfl rfl rfl rfl rfl ?_
    refine y_getO 31 7 (c := 26) dX28_term_196 ha0 rfl in_X28 q4169 rfl rfl rfl (fun h5 hf => of_X28_7 (Nat.le_trans (Nat.le_of_ble_eq_true rfl) hn) h5 ha0 hf) rfl (fun e2 => ?_)
    refine x_iload_n 2 dX28_term_199 rfl rfl rfl ?_
    obtain ⟨e3, h⟩ := h
    refine y_iald (z := (b_up w s2 s1 s0) (a0 + 9) a2) dX28_term_200 ⟨4096, e2, e3⟩ rfl rfl ?_
    refine x_if_ge (t := 215) 14 dX28_term_201 rfl rfl (b_ite h (fun hc h => ?_) (fun hc h => ?_))
    · refine x_aload_n 0 dX28_term_215 rfl rfl rfl rfl rfl ?_
      refine y_getO 34 8 (c := 26) dX28_term_216 ha0 rfl in_X28 q4172 rfl rfl rfl (fun h5 hf => of_X28_8 (Nat.le_trans (Nat.le_of_ble_eq_true rfl) hn) h5 ha0 hf) rfl (fun e4 => ?_)
      refine x_aload_n 0 dX28_term_219 rfl rfl rfl rfl rfl ?_
      refine y_getO 37 9 (c := 26) dX28_term_220 ha0 rfl in_X28 q4175 rfl rfl rfl (fun h5 hf => of_X28_9 (Nat.le_trans (Nat.le_of_ble_eq_true rfl) hn) h5 ha0 hf) rfl (fun e5 => ?_)
      refine x_iload_n 2 dX28_term_223 rfl rfl rfl ?_
      obtain ⟨e6, h⟩ := h
      refine y_iald (z := (b_up w s2 s1 s0) (a0 + 11) a2) dX28_term_224 ⟨4096, e5, e6⟩ rfl rfl ?_
      refine x_iload 4 dX28_term_225 rfl rfl ?_
      obtain ⟨e7, h⟩ := h
      refine y_iast (x' := a4) dX28_term_227 ⟨4096, e4, e7⟩ rfl rfl ?_
      refine x_aload_n 0 dX28_term_228 rfl rfl rfl rfl rfl ?_
      refine y_getO 37 9 (c := 26) dX28_term_229 ha0 rfl in_X28 q4175 rfl rfl rfl (fun h5 hf => of_X28_9 (Nat.le_trans (Nat.le_of_ble_eq_true rfl) hn) h5 ha0 hf) rfl (fun e8 => ?_)
      refine x_iload_n 2 dX28_term_232 rfl rfl rfl ?_
      refine x_iload 4 dX28_term_233 rfl rfl ?_
      refine y_iast (x' := a4) dX28_term_235 ⟨4096, e5, e6⟩ rfl rfl ?_
      refine x_aload_n 0 dX28_term_236 rfl rfl rfl rfl rfl ?_
      refine y_getO 40 10 (c := 26) dX28_term_237 ha0 rfl in_X28 q4176 rfl rfl rfl (fun h5 hf => of_X28_10 (Nat.le_trans (Nat.le_of_ble_eq_true rfl) hn) h5 ha0 hf) rfl (fun e9 => ?_)
      refine x_iload_n 2 dX28_term_240 rfl rfl rfl ?_
      refine x_dup2 dX28_term_241 rfl rfl rfl ?_
      obtain ⟨e10, h⟩ := h
      refine y_iald (z := (b_up (b_up (b_up w s2 s1 s0) (a0 + 10) ((b_up w s2 s1 s0) (a0 + 11) a2) a4) (a0 + 11) a2 a4) (a0 + 12) a2) dX28_term_242 ⟨4096, e9, e10⟩ rfl rfl ?_
      refine x_iconst 1 (z := 1) dX28_term_243 rfl (by decide) rfl ?_
      refine x_iadd dX28_term_244 rfl ?_
      refine y_iast (x' := b_i (((b_up (b_up (b_up w s2 s1 s0) (a0 + 10) ((b_up w s2 s1 s0) (a0 + 11) a2) a4) (a0 + 11) a2 a4) (a0 + 12) a2) + 1)) dX28_term_245 ⟨4096, e9, e10⟩ rfl rfl ?_
      refine x_iload 4 dX28_term_246 rfl rfl ?_
      exact y_iret dX28_term_248 rfl h
    · refine x_aload_n 0 dX28_term_204 rfl rfl rfl rfl rfl ?_
      refine y_getO 31 7 (c := 26) dX28_term_205 ha0 rfl in_X28 q4169 rfl rfl rfl (fun h5 hf => of_X28_7 (Nat.le_trans (Nat.le_of_ble_eq_true rfl) hn) h5 ha0 hf) rfl (fun e11 => ?_)
      refine x_iload_n 2 dX28_term_208 rfl rfl rfl ?_
      refine x_iload 4 dX28_term_209 rfl rfl ?_
      refine y_iast (x' := a4) dX28_term_211 ⟨4096, e2, e3⟩ rfl rfl ?_
      refine x_goto 16 (q := 228) dX28_term_212 rfl ?_
      refine x_aload_n 0 dX28_term_228 rfl rfl rfl rfl rfl ?_
      refine y_getO 37 9 (c := 26) dX28_term_229 ha0 rfl in_X28 q4175 rfl rfl rfl (fun h5 hf => of_X28_9 (Nat.le_trans (Nat.le_of_ble_eq_true rfl) hn) h5 ha0 hf) rfl (fun e12 => ?_)
      refine x_iload_n 2 dX28_term_232 rfl rfl rfl ?_
      refine x_iload 4 dX28_term_233 rfl rfl ?_
      obtain ⟨e13, h⟩ := h
      refine y_iast (x' := a4) dX28_term_235 ⟨4096, e12, e13⟩ rfl rfl ?_
      refine x_aload_n 0 dX28_term_236 rfl rfl rfl rfl rfl ?_
      refine y_getO 40 10 (c := 26) dX28_term_237 ha0 rfl in_X28 q4176 rfl rfl rfl (fun h5 hf => of_X28_10 (Nat.le_trans (Nat.le_of_ble_eq_true rfl) hn) h5 ha0 hf) rfl (fun e14 => ?_)
      refine x_iload_n 2 dX28_term_240 rfl rfl rfl ?_
      refine x_dup2 dX28_term_241 rfl rfl rfl ?_
      obtain ⟨e15, h⟩ := h
      refine y_iald (z := (b_up (b_up (b_up w s2 s1 s0) (a0 + 9) a2 a4) (a0 + 11) a2 a4) (a0 + 12) a2) dX28_term_242 ⟨4096, e14, e15⟩ rfl rfl ?_
      refine x_iconst 1 (z := 1) dX28_term_243 rfl (by decide) rfl ?_
      refine x_iadd dX28_term_244 rfl ?_
      refine y_iast (x' := b_i (((b_up (b_up (b_up w s2 s1 s0) (a0 + 9) a2 a4) (a0 + 11) a2 a4) (a0 + 12) a2) + 1)) dX28_term_245 ⟨4096, e14, e15⟩ rfl rfl ?_
      refine x_iload 4 dX28_term_246 rfl rfl ?_
      exact y_iret dX28_term_248 rfl h
abbrev LX28_sequence_18 (d n : Nat) (Q : Int → bW → Prop) (X : String → bW → Prop) (a0 : Int) (a2 : Int) (a3 : Int) (w : bW) : Prop := b_Y (d + 1) mX28_sequence n Q X 18 [(2, a0), (9, 0), (0, a2), (0, a3)] [] w
theorem rX28_sequence {d n : Nat} {w : bW} {Q : Int → bW → Prop} {X : String → bW → Prop} (hn : 254 ≤ n) (t : Int) (a1 : Int) (a2 : Int) (ht : b_is n t 0 26 20) (h : b_K d mX28_term [(2, t), (0, 4), (0, a1), (0, a2)] n w (fun r1 w2 => if 0 ≤ r1 then (b_K d mX28_next [(2, t)] n w2 (fun r3 w4 => LX28_sequence_18 d n Q X t a2 r1 w4) X) else (Q 0 w2)) X) : b_K (d + 1) mX28_sequence [(2, t), (0, a1), (0, a2)] n w Q X := by
  refine k_of (by decide) rfl rfl rfl (ls := [(2, t), (0, a1), (0, a2), (9, 0)]) rfl ?_
  refine x_aload_n 0 dX28_sequence_0 rfl rfl rfl rfl rfl ?_
  refine x_iconst 4 (z := 4) dX28_sequence_1 rfl (by decide) rfl ?_
  refine x_iload_n 1 dX28_sequence_2 rfl rfl rfl ?_
  refine x_iload_n 2 dX28_sequence_3 rfl rfl rfl ?_
  refine y_Vi 129 (M := mX28_term) (As := [(0, 4), (0, a1), (0, a2)]) (st := []) dX28_sequence_4 ht rfl q3209 q3211 qs190 q395 q3212 rfl hmX28_term rfl rfl rfl rfl rfl rfl rfl rfl (k_mono h (fun r1 w2 h => ?_))
  refine x_istore_n 3 (ls' := [(2, t), (0, a1), (0, a2), (0, r1)]) dX28_sequence_7 rfl rfl rfl rfl ?_
  refine x_iload_n 3 dX28_sequence_8 rfl rfl rfl ?_
  refine x_if_ge (t := 14) 5 dX28_sequence_9 rfl rfl (b_ite h (fun hc h => ?_) (fun hc h => ?_))
  · refine x_aload_n 0 dX28_sequence_14 rfl rfl rfl rfl rfl ?_
    refine y_Vv 118 (M := mX28_next) (As := []) (st := []) dX28_sequence_15 ht rfl q3167 q3169 qs182 q395 q3171 rfl hmX28_next rfl rfl rfl rfl rfl rfl rfl (k_mono h (fun r3 w4 h => ?_))
    exact x_fg (fgk (fgd (fgk (fgk (fg0))))) h
  · refine x_iconst 0 (z := 0) dX28_sequence_12 rfl (by decide) rfl ?_
    exact y_zret dX28_sequence_13 rfl (by decide) h
theorem sX28_sequence_18 {d n : Nat} {w : bW} {Q : Int → bW → Prop} {X : String → bW → Prop} (hn : 254 ≤ n) (a0 : Int) (a2 : Int) (a3 : Int) (ha0 : b_is n a0 0 26 20) (h : if w a0 15 = 125 then ((0 ≤ a3 ∧ a3 < 4096) ∧ (b_K d mX28_next [(2, a0)] n (b_up w (a0 + 6) a3 (w a0 17)) (fun r3 w4 => Q 1 w4) X)) else (b_K d mX28_item [(2, a0), (0, a3), (0, b_i (a2 + 1))] n w (fun r5 w6 => if r5 ≠ 0 then (if w6 a0 15 ≠ 59 then (if w6 a0 15 = 125 then (LX28_sequence_18 d n Q X a0 a2 a3 w6) else (b_K d mX28_fail [(2, a0)] n w6 (fun r7 w8 => (r7 = 0 ∨ r7 = 1) ∧ Q r7 w8) X)) else (b_K d mX28_next [(2, a0)] n w6 (fun r9 w10 => LX28_sequence_18 d n Q X a0 a2 a3 w10) X)) else (Q 0 w6)) X)) : LX28_sequence_18 d n Q X a0 a2 a3 w := by
  refine x_aload_n 0 dX28_sequence_18 rfl rfl rfl rfl rfl ?_
  refine y_get 79 15 (c := 26) (z := w a0 15) dX28_sequence_19 ha0 rfl in_X28 q4188 rfl rfl rfl rfl rfl ?_
  refine x_bipush 125 (z := 125) dX28_sequence_22 rfl (by decide) rfl ?_
  refine x_icmp_eq (t := 70) 46 dX28_sequence_24 rfl rfl (b_ite h (fun hc h => ?_) (fun hc h => ?_))
  · refine x_aload_n 0 dX28_sequence_70 rfl rfl rfl rfl rfl ?_
    refine y_getO 22 4 (c := 26) dX28_sequence_71 ha0 rfl in_X28 q4163 rfl rfl rfl (fun h5 hf => of_X28_4 (Nat.le_trans (Nat.le_of_ble_eq_true rfl) hn) h5 ha0 hf) rfl (fun e1 => ?_)
    refine x_iload_n 3 dX28_sequence_74 rfl rfl rfl ?_
    refine x_aload_n 0 dX28_sequence_75 rfl rfl rfl rfl rfl ?_
    refine y_get 69 17 (c := 26) (z := w a0 17) dX28_sequence_76 ha0 rfl in_X28 q4190 rfl rfl rfl rfl rfl ?_
    obtain ⟨e2, h⟩ := h
    refine y_iast (x' := w a0 17) dX28_sequence_79 ⟨4096, e1, e2⟩ rfl rfl ?_
    refine x_aload_n 0 dX28_sequence_80 rfl rfl rfl rfl rfl ?_
    refine y_Vv 118 (M := mX28_next) (As := []) (st := []) dX28_sequence_81 ha0 rfl q3167 q3169 qs182 q395 q3171 rfl hmX28_next rfl rfl rfl rfl rfl rfl rfl (k_mono h (fun r3 w4 h => ?_))
    refine x_iconst 1 (z := 1) dX28_sequence_84 rfl (by decide) rfl ?_
    exact y_zret dX28_sequence_85 rfl (by decide) h
  · refine x_aload_n 0 dX28_sequence_27 rfl rfl rfl rfl rfl ?_
    refine x_iload_n 3 dX28_sequence_28 rfl rfl rfl ?_
    refine x_iload_n 2 dX28_sequence_29 rfl rfl rfl ?_
    refine x_iconst 1 (z := 1) dX28_sequence_30 rfl (by decide) rfl ?_
    refine x_iadd dX28_sequence_31 rfl ?_
    refine y_Vi 121 (M := mX28_item) (As := [(0, a3), (0, b_i (a2 + 1))]) (st := []) dX28_sequence_32 ha0 rfl q3201 q3203 qs188 q395 q3204 rfl hmX28_item rfl rfl rfl rfl rfl rfl rfl rfl (k_mono h (fun r5 w6 h => ?_))
    refine x_if_ne (t := 40) 5 dX28_sequence_35 rfl rfl (b_ite h (fun hc h => ?_) (fun hc h => ?_))
    · refine x_aload_n 0 dX28_sequence_40 rfl rfl rfl rfl rfl ?_
      refine y_get 79 15 (c := 26) (z := w6 a0 15) dX28_sequence_41 ha0 rfl in_X28 q4188 rfl rfl rfl rfl rfl ?_
      refine x_bipush 59 (z := 59) dX28_sequence_44 rfl (by decide) rfl ?_
      refine x_icmp_ne (t := 56) 10 dX28_sequence_46 rfl rfl (b_ite h (fun hc h => ?_) (fun hc h => ?_))
      · refine x_aload_n 0 dX28_sequence_56 rfl rfl rfl rfl rfl ?_
        refine y_get 79 15 (c := 26) (z := w6 a0 15) dX28_sequence_57 ha0 rfl in_X28 q4188 rfl rfl rfl rfl rfl ?_
        refine x_bipush 125 (z := 125) dX28_sequence_60 rfl (by decide) rfl ?_
        refine x_icmp_eq (t := 18) (-44) dX28_sequence_62 rfl rfl (b_ite h (fun hc h => ?_) (fun hc h => ?_))
        · exact x_fg (fgk (fgk (fgk (fgk (fg0))))) h
        · refine x_aload_n 0 dX28_sequence_65 rfl rfl rfl rfl rfl ?_
          refine y_Vi 125 (M := mX28_fail) (As := []) (st := []) dX28_sequence_66 ha0 rfl q3248 q3250 qs192 q395 q3251 rfl hmX28_fail rfl rfl rfl rfl rfl rfl rfl rfl (k_mono h (fun r7 w8 h => ?_))
          exact y_zret dX28_sequence_69 rfl h.1 h.2
      · refine x_aload_n 0 dX28_sequence_49 rfl rfl rfl rfl rfl ?_
        refine y_Vv 118 (M := mX28_next) (As := []) (st := []) dX28_sequence_50 ha0 rfl q3167 q3169 qs182 q395 q3171 rfl hmX28_next rfl rfl rfl rfl rfl rfl rfl (k_mono h (fun r9 w10 h => ?_))
        refine x_goto (-35) (q := 18) dX28_sequence_53 rfl ?_
        exact x_fg (fgk (fgk (fgk (fgk (fg0))))) h
    · refine x_iconst 0 (z := 0) dX28_sequence_38 rfl (by decide) rfl ?_
      exact y_zret dX28_sequence_39 rfl (by decide) h
theorem rX28_fail {d n : Nat} {w : bW} {Q : Int → bW → Prop} {X : String → bW → Prop} (t : Int) (ht : b_is n t 0 26 20) (h : Q 0 (b_up w t 14 (w t 16))) : b_K (d + 1) mX28_fail [(2, t)] n w Q X := by
  refine k_of (by decide) rfl rfl rfl (ls := [(2, t)]) rfl ?_
  refine x_aload_n 0 dX28_fail_0 rfl rfl rfl rfl rfl ?_
  refine x_aload_n 0 dX28_fail_1 rfl rfl rfl rfl rfl ?_
  refine y_get 76 16 (c := 26) (z := w t 16) dX28_fail_2 ht rfl in_X28 q4189 rfl rfl rfl rfl rfl ?_
  refine x_put 102 14 (c := 26) dX28_fail_5 ht rfl in_X28 tyX28_ok nmX28 q4186 rfl rfl rfl (Or.inl rfl) (Or.inl ⟨rfl, rfl⟩) rfl ?_
  refine x_iconst 0 (z := 0) dX28_fail_8 rfl (by decide) rfl ?_
  exact y_zret dX28_fail_9 rfl (by decide) h
abbrev LX28_application_58 (d n : Nat) (Q : Int → bW → Prop) (X : String → bW → Prop) (a0 : Int) (a2 : Int) (a3 : Int) (a4 : Int) (a5 : Int) (w : bW) : Prop := b_Y (d + 1) mX28_application n Q X 58 [(2, a0), (9, 0), (0, a2), (0, a3), (0, a4), (0, a5)] [] w
theorem rX28_application {d n : Nat} {w : bW} {Q : Int → bW → Prop} {X : String → bW → Prop} (hn : 254 ≤ n) (t : Int) (a1 : Int) (a2 : Int) (ht : b_is n t 0 26 20) (h : b_K d mX28_term [(2, t), (0, 5), (0, a1), (0, a2)] n w (fun r1 w2 => if 0 ≤ r1 then (b_K d mX28_next [(2, t)] n w2 (fun r3 w4 => if w4 t 15 ≠ 5 then (LX28_application_58 d n Q X t a2 r1 1 1 w4) else ((0 ≤ r1 ∧ r1 < 4096) ∧ ((0 ≤ r1 ∧ r1 < 4096) ∧ (b_K d mX28_next [(2, t)] n (b_up (b_up w4 (t + 7) r1 (b_i ((w4 t 16) + 1))) (t + 8) r1 ((b_up w4 (t + 7) r1 (b_i ((w4 t 16) + 1))) t 17)) (fun r9 w10 => LX28_application_58 d n Q X t a2 r1 1 1 w10) X)))) X) else (Q 0 w2)) X) : b_K (d + 1) mX28_application [(2, t), (0, a1), (0, a2)] n w Q X := by
  refine k_of (by decide) rfl rfl rfl (ls := [(2, t), (0, a1), (0, a2), (9, 0), (9, 0), (9, 0)]) rfl ?_
  refine x_aload_n 0 dX28_application_0 rfl rfl rfl rfl rfl ?_
  refine x_iconst 5 (z := 5) dX28_application_1 rfl (by decide) rfl ?_
  refine x_iload_n 1 dX28_application_2 rfl rfl rfl ?_
  refine x_iload_n 2 dX28_application_3 rfl rfl rfl ?_
  refine y_Vi 129 (M := mX28_term) (As := [(0, 5), (0, a1), (0, a2)]) (st := []) dX28_application_4 ht rfl q3209 q3211 qs190 q395 q3212 rfl hmX28_term rfl rfl rfl rfl rfl rfl rfl rfl (k_mono h (fun r1 w2 h => ?_))
  refine x_istore_n 3 (ls' := [(2, t), (0, a1), (0, a2), (0, r1), (9, 0), (9, 0)]) dX28_application_7 rfl rfl rfl rfl ?_
  refine x_iload_n 3 dX28_application_8 rfl rfl rfl ?_
  refine x_if_ge (t := 14) 5 dX28_application_9 rfl rfl (b_ite h (fun hc h => ?_) (fun hc h => ?_))
  · refine x_aload_n 0 dX28_application_14 rfl rfl rfl rfl rfl ?_
    refine y_Vv 118 (M := mX28_next) (As := []) (st := []) dX28_application_15 ht rfl q3167 q3169 qs182 q395 q3171 rfl hmX28_next rfl rfl rfl rfl rfl rfl rfl (k_mono h (fun r3 w4 h => ?_))
    refine x_aload_n 0 dX28_application_18 rfl rfl rfl rfl rfl ?_
    refine y_get 79 15 (c := 26) (z := w4 t 15) dX28_application_19 ht rfl in_X28 q4188 rfl rfl rfl rfl rfl ?_
    refine x_iconst 5 (z := 5) dX28_application_22 rfl (by decide) rfl ?_
    refine x_icmp_ne (t := 52) 29 dX28_application_23 rfl rfl (b_ite h (fun hc h => ?_) (fun hc h => ?_))
    · refine x_iconst 1 (z := 1) dX28_application_52 rfl (by decide) rfl ?_
      refine x_istore 4 (ls' := [(2, t), (0, a1), (0, a2), (0, r1), (0, 1), (9, 0)]) dX28_application_53 rfl rfl rfl ?_
      refine x_iconst 1 (z := 1) dX28_application_55 rfl (by decide) rfl ?_
      refine x_istore 5 (ls' := [(2, t), (0, a1), (0, a2), (0, r1), (0, 1), (0, 1)]) dX28_application_56 rfl rfl rfl ?_
      exact x_fg (fgk (fgd (fgk (fgk (fgk (fgk (fg0))))))) h
    · refine x_aload_n 0 dX28_application_26 rfl rfl rfl rfl rfl ?_
      refine y_getO 25 5 (c := 26) dX28_application_27 ht rfl in_X28 q4165 rfl rfl rfl (fun h5 hf => of_X28_5 (Nat.le_trans (Nat.le_of_ble_eq_true rfl) hn) h5 ht hf) rfl (fun e5 => ?_)
      refine x_iload_n 3 dX28_application_30 rfl rfl rfl ?_
      refine x_aload_n 0 dX28_application_31 rfl rfl rfl rfl rfl ?_
      refine y_get 76 16 (c := 26) (z := w4 t 16) dX28_application_32 ht rfl in_X28 q4189 rfl rfl rfl rfl rfl ?_
      refine x_iconst 1 (z := 1) dX28_application_35 rfl (by decide) rfl ?_
      refine x_iadd dX28_application_36 rfl ?_
      obtain ⟨e6, h⟩ := h
      refine y_iast (x' := b_i ((w4 t 16) + 1)) dX28_application_37 ⟨4096, e5, e6⟩ rfl rfl ?_
      refine x_aload_n 0 dX28_application_38 rfl rfl rfl rfl rfl ?_
      refine y_getO 28 6 (c := 26) dX28_application_39 ht rfl in_X28 q4167 rfl rfl rfl (fun h5 hf => of_X28_6 (Nat.le_trans (Nat.le_of_ble_eq_true rfl) hn) h5 ht hf) rfl (fun e7 => ?_)
      refine x_iload_n 3 dX28_application_42 rfl rfl rfl ?_
      refine x_aload_n 0 dX28_application_43 rfl rfl rfl rfl rfl ?_
      refine y_get 69 17 (c := 26) (z := (b_up w4 (t + 7) r1 (b_i ((w4 t 16) + 1))) t 17) dX28_application_44 ht rfl in_X28 q4190 rfl rfl rfl rfl rfl ?_
      obtain ⟨e8, h⟩ := h
      refine y_iast (x' := (b_up w4 (t + 7) r1 (b_i ((w4 t 16) + 1))) t 17) dX28_application_47 ⟨4096, e7, e8⟩ rfl rfl ?_
      refine x_aload_n 0 dX28_application_48 rfl rfl rfl rfl rfl ?_
      refine y_Vv 118 (M := mX28_next) (As := []) (st := []) dX28_application_49 ht rfl q3167 q3169 qs182 q395 q3171 rfl hmX28_next rfl rfl rfl rfl rfl rfl rfl (k_mono h (fun r9 w10 h => ?_))
      refine x_iconst 1 (z := 1) dX28_application_52 rfl (by decide) rfl ?_
      refine x_istore 4 (ls' := [(2, t), (0, a1), (0, a2), (0, r1), (0, 1), (9, 0)]) dX28_application_53 rfl rfl rfl ?_
      refine x_iconst 1 (z := 1) dX28_application_55 rfl (by decide) rfl ?_
      refine x_istore 5 (ls' := [(2, t), (0, a1), (0, a2), (0, r1), (0, 1), (0, 1)]) dX28_application_56 rfl rfl rfl ?_
      exact x_fg (fgk (fgd (fgk (fgk (fgk (fgk (fg0))))))) h
  · refine x_iconst 0 (z := 0) dX28_application_12 rfl (by decide) rfl ?_
    exact y_zret dX28_application_13 rfl (by decide) h
theorem sX28_application_58 {d n : Nat} {w : bW} {Q : Int → bW → Prop} {X : String → bW → Prop} (hn : 254 ≤ n) (a0 : Int) (a2 : Int) (a3 : Int) (a4 : Int) (a5 : Int) (ha0 : b_is n a0 0 26 20) (h : if a4 = 0 then ((a4 = 0 ∨ a4 = 1) ∧ Q a4 w) else (if a5 = 0 then ((a4 = 0 ∨ a4 = 1) ∧ Q a4 w) else (if w a0 15 = 1 then (b_K d mX28_leaf [(2, a0), (0, a3), (0, b_i (a2 + 1))] n w (fun r1 w2 => LX28_application_58 d n Q X a0 a2 a3 r1 a5 w2) X) else (if w a0 15 = 2 then (b_K d mX28_leaf [(2, a0), (0, a3), (0, b_i (a2 + 1))] n w (fun r3 w4 => LX28_application_58 d n Q X a0 a2 a3 r3 a5 w4) X) else (if w a0 15 = 3 then (b_K d mX28_leaf [(2, a0), (0, a3), (0, b_i (a2 + 1))] n w (fun r5 w6 => LX28_application_58 d n Q X a0 a2 a3 r5 a5 w6) X) else (if w a0 15 ≠ 4 then (if w a0 15 ≠ 123 then (if w a0 15 ≠ 40 then (LX28_application_58 d n Q X a0 a2 a3 a4 0 w) else (b_K d mX28_next [(2, a0)] n w (fun r7 w8 => if w8 a0 15 ≠ 4 then (b_K d mX28_fail [(2, a0)] n w8 (fun r9 w10 => if r9 = 0 then (if r9 = 0 then (LX28_application_58 d n Q X a0 a2 a3 r9 a5 w10) else (b_K d mX28_next [(2, a0)] n w10 (fun r11 w12 => LX28_application_58 d n Q X a0 a2 a3 r9 a5 w12) X)) else (if w10 a0 15 = 41 then (if r9 = 0 then (LX28_application_58 d n Q X a0 a2 a3 r9 a5 w10) else (b_K d mX28_next [(2, a0)] n w10 (fun r13 w14 => LX28_application_58 d n Q X a0 a2 a3 r9 a5 w14) X)) else (b_K d mX28_fail [(2, a0)] n w10 (fun r15 w16 => LX28_application_58 d n Q X a0 a2 a3 r15 a5 w16) X))) X) else (b_K d mX28_application [(2, a0), (0, a3), (0, b_i (a2 + 1))] n w8 (fun r17 w18 => if r17 = 0 then (if r17 = 0 then (LX28_application_58 d n Q X a0 a2 a3 r17 a5 w18) else (b_K d mX28_next [(2, a0)] n w18 (fun r19 w20 => LX28_application_58 d n Q X a0 a2 a3 r17 a5 w20) X)) else (if w18 a0 15 = 41 then (if r17 = 0 then (LX28_application_58 d n Q X a0 a2 a3 r17 a5 w18) else (b_K d mX28_next [(2, a0)] n w18 (fun r21 w22 => LX28_application_58 d n Q X a0 a2 a3 r17 a5 w22) X)) else (b_K d mX28_fail [(2, a0)] n w18 (fun r23 w24 => LX28_application_58 d n Q X a0 a2 a3 r23 a5 w24) X))) X)) X)) else (b_K d mX28_sequence [(2, a0), (0, a3), (0, b_i (a2 + 1))] n w (fun r25 w26 => LX28_application_58 d n Q X a0 a2 a3 r25 a5 w26) X)) else (b_K d mX28_leaf [(2, a0), (0, a3), (0, b_i (a2 + 1))] n w (fun r27 w28 => LX28_application_58 d n Q X a0 a2 a3 r27 a5 w28) X))))))) : LX28_application_58 d n Q X a0 a2 a3 a4 a5 w := by
  refine x_iload 4 dX28_application_58 rfl rfl ?_
  refine x_if_eq (t := 214) 154 dX28_application_60 rfl rfl (b_ite h (fun hc h => ?_) (fun hc h => ?_))
  · refine x_iload 4 dX28_application_214 rfl rfl ?_
    exact y_zret dX28_application_216 rfl h.1 h.2
  · refine x_iload 5 dX28_application_63 rfl rfl ?_
    refine x_if_eq (t := 214) 149 dX28_application_65 rfl rfl (b_ite h (fun hc h => ?_) (fun hc h => ?_))
    · refine x_iload 4 dX28_application_214 rfl rfl ?_
      exact y_zret dX28_application_216 rfl h.1 h.2
    · refine x_aload_n 0 dX28_application_68 rfl rfl rfl rfl rfl ?_
      refine y_get 79 15 (c := 26) (z := w a0 15) dX28_application_69 ha0 rfl in_X28 q4188 rfl rfl rfl rfl rfl ?_
      refine x_iconst 1 (z := 1) dX28_application_72 rfl (by decide) rfl ?_
      refine x_icmp_eq (t := 100) 27 dX28_application_73 rfl rfl (b_ite h (fun hc h => ?_) (fun hc h => ?_))
      · refine x_aload_n 0 dX28_application_100 rfl rfl rfl rfl rfl ?_
        refine x_iload_n 3 dX28_application_101 rfl rfl rfl ?_
        refine x_iload_n 2 dX28_application_102 rfl rfl rfl ?_
        refine x_iconst 1 (z := 1) dX28_application_103 rfl (by decide) rfl ?_
        refine x_iadd dX28_application_104 rfl ?_
        refine y_Vi 133 (M := mX28_leaf) (As := [(0, a3), (0, b_i (a2 + 1))]) (st := []) dX28_application_105 ha0 rfl q3205 q3207 qs189 q395 q3208 rfl hmX28_leaf rfl rfl rfl rfl rfl rfl rfl rfl (k_mono h (fun r1 w2 h => ?_))
        refine x_istore 4 (ls' := [(2, a0), (9, 0), (0, a2), (0, a3), (0, r1), (0, a5)]) dX28_application_108 rfl rfl rfl ?_
        refine x_goto (-52) (q := 58) dX28_application_110 rfl ?_
        exact x_fg (fgk (fgk (fgk (fgk (fgk (fgk (fg0))))))) h
      · refine x_aload_n 0 dX28_application_76 rfl rfl rfl rfl rfl ?_
        refine y_get 79 15 (c := 26) (z := w a0 15) dX28_application_77 ha0 rfl in_X28 q4188 rfl rfl rfl rfl rfl ?_
        refine x_iconst 2 (z := 2) dX28_application_80 rfl (by decide) rfl ?_
        refine x_icmp_eq (t := 100) 19 dX28_application_81 rfl rfl (b_ite h (fun hc h => ?_) (fun hc h => ?_))
        · refine x_aload_n 0 dX28_application_100 rfl rfl rfl rfl rfl ?_
          refine x_iload_n 3 dX28_application_101 rfl rfl rfl ?_
          refine x_iload_n 2 dX28_application_102 rfl rfl rfl ?_
          refine x_iconst 1 (z := 1) dX28_application_103 rfl (by decide) rfl ?_
          refine x_iadd dX28_application_104 rfl ?_
          refine y_Vi 133 (M := mX28_leaf) (As := [(0, a3), (0, b_i (a2 + 1))]) (st := []) dX28_application_105 ha0 rfl q3205 q3207 qs189 q395 q3208 rfl hmX28_leaf rfl rfl rfl rfl rfl rfl rfl rfl (k_mono h (fun r3 w4 h => ?_))
          refine x_istore 4 (ls' := [(2, a0), (9, 0), (0, a2), (0, a3), (0, r3), (0, a5)]) dX28_application_108 rfl rfl rfl ?_
          refine x_goto (-52) (q := 58) dX28_application_110 rfl ?_
          exact x_fg (fgk (fgk (fgk (fgk (fgk (fgk (fg0))))))) h
        · refine x_aload_n 0 dX28_application_84 rfl rfl rfl rfl rfl ?_
          refine y_get 79 15 (c := 26) (z := w a0 15) dX28_application_85 ha0 rfl in_X28 q4188 rfl rfl rfl rfl rfl ?_
          refine x_iconst 3 (z := 3) dX28_application_88 rfl (by decide) rfl ?_
          refine x_icmp_eq (t := 100) 11 dX28_application_89 rfl rfl (b_ite h (fun hc h => ?_) (fun hc h => ?_))
          · refine x_aload_n 0 dX28_application_100 rfl rfl rfl rfl rfl ?_
            refine x_iload_n 3 dX28_application_101 rfl rfl rfl ?_
            refine x_iload_n 2 dX28_application_102 rfl rfl rfl ?_
            refine x_iconst 1 (z := 1) dX28_application_103 rfl (by decide) rfl ?_
            refine x_iadd dX28_application_104 rfl ?_
            refine y_Vi 133 (M := mX28_leaf) (As := [(0, a3), (0, b_i (a2 + 1))]) (st := []) dX28_application_105 ha0 rfl q3205 q3207 qs189 q395 q3208 rfl hmX28_leaf rfl rfl rfl rfl rfl rfl rfl rfl (k_mono h (fun r5 w6 h => ?_))
            refine x_istore 4 (ls' := [(2, a0), (9, 0), (0, a2), (0, a3), (0, r5), (0, a5)]) dX28_application_108 rfl rfl rfl ?_
            refine x_goto (-52) (q := 58) dX28_application_110 rfl ?_
            exact x_fg (fgk (fgk (fgk (fgk (fgk (fgk (fg0))))))) h
          · refine x_aload_n 0 dX28_application_92 rfl rfl rfl rfl rfl ?_
            refine y_get 79 15 (c := 26) (z := w a0 15) dX28_application_93 ha0 rfl in_X28 q4188 rfl rfl rfl rfl rfl ?_
            refine x_iconst 4 (z := 4) dX28_application_96 rfl (by decide) rfl ?_
            refine x_icmp_ne (t := 113) 16 dX28_application_97 rfl rfl (b_ite h (fun hc h => ?_) (fun hc h => ?_))
            · refine x_aload_n 0 dX28_application_113 rfl rfl rfl rfl rfl ?_
              refine y_get 79 15 (c := 26) (z := w a0 15) dX28_application_114 ha0 rfl in_X28 q4188 rfl rfl rfl rfl rfl ?_
              refine x_bipush 123 (z := 123) dX28_application_117 rfl (by decide) rfl ?_
              refine x_icmp_ne (t := 135) 16 dX28_application_119 rfl rfl (b_ite h (fun hc h => ?_) (fun hc h => ?_))
              · refine x_aload_n 0 dX28_application_135 rfl rfl rfl rfl rfl ?_
                refine y_get 79 15 (c := 26) (z := w a0 15) dX28_application_136 ha0 rfl in_X28 q4188 rfl rfl rfl rfl rfl ?_
                refine x_bipush 40 (z := 40) dX28_application_139 rfl (by decide) rfl ?_
                refine x_icmp_ne (t := 208) 67 dX28_application_141 rfl rfl (b_ite h (fun hc h => ?_) (fun hc h => ?_))
                · refine x_iconst 0 (z := 0) dX28_application_208 rfl (by decide) rfl ?_
                  refine x_istore 5 (ls' := [(2, a0), (9, 0), (0, a2), (0, a3), (0, a4), (0, 0)]) dX28_application_209 rfl rfl rfl ?_
                  refine x_goto (-153) (q := 58) dX28_application_211 rfl ?_
                  exact x_fg (fgk (fgk (fgk (fgk (fgk (fgk (fg0))))))) h
                · refine x_aload_n 0 dX28_application_144 rfl rfl rfl rfl rfl ?_
                  refine y_Vv 118 (M := mX28_next) (As := []) (st := []) dX28_application_145 ha0 rfl q3167 q3169 qs182 q395 q3171 rfl hmX28_next rfl rfl rfl rfl rfl rfl rfl (k_mono h (fun r7 w8 h => ?_))
                  refine x_aload_n 0 dX28_application_148 rfl rfl rfl rfl rfl ?_
                  refine y_get 79 15 (c := 26) (z := w8 a0 15) dX28_application_149 ha0 rfl in_X28 q4188 rfl rfl rfl rfl rfl ?_
                  refine x_iconst 4 (z := 4) dX28_application_152 rfl (by decide) rfl ?_
                  refine x_icmp_ne (t := 167) 14 dX28_application_153 rfl rfl (b_ite h (fun hc h => ?_) (fun hc h => ?_))
                  · refine x_aload_n 0 dX28_application_167 rfl rfl rfl rfl rfl ?_
                    refine y_Vi 125 (M := mX28_fail) (As := []) (st := []) dX28_application_168 ha0 rfl q3248 q3250 qs192 q395 q3251 rfl hmX28_fail rfl rfl rfl rfl rfl rfl rfl rfl (k_mono h (fun r9 w10 h => ?_))
                    refine x_istore 4 (ls' := [(2, a0), (9, 0), (0, a2), (0, a3), (0, r9), (0, a5)]) dX28_application_171 rfl rfl rfl ?_
                    refine x_iload 4 dX28_application_173 rfl rfl ?_
                    refine x_if_eq (t := 196) 21 dX28_application_175 rfl rfl (b_ite h (fun hc h => ?_) (fun hc h => ?_))
                    · refine x_iload 4 dX28_application_196 rfl rfl ?_
                      refine x_if_eq (t := 58) (-140) dX28_application_198 rfl rfl (b_ite h (fun hc h => ?_) (fun hc h => ?_))
                      · exact x_fg (fgk (fgk (fgk (fgk (fgk (fgk (fg0))))))) h
                      · refine x_aload_n 0 dX28_application_201 rfl rfl rfl rfl rfl ?_
                        refine y_Vv 118 (M := mX28_next) (As := []) (st := []) dX28_application_202 ha0 rfl q3167 q3169 qs182 q395 q3171 rfl hmX28_next rfl rfl rfl rfl rfl rfl rfl (k_mono h (fun r11 w12 h => ?_))
                        refine x_goto (-147) (q := 58) dX28_application_205 rfl ?_
                        exact x_fg (fgk (fgk (fgk (fgk (fgk (fgk (fg0))))))) h
                    · refine x_aload_n 0 dX28_application_178 rfl rfl rfl rfl rfl ?_
                      refine y_get 79 15 (c := 26) (z := w10 a0 15) dX28_application_179 ha0 rfl in_X28 q4188 rfl rfl rfl rfl rfl ?_
                      refine x_bipush 41 (z := 41) dX28_application_182 rfl (by decide) rfl ?_
                      refine x_icmp_eq (t := 196) 12 dX28_application_184 rfl rfl (b_ite h (fun hc h => ?_) (fun hc h => ?_))
                      · refine x_iload 4 dX28_application_196 rfl rfl ?_
                        refine x_if_eq (t := 58) (-140) dX28_application_198 rfl rfl (b_ite h (fun hc h => ?_) (fun hc h => ?_))
                        · exact x_fg (fgk (fgk (fgk (fgk (fgk (fgk (fg0))))))) h
                        · refine x_aload_n 0 dX28_application_201 rfl rfl rfl rfl rfl ?_
                          refine y_Vv 118 (M := mX28_next) (As := []) (st := []) dX28_application_202 ha0 rfl q3167 q3169 qs182 q395 q3171 rfl hmX28_next rfl rfl rfl rfl rfl rfl rfl (k_mono h (fun r13 w14 h => ?_))
                          refine x_goto (-147) (q := 58) dX28_application_205 rfl ?_
                          exact x_fg (fgk (fgk (fgk (fgk (fgk (fgk (fg0))))))) h
                      · refine x_aload_n 0 dX28_application_187 rfl rfl rfl rfl rfl ?_
                        refine y_Vi 125 (M := mX28_fail) (As := []) (st := []) dX28_application_188 ha0 rfl q3248 q3250 qs192 q395 q3251 rfl hmX28_fail rfl rfl rfl rfl rfl rfl rfl rfl (k_mono h (fun r15 w16 h => ?_))
                        refine x_istore 4 (ls' := [(2, a0), (9, 0), (0, a2), (0, a3), (0, r15), (0, a5)]) dX28_application_191 rfl rfl rfl ?_
                        refine x_goto (-135) (q := 58) dX28_application_193 rfl ?_
                        exact x_fg (fgk (fgk (fgk (fgk (fgk (fgk (fg0))))))) h
                  · refine x_aload_n 0 dX28_application_156 rfl rfl rfl rfl rfl ?_
                    refine x_iload_n 3 dX28_application_157 rfl rfl rfl ?_
                    refine x_iload_n 2 dX28_application_158 rfl rfl rfl ?_
                    refine x_iconst 1 (z := 1) dX28_application_159 rfl (by decide) rfl ?_
                    refine x_iadd dX28_application_160 rfl ?_
                    refine y_Vi 139 (M := mX28_application) (As := [(0, a3), (0, b_i (a2 + 1))]) (st := []) dX28_application_161 ha0 rfl q3252 q3254 qs193 q395 q3255 rfl hmX28_application rfl rfl rfl rfl rfl rfl rfl rfl (k_mono h (fun r17 w18 h => ?_))
                    refine x_goto 7 (q := 171) dX28_application_164 rfl ?_
                    refine x_istore 4 (ls' := [(2, a0), (9, 0), (0, a2), (0, a3), (0, r17), (0, a5)]) dX28_application_171 rfl rfl rfl ?_
                    refine x_iload 4 dX28_application_173 rfl rfl ?_
                    refine x_if_eq (t := 196) 21 dX28_application_175 rfl rfl (b_ite h (fun hc h => ?_) (fun hc h => ?_))
                    · refine x_iload 4 dX28_application_196 rfl rfl ?_
                      refine x_if_eq (t := 58) (-140) dX28_application_198 rfl rfl (b_ite h (fun hc h => ?_) (fun hc h => ?_))
                      · exact x_fg (fgk (fgk (fgk (fgk (fgk (fgk (fg0))))))) h
                      · refine x_aload_n 0 dX28_application_201 rfl rfl rfl rfl rfl ?_
                        refine y_Vv 118 (M := mX28_next) (As := []) (st := []) dX28_application_202 ha0 rfl q3167 q3169 qs182 q395 q3171 rfl hmX28_next rfl rfl rfl rfl rfl rfl rfl (k_mono h (fun r19 w20 h => ?_))
                        refine x_goto (-147) (q := 58) dX28_application_205 rfl ?_
                        exact x_fg (fgk (fgk (fgk (fgk (fgk (fgk (fg0))))))) h
                    · refine x_aload_n 0 dX28_application_178 rfl rfl rfl rfl rfl ?_
                      refine y_get 79 15 (c := 26) (z := w18 a0 15) dX28_application_179 ha0 rfl in_X28 q4188 rfl rfl rfl rfl rfl ?_
                      refine x_bipush 41 (z := 41) dX28_application_182 rfl (by decide) rfl ?_
                      refine x_icmp_eq (t := 196) 12 dX28_application_184 rfl rfl (b_ite h (fun hc h => ?_) (fun hc h => ?_))
                      · refine x_iload 4 dX28_application_196 rfl rfl ?_
                        refine x_if_eq (t := 58) (-140) dX28_application_198 rfl rfl (b_ite h (fun hc h => ?_) (fun hc h => ?_))
                        · exact x_fg (fgk (fgk (fgk (fgk (fgk (fgk (fg0))))))) h
                        · refine x_aload_n 0 dX28_application_201 rfl rfl rfl rfl rfl ?_
                          refine y_Vv 118 (M := mX28_next) (As := []) (st := []) dX28_application_202 ha0 rfl q3167 q3169 qs182 q395 q3171 rfl hmX28_next rfl rfl rfl rfl rfl rfl rfl (k_mono h (fun r21 w22 h => ?_))
                          refine x_goto (-147) (q := 58) dX28_application_205 rfl ?_
                          exact x_fg (fgk (fgk (fgk (fgk (fgk (fgk (fg0))))))) h
                      · refine x_aload_n 0 dX28_application_187 rfl rfl rfl rfl rfl ?_
                        refine y_Vi 125 (M := mX28_fail) (As := []) (st := []) dX28_application_188 ha0 rfl q3248 q3250 qs192 q395 q3251 rfl hmX28_fail rfl rfl rfl rfl rfl rfl rfl rfl (k_mono h (fun r23 w24 h => ?_))
                        refine x_istore 4 (ls' := [(2, a0), (9, 0), (0, a2), (0, a3), (0, r23), (0, a5)]) dX28_application_191 rfl rfl rfl ?_
                        refine x_goto (-135) (q := 58) dX28_application_193 rfl ?_
                        exact x_fg (fgk (fgk (fgk (fgk (fgk (fgk (fg0))))))) h
              · refine x_aload_n 0 dX28_application_122 rfl rfl rfl rfl rfl ?_
                refine x_iload_n 3 dX28_application_123 rfl rfl rfl ?_
                refine x_iload_n 2 dX28_application_124 rfl rfl rfl ?_
                refine x_iconst 1 (z := 1) dX28_application_125 rfl (by decide) rfl ?_
                refine x_iadd dX28_application_126 rfl ?_
                refine y_Vi 136 (M := mX28_sequence) (As := [(0, a3), (0, b_i (a2 + 1))]) (st := []) dX28_application_127 ha0 rfl q3244 q3246 qs191 q395 q3247 rfl hmX28_sequence rfl rfl rfl rfl rfl rfl rfl rfl (k_mono h (fun r25 w26 h => ?_))
                refine x_istore 4 (ls' := [(2, a0), (9, 0), (0, a2), (0, a3), (0, r25), (0, a5)]) dX28_application_130 rfl rfl rfl ?_
                refine x_goto (-74) (q := 58) dX28_application_132 rfl ?_
                exact x_fg (fgk (fgk (fgk (fgk (fgk (fgk (fg0))))))) h
            · refine x_aload_n 0 dX28_application_100 rfl rfl rfl rfl rfl ?_
              refine x_iload_n 3 dX28_application_101 rfl rfl rfl ?_
              refine x_iload_n 2 dX28_application_102 rfl rfl rfl ?_
              refine x_iconst 1 (z := 1) dX28_application_103 rfl (by decide) rfl ?_
              refine x_iadd dX28_application_104 rfl ?_
              refine y_Vi 133 (M := mX28_leaf) (As := [(0, a3), (0, b_i (a2 + 1))]) (st := []) dX28_application_105 ha0 rfl q3205 q3207 qs189 q395 q3208 rfl hmX28_leaf rfl rfl rfl rfl rfl rfl rfl rfl (k_mono h (fun r27 w28 h => ?_))
              refine x_istore 4 (ls' := [(2, a0), (9, 0), (0, a2), (0, a3), (0, r27), (0, a5)]) dX28_application_108 rfl rfl rfl ?_
              refine x_goto (-52) (q := 58) dX28_application_110 rfl ?_
              exact x_fg (fgk (fgk (fgk (fgk (fgk (fgk (fg0))))))) h
theorem rX28_isSequence {d n : Nat} {w : bW} {Q : Int → bW → Prop} {X : String → bW → Prop} (hn : 254 ≤ n) (t : Int) (a1 : Int) (ht : b_is n t 0 26 20) (h : (0 ≤ a1 ∧ a1 < 4096) ∧ (if w (t + 4) a1 ≠ 4 then (Q 0 w) else (Q 1 w))) : b_K (d + 1) mX28_isSequence [(2, t), (0, a1)] n w Q X := by
  refine k_of (by decide) rfl rfl rfl (ls := [(2, t), (0, a1)]) rfl ?_
  refine x_aload_n 0 dX28_isSequence_0 rfl rfl rfl rfl rfl ?_
  refine y_getO 15 2 (c := 26) dX28_isSequence_1 ht rfl in_X28 q4158 rfl rfl rfl (fun h5 hf => of_X28_2 (Nat.le_trans (Nat.le_of_ble_eq_true rfl) hn) h5 ht hf) rfl (fun e1 => ?_)
  refine x_iload_n 1 dX28_isSequence_4 rfl rfl rfl ?_
  obtain ⟨e2, h⟩ := h
  refine y_bald (z := w (t + 4) a1) dX28_isSequence_5 ⟨4096, e1, e2⟩ rfl rfl ?_
  refine x_iconst 4 (z := 4) dX28_isSequence_6 rfl (by decide) rfl ?_
  refine x_icmp_ne (t := 14) 7 dX28_isSequence_7 rfl rfl (b_ite h (fun hc h => ?_) (fun hc h => ?_))
  · refine x_iconst 0 (z := 0) dX28_isSequence_14 rfl (by decide) rfl ?_
    exact y_zret dX28_isSequence_15 rfl (by decide) h
  · refine x_iconst 1 (z := 1) dX28_isSequence_10 rfl (by decide) rfl ?_
    refine x_goto 4 (q := 15) dX28_isSequence_11 rfl ?_
    exact y_zret dX28_isSequence_15 rfl (by decide) h
abbrev LX28_child_10 (d n : Nat) (Q : Int → bW → Prop) (X : String → bW → Prop) (a0 : Int) (a2 : Int) (a3 : Int) (a4 : Int) (w : bW) : Prop := b_Y (d + 1) mX28_child n Q X 10 [(2, a0), (9, 0), (0, a2), (0, a3), (0, a4)] [] w
theorem rX28_child {d n : Nat} {w : bW} {Q : Int → bW → Prop} {X : String → bW → Prop} (hn : 254 ≤ n) (t : Int) (a1 : Int) (a2 : Int) (ht : b_is n t 0 26 20) (h : (0 ≤ a1 ∧ a1 < 4096) ∧ (LX28_child_10 d n Q X t a2 (w (t + 9) a1) 0 w)) : b_K (d + 1) mX28_child [(2, t), (0, a1), (0, a2)] n w Q X := by
  refine k_of (by decide) rfl rfl rfl (ls := [(2, t), (0, a1), (0, a2), (9, 0), (9, 0)]) rfl ?_
  refine x_aload_n 0 dX28_child_0 rfl rfl rfl rfl rfl ?_
  refine y_getO 31 7 (c := 26) dX28_child_1 ht rfl in_X28 q4169 rfl rfl rfl (fun h5 hf => of_X28_7 (Nat.le_trans (Nat.le_of_ble_eq_true rfl) hn) h5 ht hf) rfl (fun e1 => ?_)
  refine x_iload_n 1 dX28_child_4 rfl rfl rfl ?_
  obtain ⟨e2, h⟩ := h
  refine y_iald (z := w (t + 9) a1) dX28_child_5 ⟨4096, e1, e2⟩ rfl rfl ?_
  refine x_istore_n 3 (ls' := [(2, t), (0, a1), (0, a2), (0, w (t + 9) a1), (9, 0)]) dX28_child_6 rfl rfl rfl rfl ?_
  refine x_iconst 0 (z := 0) dX28_child_7 rfl (by decide) rfl ?_
  refine x_istore 4 (ls' := [(2, t), (0, a1), (0, a2), (0, w (t + 9) a1), (0, 0)]) dX28_child_8 rfl rfl rfl ?_
  exact x_fg (fgk (fgd (fgk (fgk (fgk (fg0)))))) h
theorem sX28_child_10 {d n : Nat} {w : bW} {Q : Int → bW → Prop} {X : String → bW → Prop} (hn : 254 ≤ n) (a0 : Int) (a2 : Int) (a3 : Int) (a4 : Int) (ha0 : b_is n a0 0 26 20) (h : if a2 ≤ a4 then (Q a3 w) else ((0 ≤ a3 ∧ a3 < 4096) ∧ (LX28_child_10 d n Q X a0 a2 (w (a0 + 10) a3) (b_i (a4 + 1)) w))) : LX28_child_10 d n Q X a0 a2 a3 a4 w := by
  refine x_iload 4 dX28_child_10 rfl rfl ?_
  refine x_iload_n 2 dX28_child_12 rfl rfl rfl ?_
  refine x_icmp_ge (t := 29) 16 dX28_child_13 rfl rfl (b_ite h (fun hc h => ?_) (fun hc h => ?_))
  · refine x_iload_n 3 dX28_child_29 rfl rfl rfl ?_
    exact y_iret dX28_child_30 rfl h
  · refine x_aload_n 0 dX28_child_16 rfl rfl rfl rfl rfl ?_
    refine y_getO 34 8 (c := 26) dX28_child_17 ha0 rfl in_X28 q4172 rfl rfl rfl (fun h5 hf => of_X28_8 (Nat.le_trans (Nat.le_of_ble_eq_true rfl) hn) h5 ha0 hf) rfl (fun e1 => ?_)
    refine x_iload_n 3 dX28_child_20 rfl rfl rfl ?_
    obtain ⟨e2, h⟩ := h
    refine y_iald (z := w (a0 + 10) a3) dX28_child_21 ⟨4096, e1, e2⟩ rfl rfl ?_
    refine x_istore_n 3 (ls' := [(2, a0), (9, 0), (0, a2), (0, w (a0 + 10) a3), (0, a4)]) dX28_child_22 rfl rfl rfl rfl ?_
    refine x_iinc 4 1 (ls' := [(2, a0), (9, 0), (0, a2), (0, w (a0 + 10) a3), (0, b_i (a4 + 1))]) dX28_child_23 rfl rfl rfl rfl ?_
    refine x_goto (-16) (q := 10) dX28_child_26 rfl ?_
    exact x_fg (fgk (fgk (fgk (fgk (fgk (fg0)))))) h
theorem rX28_hasMark {d n : Nat} {w : bW} {Q : Int → bW → Prop} {X : String → bW → Prop} (hn : 254 ≤ n) (t : Int) (a1 : Int) (ht : b_is n t 0 26 20) (h : (0 ≤ a1 ∧ a1 < 4096) ∧ (if w (t + 7) a1 < 0 then (Q 0 w) else (Q 1 w))) : b_K (d + 1) mX28_hasMark [(2, t), (0, a1)] n w Q X := by
  refine k_of (by decide) rfl rfl rfl (ls := [(2, t), (0, a1)]) rfl ?_
  refine x_aload_n 0 dX28_hasMark_0 rfl rfl rfl rfl rfl ?_
  refine y_getO 25 5 (c := 26) dX28_hasMark_1 ht rfl in_X28 q4165 rfl rfl rfl (fun h5 hf => of_X28_5 (Nat.le_trans (Nat.le_of_ble_eq_true rfl) hn) h5 ht hf) rfl (fun e1 => ?_)
  refine x_iload_n 1 dX28_hasMark_4 rfl rfl rfl ?_
  obtain ⟨e2, h⟩ := h
  refine y_iald (z := w (t + 7) a1) dX28_hasMark_5 ⟨4096, e1, e2⟩ rfl rfl ?_
  refine x_if_lt (t := 13) 7 dX28_hasMark_6 rfl rfl (b_ite h (fun hc h => ?_) (fun hc h => ?_))
  · refine x_iconst 0 (z := 0) dX28_hasMark_13 rfl (by decide) rfl ?_
    exact y_zret dX28_hasMark_14 rfl (by decide) h
  · refine x_iconst 1 (z := 1) dX28_hasMark_9 rfl (by decide) rfl ?_
    refine x_goto 4 (q := 14) dX28_hasMark_10 rfl ?_
    exact y_zret dX28_hasMark_14 rfl (by decide) h
theorem rX28_isWord {d n : Nat} {w : bW} {Q : Int → bW → Prop} {X : String → bW → Prop} (hn : 254 ≤ n) (t : Int) (a1 : Int) (a2 : Int) (ht : b_is n t 0 26 20) (h : (0 ≤ a1 ∧ a1 < 4096) ∧ (if w (t + 4) a1 ≠ 5 then (Q 0 w) else ((0 ≤ a1 ∧ a1 < 4096) ∧ (if w (t + 13) a1 ≠ a2 then (Q 0 w) else (Q 1 w))))) : b_K (d + 1) mX28_isWord [(2, t), (0, a1), (0, a2)] n w Q X := by
  refine k_of (by decide) rfl rfl rfl (ls := [(2, t), (0, a1), (0, a2)]) rfl ?_
  refine x_aload_n 0 dX28_isWord_0 rfl rfl rfl rfl rfl ?_
  refine y_getO 15 2 (c := 26) dX28_isWord_1 ht rfl in_X28 q4158 rfl rfl rfl (fun h5 hf => of_X28_2 (Nat.le_trans (Nat.le_of_ble_eq_true rfl) hn) h5 ht hf) rfl (fun e1 => ?_)
  refine x_iload_n 1 dX28_isWord_4 rfl rfl rfl ?_
  obtain ⟨e2, h⟩ := h
  refine y_bald (z := w (t + 4) a1) dX28_isWord_5 ⟨4096, e1, e2⟩ rfl rfl ?_
  refine x_iconst 5 (z := 5) dX28_isWord_6 rfl (by decide) rfl ?_
  refine x_icmp_ne (t := 24) 17 dX28_isWord_7 rfl rfl (b_ite h (fun hc h => ?_) (fun hc h => ?_))
  · refine x_iconst 0 (z := 0) dX28_isWord_24 rfl (by decide) rfl ?_
    exact y_zret dX28_isWord_25 rfl (by decide) h
  · refine x_aload_n 0 dX28_isWord_10 rfl rfl rfl rfl rfl ?_
    refine y_getO 43 11 (c := 26) dX28_isWord_11 ht rfl in_X28 q4179 rfl rfl rfl (fun h5 hf => of_X28_11 (Nat.le_trans (Nat.le_of_ble_eq_true rfl) hn) h5 ht hf) rfl (fun e3 => ?_)
    refine x_iload_n 1 dX28_isWord_14 rfl rfl rfl ?_
    obtain ⟨e4, h⟩ := h
    refine y_iald (z := w (t + 13) a1) dX28_isWord_15 ⟨4096, e3, e4⟩ rfl rfl ?_
    refine x_iload_n 2 dX28_isWord_16 rfl rfl rfl ?_
    refine x_icmp_ne (t := 24) 7 dX28_isWord_17 rfl rfl (b_ite h (fun hc h => ?_) (fun hc h => ?_))
    · refine x_iconst 0 (z := 0) dX28_isWord_24 rfl (by decide) rfl ?_
      exact y_zret dX28_isWord_25 rfl (by decide) h
    · refine x_iconst 1 (z := 1) dX28_isWord_20 rfl (by decide) rfl ?_
      refine x_goto 4 (q := 25) dX28_isWord_21 rfl ?_
      exact y_zret dX28_isWord_25 rfl (by decide) h
abbrev LX28_isMark_33 (d n : Nat) (Q : Int → bW → Prop) (X : String → bW → Prop) (a0 : Int) (a1 : Int) (a2 : Int) (a3 : Int) (a4 : Int) (a5 : Int) (w : bW) : Prop := b_Y (d + 1) mX28_isMark n Q X 33 [(2, a0), (0, a1), (2, a2), (0, a3), (0, a4), (0, a5)] [] w
theorem rX28_isMark {d n : Nat} {w : bW} {Q : Int → bW → Prop} {X : String → bW → Prop} (hn : 254 ≤ n) (t : Int) (a1 : Int) (a2 : Int) (a3 : Int) (a4 : Int) (ht : b_is n t 0 26 20) (h : b_K d mX28_hasMark [(2, t), (0, a1)] n w (fun r1 w2 => if r1 = 0 then (Q 0 w2) else ((0 ≤ a1 ∧ a1 < 4096) ∧ ((0 ≤ a1 ∧ a1 < 4096) ∧ (if b_i ((w2 (t + 8) a1) - (w2 (t + 7) a1)) = b_i (a4 - a3) then (LX28_isMark_33 d n Q X t a1 a2 a3 a4 0 w2) else (Q 0 w2))))) X) : b_K (d + 1) mX28_isMark [(2, t), (0, a1), (2, a2), (0, a3), (0, a4)] n w Q X := by
  refine k_of (by decide) rfl rfl rfl (ls := [(2, t), (0, a1), (2, a2), (0, a3), (0, a4), (9, 0)]) rfl ?_
  refine x_aload_n 0 dX28_isMark_0 rfl rfl rfl rfl rfl ?_
  refine x_iload_n 1 dX28_isMark_1 rfl rfl rfl ?_
  refine y_Vi 142 (M := mX28_hasMark) (As := [(0, a1)]) (st := []) dX28_isMark_2 ht rfl q3361 q3327 q3328 q395 q3329 rfl hmX28_hasMark rfl rfl rfl rfl rfl rfl rfl rfl (k_mono h (fun r1 w2 h => ?_))
  refine x_if_eq (t := 28) 23 dX28_isMark_5 rfl rfl (b_ite h (fun hc h => ?_) (fun hc h => ?_))
  · refine x_iconst 0 (z := 0) dX28_isMark_28 rfl (by decide) rfl ?_
    exact y_zret dX28_isMark_29 rfl (by decide) h
  · refine x_aload_n 0 dX28_isMark_8 rfl rfl rfl rfl rfl ?_
    refine y_getO 28 6 (c := 26) dX28_isMark_9 ht rfl in_X28 q4167 rfl rfl rfl (fun h5 hf => of_X28_6 (Nat.le_trans (Nat.le_of_ble_eq_true rfl) hn) h5 ht hf) rfl (fun e3 => ?_)
    refine x_iload_n 1 dX28_isMark_12 rfl rfl rfl ?_
    obtain ⟨e4, h⟩ := h
    refine y_iald (z := w2 (t + 8) a1) dX28_isMark_13 ⟨4096, e3, e4⟩ rfl rfl ?_
    refine x_aload_n 0 dX28_isMark_14 rfl rfl rfl rfl rfl ?_
    refine y_getO 25 5 (c := 26) dX28_isMark_15 ht rfl in_X28 q4165 rfl rfl rfl (fun h5 hf => of_X28_5 (Nat.le_trans (Nat.le_of_ble_eq_true rfl) hn) h5 ht hf) rfl (fun e5 => ?_)
    refine x_iload_n 1 dX28_isMark_18 rfl rfl rfl ?_
    obtain ⟨e6, h⟩ := h
    refine y_iald (z := w2 (t + 7) a1) dX28_isMark_19 ⟨4096, e5, e6⟩ rfl rfl ?_
    refine x_isub dX28_isMark_20 rfl ?_
    refine x_iload 4 dX28_isMark_21 rfl rfl ?_
    refine x_iload_n 3 dX28_isMark_23 rfl rfl rfl ?_
    refine x_isub dX28_isMark_24 rfl ?_
    refine x_icmp_eq (t := 30) 5 dX28_isMark_25 rfl rfl (b_ite h (fun hc h => ?_) (fun hc h => ?_))
    · refine x_iconst 0 (z := 0) dX28_isMark_30 rfl (by decide) rfl ?_
      refine x_istore 5 (ls' := [(2, t), (0, a1), (2, a2), (0, a3), (0, a4), (0, 0)]) dX28_isMark_31 rfl rfl rfl ?_
      exact x_fg (fgk (fgk (fgk (fgk (fgk (fgk (fg0))))))) h
    · refine x_iconst 0 (z := 0) dX28_isMark_28 rfl (by decide) rfl ?_
      exact y_zret dX28_isMark_29 rfl (by decide) h
theorem sX28_isMark_33 {d n : Nat} {w : bW} {Q : Int → bW → Prop} {X : String → bW → Prop} (hn : 254 ≤ n) (a0 : Int) (a1 : Int) (a2 : Int) (a3 : Int) (a4 : Int) (a5 : Int) (ha0 : b_is n a0 0 26 20) (h : if a4 ≤ b_i (a3 + a5) then (if b_i (a3 + a5) ≠ a4 then (Q 0 w) else (Q 1 w)) else ((0 ≤ a1 ∧ a1 < 4096) ∧ ((0 ≤ b_i ((w (a0 + 7) a1) + a5) ∧ b_i ((w (a0 + 7) a1) + a5) < 16384) ∧ (b_ai n a2 1 1 (b_i (a3 + a5)) ∧ (if w (a0 + 3) (b_i ((w (a0 + 7) a1) + a5)) ≠ w a2 (b_i (a3 + a5)) then (if b_i (a3 + a5) ≠ a4 then (Q 0 w) else (Q 1 w)) else (LX28_isMark_33 d n Q X a0 a1 a2 a3 a4 (b_i (a5 + 1)) w)))))) : LX28_isMark_33 d n Q X a0 a1 a2 a3 a4 a5 w := by
  refine x_iload_n 3 dX28_isMark_33 rfl rfl rfl ?_
  refine x_iload 5 dX28_isMark_34 rfl rfl ?_
  refine x_iadd dX28_isMark_36 rfl ?_
  refine x_iload 4 dX28_isMark_37 rfl rfl ?_
  refine x_icmp_ge (t := 71) 32 dX28_isMark_39 rfl rfl (b_ite h (fun hc h => ?_) (fun hc h => ?_))
  · refine x_iload_n 3 dX28_isMark_71 rfl rfl rfl ?_
    refine x_iload 5 dX28_isMark_72 rfl rfl ?_
    refine x_iadd dX28_isMark_74 rfl ?_
    refine x_iload 4 dX28_isMark_75 rfl rfl ?_
    refine x_icmp_ne (t := 84) 7 dX28_isMark_77 rfl rfl (b_ite h (fun hc h => ?_) (fun hc h => ?_))
    · refine x_iconst 0 (z := 0) dX28_isMark_84 rfl (by decide) rfl ?_
      exact y_zret dX28_isMark_85 rfl (by decide) h
    · refine x_iconst 1 (z := 1) dX28_isMark_80 rfl (by decide) rfl ?_
      refine x_goto 4 (q := 85) dX28_isMark_81 rfl ?_
      exact y_zret dX28_isMark_85 rfl (by decide) h
  · refine x_aload_n 0 dX28_isMark_42 rfl rfl rfl rfl rfl ?_
    refine y_getO 9 0 (c := 26) dX28_isMark_43 ha0 rfl in_X28 q4154 rfl rfl rfl (fun h5 hf => of_X28_0 (Nat.le_trans (Nat.le_of_ble_eq_true rfl) hn) h5 ha0 hf) rfl (fun e1 => ?_)
    refine x_aload_n 0 dX28_isMark_46 rfl rfl rfl rfl rfl ?_
    refine y_getO 25 5 (c := 26) dX28_isMark_47 ha0 rfl in_X28 q4165 rfl rfl rfl (fun h5 hf => of_X28_5 (Nat.le_trans (Nat.le_of_ble_eq_true rfl) hn) h5 ha0 hf) rfl (fun e2 => ?_)
    refine x_iload_n 1 dX28_isMark_50 rfl rfl rfl ?_
    obtain ⟨e3, h⟩ := h
    refine y_iald (z := w (a0 + 7) a1) dX28_isMark_51 ⟨4096, e2, e3⟩ rfl rfl ?_
    refine x_iload 5 dX28_isMark_52 rfl rfl ?_
    refine x_iadd dX28_isMark_54 rfl ?_
    obtain ⟨e4, h⟩ := h
    refine y_bald (z := w (a0 + 3) (b_i ((w (a0 + 7) a1) + a5))) dX28_isMark_55 ⟨16384, e1, e4⟩ rfl rfl ?_
    refine x_aload_n 2 dX28_isMark_56 rfl rfl rfl rfl rfl ?_
    refine x_iload_n 3 dX28_isMark_57 rfl rfl rfl ?_
    refine x_iload 5 dX28_isMark_58 rfl rfl ?_
    refine x_iadd dX28_isMark_60 rfl ?_
    obtain ⟨e5, h⟩ := h
    refine y_bald (z := w a2 (b_i (a3 + a5))) dX28_isMark_61 e5 rfl rfl ?_
    refine x_icmp_ne (t := 71) 9 dX28_isMark_62 rfl rfl (b_ite h (fun hc h => ?_) (fun hc h => ?_))
    · refine x_iload_n 3 dX28_isMark_71 rfl rfl rfl ?_
      refine x_iload 5 dX28_isMark_72 rfl rfl ?_
      refine x_iadd dX28_isMark_74 rfl ?_
      refine x_iload 4 dX28_isMark_75 rfl rfl ?_
      refine x_icmp_ne (t := 84) 7 dX28_isMark_77 rfl rfl (b_ite h (fun hc h => ?_) (fun hc h => ?_))
      · refine x_iconst 0 (z := 0) dX28_isMark_84 rfl (by decide) rfl ?_
        exact y_zret dX28_isMark_85 rfl (by decide) h
      · refine x_iconst 1 (z := 1) dX28_isMark_80 rfl (by decide) rfl ?_
        refine x_goto 4 (q := 85) dX28_isMark_81 rfl ?_
        exact y_zret dX28_isMark_85 rfl (by decide) h
    · refine x_iinc 5 1 (ls' := [(2, a0), (0, a1), (2, a2), (0, a3), (0, a4), (0, b_i (a5 + 1))]) dX28_isMark_65 rfl rfl rfl rfl ?_
      refine x_goto (-35) (q := 33) dX28_isMark_68 rfl ?_
      exact x_fg (fgk (fgk (fgk (fgk (fgk (fgk (fg0))))))) h
theorem rX28_small {d n : Nat} {w : bW} {Q : Int → bW → Prop} {X : String → bW → Prop} (hn : 254 ≤ n) (t : Int) (a1 : Int) (ht : b_is n t 0 26 20) (h : (0 ≤ a1 ∧ a1 < 4096) ∧ (if w (t + 4) a1 ≠ 1 then (Q (-1) w) else ((0 ≤ a1 ∧ a1 < 4096) ∧ ((0 ≤ a1 ∧ a1 < 4096) ∧ (b_K d mX26_read [(2, t + 15), (2, t + 3), (0, w (t + 5) a1), (0, w (t + 6) a1)] n w (fun r9 w10 => if r9 = 0 then (Q (-1) w10) else (if w10 (t + 15) 2 ≠ 0 then (Q (-1) w10) else (b_K d mX26_bits [(2, t + 15)] n w10 (fun r13 w14 => if 20 ≤ r13 then (Q (-1) w14) else (b_K d mX26_value [(2, t + 15)] n w14 (fun r16 w17 => if 200 < r16 then (Q (-1) w17) else (b_K d mX26_value [(2, t + 15)] n w17 (fun r19 w20 => Q (b_i r19) w20) X)) X)) X))) X))))) : b_K (d + 1) mX28_small [(2, t), (0, a1)] n w Q X := by
  refine k_of (by decide) rfl rfl rfl (ls := [(2, t), (0, a1)]) rfl ?_
  refine x_aload_n 0 dX28_small_0 rfl rfl rfl rfl rfl ?_
  refine y_getO 15 2 (c := 26) dX28_small_1 ht rfl in_X28 q4158 rfl rfl rfl (fun h5 hf => of_X28_2 (Nat.le_trans (Nat.le_of_ble_eq_true rfl) hn) h5 ht hf) rfl (fun e1 => ?_)
  refine x_iload_n 1 dX28_small_4 rfl rfl rfl ?_
  obtain ⟨e2, h⟩ := h
  refine y_bald (z := w (t + 4) a1) dX28_small_5 ⟨4096, e1, e2⟩ rfl rfl ?_
  refine x_iconst 1 (z := 1) dX28_small_6 rfl (by decide) rfl ?_
  refine x_icmp_ne (t := 83) 76 dX28_small_7 rfl rfl (b_ite h (fun hc h => ?_) (fun hc h => ?_))
  · refine x_iconst (-1) (z := (-1)) dX28_small_83 rfl (by decide) rfl ?_
    exact y_iret dX28_small_84 rfl h
  · refine x_aload_n 0 dX28_small_10 rfl rfl rfl rfl rfl ?_
    refine y_getO 53 19 (c := 26) dX28_small_11 ht rfl in_X28 q4192 rfl rfl rfl (fun h5 hf => of_X28_19 (Nat.le_trans (Nat.le_of_ble_eq_true rfl) hn) h5 ht hf) rfl (fun e3 => ?_)
    refine x_aload_n 0 dX28_small_14 rfl rfl rfl rfl rfl ?_
    refine y_getO 9 0 (c := 26) dX28_small_15 ht rfl in_X28 q4154 rfl rfl rfl (fun h5 hf => of_X28_0 (Nat.le_trans (Nat.le_of_ble_eq_true rfl) hn) h5 ht hf) rfl (fun e4 => ?_)
    refine x_aload_n 0 dX28_small_18 rfl rfl rfl rfl rfl ?_
    refine y_getO 18 3 (c := 26) dX28_small_19 ht rfl in_X28 q4161 rfl rfl rfl (fun h5 hf => of_X28_3 (Nat.le_trans (Nat.le_of_ble_eq_true rfl) hn) h5 ht hf) rfl (fun e5 => ?_)
    refine x_iload_n 1 dX28_small_22 rfl rfl rfl ?_
    obtain ⟨e6, h⟩ := h
    refine y_iald (z := w (t + 5) a1) dX28_small_23 ⟨4096, e5, e6⟩ rfl rfl ?_
    refine x_aload_n 0 dX28_small_24 rfl rfl rfl rfl rfl ?_
    refine y_getO 22 4 (c := 26) dX28_small_25 ht rfl in_X28 q4163 rfl rfl rfl (fun h5 hf => of_X28_4 (Nat.le_trans (Nat.le_of_ble_eq_true rfl) hn) h5 ht hf) rfl (fun e7 => ?_)
    refine x_iload_n 1 dX28_small_28 rfl rfl rfl ?_
    obtain ⟨e8, h⟩ := h
    refine y_iald (z := w (t + 6) a1) dX28_small_29 ⟨4096, e7, e8⟩ rfl rfl ?_
    refine y_Vi 108 (M := mX26_read) (As := [(2, t + 3), (0, w (t + 5) a1), (0, w (t + 6) a1)]) (st := []) dX28_small_30 e3 rfl q3213 q3214 q3215 q393 q3216 rfl hmX26_read rfl rfl rfl rfl rfl rfl rfl rfl (k_mono h (fun r9 w10 h => ?_))
    refine x_if_eq (t := 83) 50 dX28_small_33 rfl rfl (b_ite h (fun hc h => ?_) (fun hc h => ?_))
    · refine x_iconst (-1) (z := (-1)) dX28_small_83 rfl (by decide) rfl ?_
      exact y_iret dX28_small_84 rfl h
    · refine x_aload_n 0 dX28_small_36 rfl rfl rfl rfl rfl ?_
      refine y_getO 53 19 (c := 26) dX28_small_37 ht rfl in_X28 q4192 rfl rfl rfl (fun h5 hf => of_X28_19 (Nat.le_trans (Nat.le_of_ble_eq_true rfl) hn) h5 ht hf) rfl (fun e11 => ?_)
      refine y_get 145 2 (c := 24) (z := w10 (t + 15) 2) dX28_small_40 e11 rfl in_X26 q4091 rfl rfl rfl rfl rfl ?_
      refine x_if_ne (t := 83) 40 dX28_small_43 rfl rfl (b_ite h (fun hc h => ?_) (fun hc h => ?_))
      · refine x_iconst (-1) (z := (-1)) dX28_small_83 rfl (by decide) rfl ?_
        exact y_iret dX28_small_84 rfl h
      · refine x_aload_n 0 dX28_small_46 rfl rfl rfl rfl rfl ?_
        refine y_getO 53 19 (c := 26) dX28_small_47 ht rfl in_X28 q4192 rfl rfl rfl (fun h5 hf => of_X28_19 (Nat.le_trans (Nat.le_of_ble_eq_true rfl) hn) h5 ht hf) rfl (fun e12 => ?_)
        refine y_Vi 149 (M := mX26_bits) (As := []) (st := []) dX28_small_50 e12 rfl q3395 q3235 q3236 q393 q3237 rfl hmX26_bits rfl rfl rfl rfl rfl rfl rfl rfl (k_mono h (fun r13 w14 h => ?_))
        refine x_bipush 20 (z := 20) dX28_small_53 rfl (by decide) rfl ?_
        refine x_icmp_ge (t := 83) 28 dX28_small_55 rfl rfl (b_ite h (fun hc h => ?_) (fun hc h => ?_))
        · refine x_iconst (-1) (z := (-1)) dX28_small_83 rfl (by decide) rfl ?_
          exact y_iret dX28_small_84 rfl h
        · refine x_aload_n 0 dX28_small_58 rfl rfl rfl rfl rfl ?_
          refine y_getO 53 19 (c := 26) dX28_small_59 ht rfl in_X28 q4192 rfl rfl rfl (fun h5 hf => of_X28_19 (Nat.le_trans (Nat.le_of_ble_eq_true rfl) hn) h5 ht hf) rfl (fun e15 => ?_)
          refine y_Vl 153 (M := mX26_value) (As := []) (st := []) dX28_small_62 e15 rfl q3396 q3397 q3398 q393 q3399 rfl hmX26_value rfl rfl rfl rfl rfl rfl rfl rfl (k_mono h (fun r16 w17 h => ?_))
          refine x_ldc2 157 (x := 200) dX28_small_65 q3401 rfl (by decide) rfl ?_
          refine x_lc_gt (q := 72) (t := 83) 14 dX28_small_68 dX28_small_69 rfl rfl (b_ite h (fun hc h => ?_) (fun hc h => ?_))
          · refine x_iconst (-1) (z := (-1)) dX28_small_83 rfl (by decide) rfl ?_
            exact y_iret dX28_small_84 rfl h
          · refine x_aload_n 0 dX28_small_72 rfl rfl rfl rfl rfl ?_
            refine y_getO 53 19 (c := 26) dX28_small_73 ht rfl in_X28 q4192 rfl rfl rfl (fun h5 hf => of_X28_19 (Nat.le_trans (Nat.le_of_ble_eq_true rfl) hn) h5 ht hf) rfl (fun e18 => ?_)
            refine y_Vl 153 (M := mX26_value) (As := []) (st := []) dX28_small_76 e18 rfl q3396 q3397 q3398 q393 q3399 rfl hmX26_value rfl rfl rfl rfl rfl rfl rfl rfl (k_mono h (fun r19 w20 h => ?_))
            refine x_l2i dX28_small_79 rfl ?_
            refine x_goto 4 (q := 84) dX28_small_80 rfl ?_
            exact y_iret dX28_small_84 rfl h
end RulesX28
