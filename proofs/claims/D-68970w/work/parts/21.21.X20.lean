section RulesX20
set_option maxRecDepth 100000
abbrev LX20_add_49 (d n : Nat) (Q : Int → bW → Prop) (X : String → bW → Prop) (a1 : Int) (a2 : Int) (a4 : Int) (a5 : Int) (a6 : Int) (s0 : Int) (w : bW) : Prop := b_Y (d + 1) mX20_add n Q X 49 [(9, 0), (2, a1), (2, a2), (9, 0), (2, a4), (0, a5), (0, a6), (9, 0), (9, 0)] [(0, s0)] w
abbrev LX20_add_72 (d n : Nat) (Q : Int → bW → Prop) (X : String → bW → Prop) (a1 : Int) (a2 : Int) (a4 : Int) (a5 : Int) (a6 : Int) (w : bW) : Prop := b_Y (d + 1) mX20_add n Q X 72 [(9, 0), (2, a1), (2, a2), (9, 0), (2, a4), (0, a5), (0, a6), (9, 0), (9, 0)] [] w
theorem rX20_add {d n : Nat} {w : bW} {Q : Int → bW → Prop} {X : String → bW → Prop} (a1 : Int) (a2 : Int) (a3 : Int) (a4 : Int) (ha1 : b_is n a1 0 5 3) (ha2 : b_is n a2 0 5 3) (ha4 : b_is n a4 0 5 3) (h : if a3 = 0 then (if w a2 2 = 0 then (b_K d mX6_compareSize [(2, a1), (2, a2)] n w (fun r1 w2 => if r1 < 0 then (LX20_add_49 d n Q X a1 a2 a4 (w a1 2) 0 0 w2) else (LX20_add_49 d n Q X a1 a2 a4 (w a1 2) 0 1 w2)) X) else (b_K d mX6_compareSize [(2, a1), (2, a2)] n w (fun r3 w4 => if r3 < 0 then (LX20_add_49 d n Q X a1 a2 a4 (w a1 2) 1 0 w4) else (LX20_add_49 d n Q X a1 a2 a4 (w a1 2) 1 1 w4)) X)) else (b_K d mX6_isZero [(2, a2)] n w (fun r5 w6 => if r5 ≠ 0 then (if w a2 2 = 0 then (b_K d mX6_compareSize [(2, a1), (2, a2)] n w6 (fun r7 w8 => if r7 < 0 then (LX20_add_49 d n Q X a1 a2 a4 (w a1 2) 0 0 w8) else (LX20_add_49 d n Q X a1 a2 a4 (w a1 2) 0 1 w8)) X) else (b_K d mX6_compareSize [(2, a1), (2, a2)] n w6 (fun r9 w10 => if r9 < 0 then (LX20_add_49 d n Q X a1 a2 a4 (w a1 2) 1 0 w10) else (LX20_add_49 d n Q X a1 a2 a4 (w a1 2) 1 1 w10)) X)) else (if w a2 2 = 1 then (b_K d mX6_compareSize [(2, a1), (2, a2)] n w6 (fun r11 w12 => if r11 < 0 then (LX20_add_49 d n Q X a1 a2 a4 (w a1 2) 0 0 w12) else (LX20_add_49 d n Q X a1 a2 a4 (w a1 2) 0 1 w12)) X) else (b_K d mX6_compareSize [(2, a1), (2, a2)] n w6 (fun r13 w14 => if r13 < 0 then (LX20_add_49 d n Q X a1 a2 a4 (w a1 2) 1 0 w14) else (LX20_add_49 d n Q X a1 a2 a4 (w a1 2) 1 1 w14)) X))) X)) : b_K (d + 1) mX20_add [(2, 84), (2, a1), (2, a2), (0, a3), (2, a4)] n w Q X := by
  refine k_of (by decide) rfl rfl rfl (ls := [(2, 84), (2, a1), (2, a2), (0, a3), (2, a4), (9, 0), (9, 0), (9, 0), (9, 0)]) rfl ?_
  refine x_aload_n 1 dX20_add_0 rfl rfl rfl rfl rfl ?_
  refine y_get 46 2 (c := 5) (z := w a1 2) dX20_add_1 ha1 rfl in_X6 q636 rfl rfl rfl rfl rfl ?_
  refine x_istore 5 (ls' := [(2, 84), (2, a1), (2, a2), (0, a3), (2, a4), (0, w a1 2), (9, 0), (9, 0), (9, 0)]) dX20_add_4 rfl rfl rfl ?_
  refine x_aload_n 2 dX20_add_6 rfl rfl rfl rfl rfl ?_
  refine y_get 46 2 (c := 5) (z := w a2 2) dX20_add_7 ha2 rfl in_X6 q636 rfl rfl rfl rfl rfl ?_
  refine x_iload_n 3 dX20_add_10 rfl rfl rfl ?_
  refine x_if_eq (t := 25) 14 dX20_add_11 rfl rfl (b_ite h (fun hc h => ?_) (fun hc h => ?_))
  · refine x_iconst 0 (z := 0) dX20_add_25 rfl (by decide) rfl ?_
    refine x_icmp_eq (t := 33) 7 dX20_add_26 rfl rfl (b_ite h (fun hc h => ?_) (fun hc h => ?_))
    · refine x_iconst 0 (z := 0) dX20_add_33 rfl (by decide) rfl ?_
      refine x_istore 6 (ls' := [(2, 84), (2, a1), (2, a2), (0, a3), (2, a4), (0, w a1 2), (0, 0), (9, 0), (9, 0)]) dX20_add_34 rfl rfl rfl ?_
      refine x_aload_n 1 dX20_add_36 rfl rfl rfl rfl rfl ?_
      refine x_aload_n 2 dX20_add_37 rfl rfl rfl rfl rfl ?_
      refine y_Vi 54 (M := mX6_compareSize) (As := [(2, a2)]) (st := []) dX20_add_38 ha1 rfl q2731 q2118 q2119 q373 q2120 rfl hmX6_compareSize rfl rfl rfl rfl rfl rfl rfl rfl (k_mono h (fun r1 w2 h => ?_))
      refine x_if_lt (t := 48) 7 dX20_add_41 rfl rfl (b_ite h (fun hc h => ?_) (fun hc h => ?_))
      · refine x_iconst 0 (z := 0) dX20_add_48 rfl (by decide) rfl ?_
        exact x_fg (fgd (fgk (fgk (fgd (fgk (fgk (fgk (fgk (fgk (fg0)))))))))) h
      · refine x_iconst 1 (z := 1) dX20_add_44 rfl (by decide) rfl ?_
        refine x_goto 4 (q := 49) dX20_add_45 rfl ?_
        exact x_fg (fgd (fgk (fgk (fgd (fgk (fgk (fgk (fgk (fgk (fg0)))))))))) h
    · refine x_iconst 1 (z := 1) dX20_add_29 rfl (by decide) rfl ?_
      refine x_goto 4 (q := 34) dX20_add_30 rfl ?_
      refine x_istore 6 (ls' := [(2, 84), (2, a1), (2, a2), (0, a3), (2, a4), (0, w a1 2), (0, 1), (9, 0), (9, 0)]) dX20_add_34 rfl rfl rfl ?_
      refine x_aload_n 1 dX20_add_36 rfl rfl rfl rfl rfl ?_
      refine x_aload_n 2 dX20_add_37 rfl rfl rfl rfl rfl ?_
      refine y_Vi 54 (M := mX6_compareSize) (As := [(2, a2)]) (st := []) dX20_add_38 ha1 rfl q2731 q2118 q2119 q373 q2120 rfl hmX6_compareSize rfl rfl rfl rfl rfl rfl rfl rfl (k_mono h (fun r3 w4 h => ?_))
      refine x_if_lt (t := 48) 7 dX20_add_41 rfl rfl (b_ite h (fun hc h => ?_) (fun hc h => ?_))
      · refine x_iconst 0 (z := 0) dX20_add_48 rfl (by decide) rfl ?_
        exact x_fg (fgd (fgk (fgk (fgd (fgk (fgk (fgk (fgk (fgk (fg0)))))))))) h
      · refine x_iconst 1 (z := 1) dX20_add_44 rfl (by decide) rfl ?_
        refine x_goto 4 (q := 49) dX20_add_45 rfl ?_
        exact x_fg (fgd (fgk (fgk (fgd (fgk (fgk (fgk (fgk (fgk (fg0)))))))))) h
  · refine x_aload_n 2 dX20_add_14 rfl rfl rfl rfl rfl ?_
    refine y_Vi 50 (M := mX6_isZero) (As := []) (st := [(0, w a2 2)]) dX20_add_15 ha2 rfl q2730 q1764 q1765 q373 q1766 rfl hmX6_isZero rfl rfl rfl rfl rfl rfl rfl rfl (k_mono h (fun r5 w6 h => ?_))
    refine x_if_ne (t := 25) 7 dX20_add_18 rfl rfl (b_ite h (fun hc h => ?_) (fun hc h => ?_))
    · refine x_iconst 0 (z := 0) dX20_add_25 rfl (by decide) rfl ?_
      refine x_icmp_eq (t := 33) 7 dX20_add_26 rfl rfl (b_ite h (fun hc h => ?_) (fun hc h => ?_))
      · refine x_iconst 0 (z := 0) dX20_add_33 rfl (by decide) rfl ?_
        refine x_istore 6 (ls' := [(2, 84), (2, a1), (2, a2), (0, a3), (2, a4), (0, w a1 2), (0, 0), (9, 0), (9, 0)]) dX20_add_34 rfl rfl rfl ?_
        refine x_aload_n 1 dX20_add_36 rfl rfl rfl rfl rfl ?_
        refine x_aload_n 2 dX20_add_37 rfl rfl rfl rfl rfl ?_
        refine y_Vi 54 (M := mX6_compareSize) (As := [(2, a2)]) (st := []) dX20_add_38 ha1 rfl q2731 q2118 q2119 q373 q2120 rfl hmX6_compareSize rfl rfl rfl rfl rfl rfl rfl rfl (k_mono h (fun r7 w8 h => ?_))
        refine x_if_lt (t := 48) 7 dX20_add_41 rfl rfl (b_ite h (fun hc h => ?_) (fun hc h => ?_))
        · refine x_iconst 0 (z := 0) dX20_add_48 rfl (by decide) rfl ?_
          exact x_fg (fgd (fgk (fgk (fgd (fgk (fgk (fgk (fgk (fgk (fg0)))))))))) h
        · refine x_iconst 1 (z := 1) dX20_add_44 rfl (by decide) rfl ?_
          refine x_goto 4 (q := 49) dX20_add_45 rfl ?_
          exact x_fg (fgd (fgk (fgk (fgd (fgk (fgk (fgk (fgk (fgk (fg0)))))))))) h
      · refine x_iconst 1 (z := 1) dX20_add_29 rfl (by decide) rfl ?_
        refine x_goto 4 (q := 34) dX20_add_30 rfl ?_
        refine x_istore 6 (ls' := [(2, 84), (2, a1), (2, a2), (0, a3), (2, a4), (0, w a1 2), (0, 1), (9, 0), (9, 0)]) dX20_add_34 rfl rfl rfl ?_
        refine x_aload_n 1 dX20_add_36 rfl rfl rfl rfl rfl ?_
        refine x_aload_n 2 dX20_add_37 rfl rfl rfl rfl rfl ?_
        refine y_Vi 54 (M := mX6_compareSize) (As := [(2, a2)]) (st := []) dX20_add_38 ha1 rfl q2731 q2118 q2119 q373 q2120 rfl hmX6_compareSize rfl rfl rfl rfl rfl rfl rfl rfl (k_mono h (fun r9 w10 h => ?_))
        refine x_if_lt (t := 48) 7 dX20_add_41 rfl rfl (b_ite h (fun hc h => ?_) (fun hc h => ?_))
        · refine x_iconst 0 (z := 0) dX20_add_48 rfl (by decide) rfl ?_
          exact x_fg (fgd (fgk (fgk (fgd (fgk (fgk (fgk (fgk (fgk (fg0)))))))))) h
        · refine x_iconst 1 (z := 1) dX20_add_44 rfl (by decide) rfl ?_
          refine x_goto 4 (q := 49) dX20_add_45 rfl ?_
          exact x_fg (fgd (fgk (fgk (fgd (fgk (fgk (fgk (fgk (fgk (fg0)))))))))) h
    · refine x_iconst 1 (z := 1) dX20_add_21 rfl (by decide) rfl ?_
      refine x_goto 4 (q := 26) dX20_add_22 rfl ?_
      refine x_icmp_eq (t := 33) 7 dX20_add_26 rfl rfl (b_ite h (fun hc h => ?_) (fun hc h => ?_))
      · refine x_iconst 0 (z := 0) dX20_add_33 rfl (by decide) rfl ?_
        refine x_istore 6 (ls' := [(2, 84), (2, a1), (2, a2), (0, a3), (2, a4), (0, w a1 2), (0, 0), (9, 0), (9, 0)]) dX20_add_34 rfl rfl rfl ?_
        refine x_aload_n 1 dX20_add_36 rfl rfl rfl rfl rfl ?_
        refine x_aload_n 2 dX20_add_37 rfl rfl rfl rfl rfl ?_
        refine y_Vi 54 (M := mX6_compareSize) (As := [(2, a2)]) (st := []) dX20_add_38 ha1 rfl q2731 q2118 q2119 q373 q2120 rfl hmX6_compareSize rfl rfl rfl rfl rfl rfl rfl rfl (k_mono h (fun r11 w12 h => ?_))
        refine x_if_lt (t := 48) 7 dX20_add_41 rfl rfl (b_ite h (fun hc h => ?_) (fun hc h => ?_))
        · refine x_iconst 0 (z := 0) dX20_add_48 rfl (by decide) rfl ?_
          exact x_fg (fgd (fgk (fgk (fgd (fgk (fgk (fgk (fgk (fgk (fg0)))))))))) h
        · refine x_iconst 1 (z := 1) dX20_add_44 rfl (by decide) rfl ?_
          refine x_goto 4 (q := 49) dX20_add_45 rfl ?_
          exact x_fg (fgd (fgk (fgk (fgd (fgk (fgk (fgk (fgk (fgk (fg0)))))))))) h
      · refine x_iconst 1 (z := 1) dX20_add_29 rfl (by decide) rfl ?_
        refine x_goto 4 (q := 34) dX20_add_30 rfl ?_
        refine x_istore 6 (ls' := [(2, 84), (2, a1), (2, a2), (0, a3), (2, a4), (0, w a1 2), (0, 1), (9, 0), (9, 0)]) dX20_add_34 rfl rfl rfl ?_
        refine x_aload_n 1 dX20_add_36 rfl rfl rfl rfl rfl ?_
        refine x_aload_n 2 dX20_add_37 rfl rfl rfl rfl rfl ?_
        refine y_Vi 54 (M := mX6_compareSize) (As := [(2, a2)]) (st := []) dX20_add_38 ha1 rfl q2731 q2118 q2119 q373 q2120 rfl hmX6_compareSize rfl rfl rfl rfl rfl rfl rfl rfl (k_mono h (fun r13 w14 h => ?_))
        refine x_if_lt (t := 48) 7 dX20_add_41 rfl rfl (b_ite h (fun hc h => ?_) (fun hc h => ?_))
        · refine x_iconst 0 (z := 0) dX20_add_48 rfl (by decide) rfl ?_
          exact x_fg (fgd (fgk (fgk (fgd (fgk (fgk (fgk (fgk (fgk (fg0)))))))))) h
        · refine x_iconst 1 (z := 1) dX20_add_44 rfl (by decide) rfl ?_
          refine x_goto 4 (q := 49) dX20_add_45 rfl ?_
          exact x_fg (fgd (fgk (fgk (fgd (fgk (fgk (fgk (fgk (fgk (fg0)))))))))) h
theorem sX20_add_49 {d n : Nat} {w : bW} {Q : Int → bW → Prop} {X : String → bW → Prop} (a1 : Int) (a2 : Int) (a4 : Int) (a5 : Int) (a6 : Int) (s0 : Int) (ha1 : b_is n a1 0 5 3) (ha2 : b_is n a2 0 5 3) (ha4 : b_is n a4 0 5 3) (h : if a5 = a6 then (LX20_add_72 d n Q X a1 a2 a4 a5 a6 w) else (b_K d mX6_isZero [(2, a1)] n w (fun r1 w2 => if r1 ≠ 0 then (LX20_add_72 d n Q X a1 a2 a4 a5 a6 w2) else (b_K d mX6_isZero [(2, a2)] n w2 (fun r3 w4 => if r3 = 0 then (if s0 = 0 then (b_K d mX20_lessSizes [(2, a2), (2, a1), (2, a4)] n w4 (fun r5 w6 => if s0 = 0 then (if a6 = 0 then (Q 0 (b_up w6 a4 2 0)) else (if w6 a4 1 ≤ 0 then (Q 0 (b_up w6 a4 2 0)) else (Q 0 (b_up w6 a4 2 1)))) else (if a5 = 0 then (Q 0 (b_up w6 a4 2 0)) else (if w6 a4 1 ≤ 0 then (Q 0 (b_up w6 a4 2 0)) else (Q 0 (b_up w6 a4 2 1))))) X) else (b_K d mX20_lessSizes [(2, a1), (2, a2), (2, a4)] n w4 (fun r7 w8 => if s0 = 0 then (if a6 = 0 then (Q 0 (b_up w8 a4 2 0)) else (if w8 a4 1 ≤ 0 then (Q 0 (b_up w8 a4 2 0)) else (Q 0 (b_up w8 a4 2 1)))) else (if a5 = 0 then (Q 0 (b_up w8 a4 2 0)) else (if w8 a4 1 ≤ 0 then (Q 0 (b_up w8 a4 2 0)) else (Q 0 (b_up w8 a4 2 1))))) X)) else (LX20_add_72 d n Q X a1 a2 a4 a5 a6 w4)) X)) X)) : LX20_add_49 d n Q X a1 a2 a4 a5 a6 s0 w := by
  refine x_istore 7 (ls' := [(9, 0), (2, a1), (2, a2), (9, 0), (2, a4), (0, a5), (0, a6), (0, s0), (9, 0)]) dX20_add_49 rfl rfl rfl ?_
  refine x_iload 5 dX20_add_51 rfl rfl ?_
  refine x_iload 6 dX20_add_53 rfl rfl ?_
  refine x_icmp_eq (t := 72) 17 dX20_add_55 rfl rfl (b_ite h (fun hc h => ?_) (fun hc h => ?_))
  · exact x_fg (fgk (fgk (fgk (fgk (fgk (fgk (fgk (fgd (fgk (fg0)))))))))) h
  · refine x_aload_n 1 dX20_add_58 rfl rfl rfl rfl rfl ?_
    refine y_Vi 50 (M := mX6_isZero) (As := []) (st := []) dX20_add_59 ha1 rfl q2730 q1764 q1765 q373 q1766 rfl hmX6_isZero rfl rfl rfl rfl rfl rfl rfl rfl (k_mono h (fun r1 w2 h => ?_))
    refine x_if_ne (t := 72) 10 dX20_add_62 rfl rfl (b_ite h (fun hc h => ?_) (fun hc h => ?_))
    · exact x_fg (fgk (fgk (fgk (fgk (fgk (fgk (fgk (fgd (fgk (fg0)))))))))) h
    · refine x_aload_n 2 dX20_add_65 rfl rfl rfl rfl rfl ?_
      refine y_Vi 50 (M := mX6_isZero) (As := []) (st := []) dX20_add_66 ha2 rfl q2730 q1764 q1765 q373 q1766 rfl hmX6_isZero rfl rfl rfl rfl rfl rfl rfl rfl (k_mono h (fun r3 w4 h => ?_))
      refine x_if_eq (t := 121) 52 dX20_add_69 rfl rfl (b_ite h (fun hc h => ?_) (fun hc h => ?_))
      · refine x_iload 7 dX20_add_121 rfl rfl ?_
        refine x_if_eq (t := 136) 13 dX20_add_123 rfl rfl (b_ite h (fun hc h => ?_) (fun hc h => ?_))
        · refine x_aload_n 2 dX20_add_136 rfl rfl rfl rfl rfl ?_
          refine x_aload_n 1 dX20_add_137 rfl rfl rfl rfl rfl ?_
          refine x_aload 4 dX20_add_138 rfl rfl rfl rfl ?_
          refine y_Sv 62 (M := mX20_lessSizes) (As := [(2, a2), (2, a1), (2, a4)]) (st := []) dX20_add_140 q2739 q2740 q387 q2741 hmX20_lessSizes rfl rfl rfl rfl rfl rfl rfl (k_mono h (fun r5 w6 h => ?_))
          refine x_aload 4 dX20_add_143 rfl rfl rfl rfl ?_
          refine x_iload 7 dX20_add_145 rfl rfl ?_
          refine x_if_eq (t := 158) 11 dX20_add_147 rfl rfl (b_ite h (fun hc h => ?_) (fun hc h => ?_))
          · refine x_iload 6 dX20_add_158 rfl rfl ?_
            refine x_if_eq (t := 175) 15 dX20_add_160 rfl rfl (b_ite h (fun hc h => ?_) (fun hc h => ?_))
            · refine x_iconst 0 (z := 0) dX20_add_175 rfl (by decide) rfl ?_
              refine x_put 46 2 (c := 5) dX20_add_176 ha4 rfl in_X6 tyX6_ok nmX6 q636 rfl rfl rfl (Or.inl rfl) (Or.inr (Or.inl ⟨rfl, rfl, by decide⟩)) rfl ?_
              exact y_vret dX20_add_179 rfl h
            · refine x_aload 4 dX20_add_163 rfl rfl rfl rfl ?_
              refine y_get 25 1 (c := 5) (z := w6 a4 1) dX20_add_165 ha4 rfl in_X6 q632 rfl rfl rfl rfl rfl ?_
              refine x_if_le (t := 175) 7 dX20_add_168 rfl rfl (b_ite h (fun hc h => ?_) (fun hc h => ?_))
              · refine x_iconst 0 (z := 0) dX20_add_175 rfl (by decide) rfl ?_
                refine x_put 46 2 (c := 5) dX20_add_176 ha4 rfl in_X6 tyX6_ok nmX6 q636 rfl rfl rfl (Or.inl rfl) (Or.inr (Or.inl ⟨rfl, rfl, by decide⟩)) rfl ?_
                exact y_vret dX20_add_179 rfl h
              · refine x_iconst 1 (z := 1) dX20_add_171 rfl (by decide) rfl ?_
                refine x_goto 4 (q := 176) dX20_add_172 rfl ?_
                refine x_put 46 2 (c := 5) dX20_add_176 ha4 rfl in_X6 tyX6_ok nmX6 q636 rfl rfl rfl (Or.inl rfl) (Or.inr (Or.inl ⟨rfl, rfl, by decide⟩)) rfl ?_
                exact y_vret dX20_add_179 rfl h
          · refine x_iload 5 dX20_add_150 rfl rfl ?_
            refine x_if_eq (t := 175) 23 dX20_add_152 rfl rfl (b_ite h (fun hc h => ?_) (fun hc h => ?_))
            · refine x_iconst 0 (z := 0) dX20_add_175 rfl (by decide) rfl ?_
              refine x_put 46 2 (c := 5) dX20_add_176 ha4 rfl in_X6 tyX6_ok nmX6 q636 rfl rfl rfl (Or.inl rfl) (Or.inr (Or.inl ⟨rfl, rfl, by decide⟩)) rfl ?_
              exact y_vret dX20_add_179 rfl h
            · refine x_goto 8 (q := 163) dX20_add_155 rfl ?_
              refine x_aload 4 dX20_add_163 rfl rfl rfl rfl ?_
              refine y_get 25 1 (c := 5) (z := w6 a4 1) dX20_add_165 ha4 rfl in_X6 q632 rfl rfl rfl rfl rfl ?_
              refine x_if_le (t := 175) 7 dX20_add_168 rfl rfl (b_ite h (fun hc h => ?_) (fun hc h => ?_))
              · refine x_iconst 0 (z := 0) dX20_add_175 rfl (by decide) rfl ?_
                refine x_put 46 2 (c := 5) dX20_add_176 ha4 rfl in_X6 tyX6_ok nmX6 q636 rfl rfl rfl (Or.inl rfl) (Or.inr (Or.inl ⟨rfl, rfl, by decide⟩)) rfl ?_
                exact y_vret dX20_add_179 rfl h
              · refine x_iconst 1 (z := 1) dX20_add_171 rfl (by decide) rfl ?_
                refine x_goto 4 (q := 176) dX20_add_172 rfl ?_
                refine x_put 46 2 (c := 5) dX20_add_176 ha4 rfl in_X6 tyX6_ok nmX6 q636 rfl rfl rfl (Or.inl rfl) (Or.inr (Or.inl ⟨rfl, rfl, by decide⟩)) rfl ?_
                exact y_vret dX20_add_179 rfl h
        · refine x_aload_n 1 dX20_add_126 rfl rfl rfl rfl rfl ?_
          refine x_aload_n 2 dX20_add_127 rfl rfl rfl rfl rfl ?_
          refine x_aload 4 dX20_add_128 rfl rfl rfl rfl ?_
          refine y_Sv 62 (M := mX20_lessSizes) (As := [(2, a1), (2, a2), (2, a4)]) (st := []) dX20_add_130 q2739 q2740 q387 q2741 hmX20_lessSizes rfl rfl rfl rfl rfl rfl rfl (k_mono h (fun r7 w8 h => ?_))
          refine x_goto 10 (q := 143) dX20_add_133 rfl ?_
          refine x_aload 4 dX20_add_143 rfl rfl rfl rfl ?_
          refine x_iload 7 dX20_add_145 rfl rfl ?_
          refine x_if_eq (t := 158) 11 dX20_add_147 rfl rfl (b_ite h (fun hc h => ?_) (fun hc h => ?_))
          · refine x_iload 6 dX20_add_158 rfl rfl ?_
            refine x_if_eq (t := 175) 15 dX20_add_160 rfl rfl (b_ite h (fun hc h => ?_) (fun hc h => ?_))
            · refine x_iconst 0 (z := 0) dX20_add_175 rfl (by decide) rfl ?_
              refine x_put 46 2 (c := 5) dX20_add_176 ha4 rfl in_X6 tyX6_ok nmX6 q636 rfl rfl rfl (Or.inl rfl) (Or.inr (Or.inl ⟨rfl, rfl, by decide⟩)) rfl ?_
              exact y_vret dX20_add_179 rfl h
            · refine x_aload 4 dX20_add_163 rfl rfl rfl rfl ?_
              refine y_get 25 1 (c := 5) (z := w8 a4 1) dX20_add_165 ha4 rfl in_X6 q632 rfl rfl rfl rfl rfl ?_
              refine x_if_le (t := 175) 7 dX20_add_168 rfl rfl (b_ite h (fun hc h => ?_) (fun hc h => ?_))
              · refine x_iconst 0 (z := 0) dX20_add_175 rfl (by decide) rfl ?_
                refine x_put 46 2 (c := 5) dX20_add_176 ha4 rfl in_X6 tyX6_ok nmX6 q636 rfl rfl rfl (Or.inl rfl) (Or.inr (Or.inl ⟨rfl, rfl, by decide⟩)) rfl ?_
                exact y_vret dX20_add_179 rfl h
              · refine x_iconst 1 (z := 1) dX20_add_171 rfl (by decide) rfl ?_
                refine x_goto 4 (q := 176) dX20_add_172 rfl ?_
                refine x_put 46 2 (c := 5) dX20_add_176 ha4 rfl in_X6 tyX6_ok nmX6 q636 rfl rfl rfl (Or.inl rfl) (Or.inr (Or.inl ⟨rfl, rfl, by decide⟩)) rfl ?_
                exact y_vret dX20_add_179 rfl h
          · refine x_iload 5 dX20_add_150 rfl rfl ?_
            refine x_if_eq (t := 175) 23 dX20_add_152 rfl rfl (b_ite h (fun hc h => ?_) (fun hc h => ?_))
            · refine x_iconst 0 (z := 0) dX20_add_175 rfl (by decide) rfl ?_
              refine x_put 46 2 (c := 5) dX20_add_176 ha4 rfl in_X6 tyX6_ok nmX6 q636 rfl rfl rfl (Or.inl rfl) (Or.inr (Or.inl ⟨rfl, rfl, by decide⟩)) rfl ?_
              exact y_vret dX20_add_179 rfl h
            · refine x_goto 8 (q := 163) dX20_add_155 rfl ?_
              refine x_aload 4 dX20_add_163 rfl rfl rfl rfl ?_
              refine y_get 25 1 (c := 5) (z := w8 a4 1) dX20_add_165 ha4 rfl in_X6 q632 rfl rfl rfl rfl rfl ?_
              refine x_if_le (t := 175) 7 dX20_add_168 rfl rfl (b_ite h (fun hc h => ?_) (fun hc h => ?_))
              · refine x_iconst 0 (z := 0) dX20_add_175 rfl (by decide) rfl ?_
                refine x_put 46 2 (c := 5) dX20_add_176 ha4 rfl in_X6 tyX6_ok nmX6 q636 rfl rfl rfl (Or.inl rfl) (Or.inr (Or.inl ⟨rfl, rfl, by decide⟩)) rfl ?_
                exact y_vret dX20_add_179 rfl h
              · refine x_iconst 1 (z := 1) dX20_add_171 rfl (by decide) rfl ?_
                refine x_goto 4 (q := 176) dX20_add_172 rfl ?_
                refine x_put 46 2 (c := 5) dX20_add_176 ha4 rfl in_X6 tyX6_ok nmX6 q636 rfl rfl rfl (Or.inl rfl) (Or.inr (Or.inl ⟨rfl, rfl, by decide⟩)) rfl ?_
                exact y_vret dX20_add_179 rfl h
      · exact x_fg (fgk (fgk (fgk (fgk (fgk (fgk (fgk (fgd (fgk (fg0)))))))))) h
theorem sX20_add_72 {d n : Nat} {w : bW} {Q : Int → bW → Prop} {X : String → bW → Prop} (a1 : Int) (a2 : Int) (a4 : Int) (a5 : Int) (a6 : Int) (ha1 : b_is n a1 0 5 3) (ha2 : b_is n a2 0 5 3) (ha4 : b_is n a4 0 5 3) (h : b_K d mX6_isZero [(2, a1)] n w (fun r1 w2 => if r1 = 0 then (b_K d mX20_addSizes [(2, a1), (2, a2), (2, a4)] n w2 (fun r3 w4 => if a5 = 0 then (Q 0 (b_up w4 a4 2 0)) else (if w4 a4 1 ≤ 0 then (Q 0 (b_up w4 a4 2 0)) else (Q 0 (b_up w4 a4 2 1)))) X) else (b_K d mX20_addSizes [(2, a1), (2, a2), (2, a4)] n w2 (fun r5 w6 => if a6 = 0 then (Q 0 (b_up w6 a4 2 0)) else (if w6 a4 1 ≤ 0 then (Q 0 (b_up w6 a4 2 0)) else (Q 0 (b_up w6 a4 2 1)))) X)) X) : LX20_add_72 d n Q X a1 a2 a4 a5 a6 w := by
  refine x_aload_n 1 dX20_add_72 rfl rfl rfl rfl rfl ?_
  refine y_Vi 50 (M := mX6_isZero) (As := []) (st := []) dX20_add_73 ha1 rfl q2730 q1764 q1765 q373 q1766 rfl hmX6_isZero rfl rfl rfl rfl rfl rfl rfl rfl (k_mono h (fun r1 w2 h => ?_))
  refine x_if_eq (t := 84) 8 dX20_add_76 rfl rfl (b_ite h (fun hc h => ?_) (fun hc h => ?_))
  · refine x_iload 5 dX20_add_84 rfl rfl ?_
    refine x_istore 8 (ls' := [(9, 0), (2, a1), (2, a2), (9, 0), (2, a4), (0, a5), (0, a6), (9, 0), (0, a5)]) dX20_add_86 rfl rfl rfl ?_
    refine x_aload_n 1 dX20_add_88 rfl rfl rfl rfl rfl ?_
    refine x_aload_n 2 dX20_add_89 rfl rfl rfl rfl rfl ?_
    refine x_aload 4 dX20_add_90 rfl rfl rfl rfl ?_
    refine y_Sv 58 (M := mX20_addSizes) (As := [(2, a1), (2, a2), (2, a4)]) (st := []) dX20_add_92 q2732 q2733 q387 q2734 hmX20_addSizes rfl rfl rfl rfl rfl rfl rfl (k_mono h (fun r3 w4 h => ?_))
    refine x_aload 4 dX20_add_95 rfl rfl rfl rfl ?_
    refine x_iload 8 dX20_add_97 rfl rfl ?_
    refine x_if_eq (t := 114) 15 dX20_add_99 rfl rfl (b_ite h (fun hc h => ?_) (fun hc h => ?_))
    · refine x_iconst 0 (z := 0) dX20_add_114 rfl (by decide) rfl ?_
      refine x_put 46 2 (c := 5) dX20_add_115 ha4 rfl in_X6 tyX6_ok nmX6 q636 rfl rfl rfl (Or.inl rfl) (Or.inr (Or.inl ⟨rfl, rfl, by decide⟩)) rfl ?_
      refine x_goto 61 (q := 179) dX20_add_118 rfl ?_
      exact y_vret dX20_add_179 rfl h
    · refine x_aload 4 dX20_add_102 rfl rfl rfl rfl ?_
      refine y_get 25 1 (c := 5) (z := w4 a4 1) dX20_add_104 ha4 rfl in_X6 q632 rfl rfl rfl rfl rfl ?_
      refine x_if_le (t := 114) 7 dX20_add_107 rfl rfl (b_ite h (fun hc h => ?_) (fun hc h => ?_))
      · refine x_iconst 0 (z := 0) dX20_add_114 rfl (by decide) rfl ?_
        refine x_put 46 2 (c := 5) dX20_add_115 ha4 rfl in_X6 tyX6_ok nmX6 q636 rfl rfl rfl (Or.inl rfl) (Or.inr (Or.inl ⟨rfl, rfl, by decide⟩)) rfl ?_
        refine x_goto 61 (q := 179) dX20_add_118 rfl ?_
        exact y_vret dX20_add_179 rfl h
      · refine x_iconst 1 (z := 1) dX20_add_110 rfl (by decide) rfl ?_
        refine x_goto 4 (q := 115) dX20_add_111 rfl ?_
        refine x_put 46 2 (c := 5) dX20_add_115 ha4 rfl in_X6 tyX6_ok nmX6 q636 rfl rfl rfl (Or.inl rfl) (Or.inr (Or.inl ⟨rfl, rfl, by decide⟩)) rfl ?_
        refine x_goto 61 (q := 179) dX20_add_118 rfl ?_
        exact y_vret dX20_add_179 rfl h
  · refine x_iload 6 dX20_add_79 rfl rfl ?_
    refine x_goto 5 (q := 86) dX20_add_81 rfl ?_
    refine x_istore 8 (ls' := [(9, 0), (2, a1), (2, a2), (9, 0), (2, a4), (0, a5), (0, a6), (9, 0), (0, a6)]) dX20_add_86 rfl rfl rfl ?_
    refine x_aload_n 1 dX20_add_88 rfl rfl rfl rfl rfl ?_
    refine x_aload_n 2 dX20_add_89 rfl rfl rfl rfl rfl ?_
    refine x_aload 4 dX20_add_90 rfl rfl rfl rfl ?_
    refine y_Sv 58 (M := mX20_addSizes) (As := [(2, a1), (2, a2), (2, a4)]) (st := []) dX20_add_92 q2732 q2733 q387 q2734 hmX20_addSizes rfl rfl rfl rfl rfl rfl rfl (k_mono h (fun r5 w6 h => ?_))
    refine x_aload 4 dX20_add_95 rfl rfl rfl rfl ?_
    refine x_iload 8 dX20_add_97 rfl rfl ?_
    refine x_if_eq (t := 114) 15 dX20_add_99 rfl rfl (b_ite h (fun hc h => ?_) (fun hc h => ?_))
    · refine x_iconst 0 (z := 0) dX20_add_114 rfl (by decide) rfl ?_
      refine x_put 46 2 (c := 5) dX20_add_115 ha4 rfl in_X6 tyX6_ok nmX6 q636 rfl rfl rfl (Or.inl rfl) (Or.inr (Or.inl ⟨rfl, rfl, by decide⟩)) rfl ?_
      refine x_goto 61 (q := 179) dX20_add_118 rfl ?_
      exact y_vret dX20_add_179 rfl h
    · refine x_aload 4 dX20_add_102 rfl rfl rfl rfl ?_
      refine y_get 25 1 (c := 5) (z := w6 a4 1) dX20_add_104 ha4 rfl in_X6 q632 rfl rfl rfl rfl rfl ?_
      refine x_if_le (t := 114) 7 dX20_add_107 rfl rfl (b_ite h (fun hc h => ?_) (fun hc h => ?_))
      · refine x_iconst 0 (z := 0) dX20_add_114 rfl (by decide) rfl ?_
        refine x_put 46 2 (c := 5) dX20_add_115 ha4 rfl in_X6 tyX6_ok nmX6 q636 rfl rfl rfl (Or.inl rfl) (Or.inr (Or.inl ⟨rfl, rfl, by decide⟩)) rfl ?_
        refine x_goto 61 (q := 179) dX20_add_118 rfl ?_
        exact y_vret dX20_add_179 rfl h
      · refine x_iconst 1 (z := 1) dX20_add_110 rfl (by decide) rfl ?_
        refine x_goto 4 (q := 115) dX20_add_111 rfl ?_
        refine x_put 46 2 (c := 5) dX20_add_115 ha4 rfl in_X6 tyX6_ok nmX6 q636 rfl rfl rfl (Or.inl rfl) (Or.inr (Or.inl ⟨rfl, rfl, by decide⟩)) rfl ?_
        refine x_goto 61 (q := 179) dX20_add_118 rfl ?_
        exact y_vret dX20_add_179 rfl h
abbrev LX20_addSizes_18 (d n : Nat) (Q : Int → bW → Prop) (X : String → bW → Prop) (a0 : Int) (a1 : Int) (a2 : Int) (a3 : Int) (a4 : Int) (a5 : Int) (w : bW) : Prop := b_Y (d + 1) mX20_addSizes n Q X 18 [(2, a0), (2, a1), (2, a2), (0, a3), (0, a4), (0, a5)] [] w
theorem rX20_addSizes {d n : Nat} {w : bW} {Q : Int → bW → Prop} {X : String → bW → Prop} (hn : 143 ≤ n) (a0 : Int) (a1 : Int) (a2 : Int) (ha0 : b_is n a0 0 5 3) (ha1 : b_is n a1 0 5 3) (ha2 : b_is n a2 0 5 3) (h : LX20_addSizes_18 d n Q X a0 a1 a2 (max (w a0 1) (w a1 1)) 0 0 w) : b_K (d + 1) mX20_addSizes [(2, a0), (2, a1), (2, a2)] n w Q X := by
  refine k_of (by decide) rfl rfl rfl (ls := [(2, a0), (2, a1), (2, a2), (9, 0), (9, 0), (9, 0)]) rfl ?_
  refine x_aload_n 0 dX20_addSizes_0 rfl rfl rfl rfl rfl ?_
  refine y_get 25 1 (c := 5) (z := w a0 1) dX20_addSizes_1 ha0 rfl in_X6 q632 rfl rfl rfl rfl rfl ?_
  refine x_aload_n 1 dX20_addSizes_4 rfl rfl rfl rfl rfl ?_
  refine y_get 25 1 (c := 5) (z := w a1 1) dX20_addSizes_5 ha1 rfl in_X6 q632 rfl rfl rfl rfl rfl ?_
  refine y_mmax 29 dX20_addSizes_8 q2735 q523 q367 q524 rfl rfl ?_
  refine x_istore_n 3 (ls' := [(2, a0), (2, a1), (2, a2), (0, (max (w a0 1) (w a1 1))), (9, 0), (9, 0)]) dX20_addSizes_11 rfl rfl rfl rfl ?_
  refine x_iconst 0 (z := 0) dX20_addSizes_12 rfl (by decide) rfl ?_
  refine x_istore 4 (ls' := [(2, a0), (2, a1), (2, a2), (0, (max (w a0 1) (w a1 1))), (0, 0), (9, 0)]) dX20_addSizes_13 rfl rfl rfl ?_
  refine x_iconst 0 (z := 0) dX20_addSizes_15 rfl (by decide) rfl ?_
  refine x_istore 5 (ls' := [(2, a0), (2, a1), (2, a2), (0, (max (w a0 1) (w a1 1))), (0, 0), (0, 0)]) dX20_addSizes_16 rfl rfl rfl ?_
  exact x_fg (fgk (fgk (fgk (fgk (fgk (fgk (fg0))))))) h
theorem sX20_addSizes_18 {d n : Nat} {w : bW} {Q : Int → bW → Prop} {X : String → bW → Prop} (hn : 143 ≤ n) (a0 : Int) (a1 : Int) (a2 : Int) (a3 : Int) (a4 : Int) (a5 : Int) (ha0 : b_is n a0 0 5 3) (ha1 : b_is n a1 0 5 3) (ha2 : b_is n a2 0 5 3) (h : if a3 ≤ a5 then ((0 ≤ a3 ∧ a3 < 200) ∧ (b_K d mX6_trim [(2, a2), (0, b_i (a3 + 1))] n (b_up w (a2 + 1) a3 a4) (fun r3 w4 => Q 0 w4) X)) else (b_K d mX6_at [(2, a0), (0, a5)] n w (fun r5 w6 => b_K d mX6_at [(2, a1), (0, a5)] n w6 (fun r7 w8 => (0 ≤ a5 ∧ a5 < 200) ∧ (LX20_addSizes_18 d n Q X a0 a1 a2 a3 (b_shr (b_i (a4 + (b_i (r5 + r7)))) 16) (b_i (a5 + 1)) (b_up w8 (a2 + 1) a5 (b_and (b_i (a4 + (b_i (r5 + r7)))) 65535)))) X) X)) : LX20_addSizes_18 d n Q X a0 a1 a2 a3 a4 a5 w := by
  refine x_iload 5 dX20_addSizes_18 rfl rfl ?_
  refine x_iload_n 3 dX20_addSizes_20 rfl rfl rfl ?_
  refine x_icmp_ge (t := 67) 46 dX20_addSizes_21 rfl rfl (b_ite h (fun hc h => ?_) (fun hc h => ?_))
  · refine x_aload_n 2 dX20_addSizes_67 rfl rfl rfl rfl rfl ?_
    refine y_getO 39 0 (c := 5) dX20_addSizes_68 ha2 rfl in_X6 q627 rfl rfl rfl (fun h5 hf => of_X6_0 (Nat.le_trans (Nat.le_of_ble_eq_true rfl) hn) h5 ha2 hf) rfl (fun e1 => ?_)
    refine x_iload_n 3 dX20_addSizes_71 rfl rfl rfl ?_
    refine x_iload 4 dX20_addSizes_72 rfl rfl ?_
    obtain ⟨e2, h⟩ := h
    refine y_iast (x' := a4) dX20_addSizes_74 ⟨200, e1, e2⟩ rfl rfl ?_
    refine x_aload_n 2 dX20_addSizes_75 rfl rfl rfl rfl rfl ?_
    refine x_iload_n 3 dX20_addSizes_76 rfl rfl rfl ?_
    refine x_iconst 1 (z := 1) dX20_addSizes_77 rfl (by decide) rfl ?_
    refine x_iadd dX20_addSizes_78 rfl ?_
    refine y_Vv 43 (M := mX6_trim) (As := [(0, b_i (a3 + 1))]) (st := []) dX20_addSizes_79 ha2 rfl q2738 q2110 q2111 q373 q2112 rfl hmX6_trim rfl rfl rfl rfl rfl rfl rfl (k_mono h (fun r3 w4 h => ?_))
    exact y_vret dX20_addSizes_82 rfl h
  · refine x_iload 4 dX20_addSizes_24 rfl rfl ?_
    refine x_aload_n 0 dX20_addSizes_26 rfl rfl rfl rfl rfl ?_
    refine x_iload 5 dX20_addSizes_27 rfl rfl ?_
    refine y_Vi 35 (M := mX6_at) (As := [(0, a5)]) (st := [(0, a4)]) dX20_addSizes_29 ha0 rfl q2736 q1962 q1963 q373 q1964 rfl hmX6_at rfl rfl rfl rfl rfl rfl rfl rfl (k_mono h (fun r5 w6 h => ?_))
    refine x_aload_n 1 dX20_addSizes_32 rfl rfl rfl rfl rfl ?_
    refine x_iload 5 dX20_addSizes_33 rfl rfl ?_
    refine y_Vi 35 (M := mX6_at) (As := [(0, a5)]) (st := [(0, r5), (0, a4)]) dX20_addSizes_35 ha1 rfl q2736 q1962 q1963 q373 q1964 rfl hmX6_at rfl rfl rfl rfl rfl rfl rfl rfl (k_mono h (fun r7 w8 h => ?_))
    refine x_iadd dX20_addSizes_38 rfl ?_
    refine x_iadd dX20_addSizes_39 rfl ?_
    refine x_istore 4 (ls' := [(2, a0), (2, a1), (2, a2), (0, a3), (0, b_i (a4 + (b_i (r5 + r7)))), (0, a5)]) dX20_addSizes_40 rfl rfl rfl ?_
    refine x_aload_n 2 dX20_addSizes_42 rfl rfl rfl rfl rfl ?_
    refine y_getO 39 0 (c := 5) dX20_addSizes_43 ha2 rfl in_X6 q627 rfl rfl rfl (fun h5 hf => of_X6_0 (Nat.le_trans (Nat.le_of_ble_eq_true rfl) hn) h5 ha2 hf) rfl (fun e9 => ?_)
    refine x_iload 5 dX20_addSizes_46 rfl rfl ?_
    refine x_iload 4 dX20_addSizes_48 rfl rfl ?_
    refine x_ldc 42 (x := 65535) dX20_addSizes_50 q2737 rfl (by decide) rfl ?_
    refine x_iand dX20_addSizes_52 rfl ?_
    obtain ⟨e10, h⟩ := h
    refine y_iast (x' := b_and (b_i (a4 + (b_i (r5 + r7)))) 65535) dX20_addSizes_53 ⟨200, e9, e10⟩ rfl rfl ?_
    refine x_iload 4 dX20_addSizes_54 rfl rfl ?_
    refine x_bipush 16 (z := 16) dX20_addSizes_56 rfl (by decide) rfl ?_
    refine x_ishr dX20_addSizes_58 rfl ?_
    refine x_istore 4 (ls' := [(2, a0), (2, a1), (2, a2), (0, a3), (0, b_shr (b_i (a4 + (b_i (r5 + r7)))) 16), (0, a5)]) dX20_addSizes_59 rfl rfl rfl ?_
    refine x_iinc 5 1 (ls' := [(2, a0), (2, a1), (2, a2), (0, a3), (0, b_shr (b_i (a4 + (b_i (r5 + r7)))) 16), (0, b_i (a5 + 1))]) dX20_addSizes_61 rfl rfl rfl rfl ?_
    refine x_goto (-46) (q := 18) dX20_addSizes_64 rfl ?_
    exact x_fg (fgk (fgk (fgk (fgk (fgk (fgk (fg0))))))) h
abbrev LX20_lessSizes_11 (d n : Nat) (Q : Int → bW → Prop) (X : String → bW → Prop) (a0 : Int) (a1 : Int) (a2 : Int) (a3 : Int) (a4 : Int) (a5 : Int) (w : bW) : Prop := b_Y (d + 1) mX20_lessSizes n Q X 11 [(2, a0), (2, a1), (2, a2), (0, a3), (0, a4), (0, a5)] [] w
theorem rX20_lessSizes {d n : Nat} {w : bW} {Q : Int → bW → Prop} {X : String → bW → Prop} (hn : 143 ≤ n) (a0 : Int) (a1 : Int) (a2 : Int) (ha0 : b_is n a0 0 5 3) (ha1 : b_is n a1 0 5 3) (ha2 : b_is n a2 0 5 3) (h : LX20_lessSizes_11 d n Q X a0 a1 a2 (w a0 1) 0 0 w) : b_K (d + 1) mX20_lessSizes [(2, a0), (2, a1), (2, a2)] n w Q X := by
  refine k_of (by decide) rfl rfl rfl (ls := [(2, a0), (2, a1), (2, a2), (9, 0), (9, 0), (9, 0)]) rfl ?_
  refine x_aload_n 0 dX20_lessSizes_0 rfl rfl rfl rfl rfl ?_
  refine y_get 25 1 (c := 5) (z := w a0 1) dX20_lessSizes_1 ha0 rfl in_X6 q632 rfl rfl rfl rfl rfl ?_
  refine x_istore_n 3 (ls' := [(2, a0), (2, a1), (2, a2), (0, w a0 1), (9, 0), (9, 0)]) dX20_lessSizes_4 rfl rfl rfl rfl ?_
  refine x_iconst 0 (z := 0) dX20_lessSizes_5 rfl (by decide) rfl ?_
  refine x_istore 4 (ls' := [(2, a0), (2, a1), (2, a2), (0, w a0 1), (0, 0), (9, 0)]) dX20_lessSizes_6 rfl rfl rfl ?_
  refine x_iconst 0 (z := 0) dX20_lessSizes_8 rfl (by decide) rfl ?_
  refine x_istore 5 (ls' := [(2, a0), (2, a1), (2, a2), (0, w a0 1), (0, 0), (0, 0)]) dX20_lessSizes_9 rfl rfl rfl ?_
  exact x_fg (fgk (fgk (fgk (fgk (fgk (fgk (fg0))))))) h
theorem sX20_lessSizes_11 {d n : Nat} {w : bW} {Q : Int → bW → Prop} {X : String → bW → Prop} (hn : 143 ≤ n) (a0 : Int) (a1 : Int) (a2 : Int) (a3 : Int) (a4 : Int) (a5 : Int) (ha0 : b_is n a0 0 5 3) (ha1 : b_is n a1 0 5 3) (ha2 : b_is n a2 0 5 3) (h : if a3 ≤ a5 then (b_K d mX6_trim [(2, a2), (0, a3)] n w (fun r1 w2 => Q 0 w2) X) else (b_K d mX6_at [(2, a0), (0, a5)] n w (fun r3 w4 => b_K d mX6_at [(2, a1), (0, a5)] n w4 (fun r5 w6 => (0 ≤ a5 ∧ a5 < 200) ∧ (LX20_lessSizes_11 d n Q X a0 a1 a2 a3 (b_shr (b_i (a4 + (b_i (r3 - r5)))) 16) (b_i (a5 + 1)) (b_up w6 (a2 + 1) a5 (b_and (b_i (a4 + (b_i (r3 - r5)))) 65535)))) X) X)) : LX20_lessSizes_11 d n Q X a0 a1 a2 a3 a4 a5 w := by
  refine x_iload 5 dX20_lessSizes_11 rfl rfl ?_
  refine x_iload_n 3 dX20_lessSizes_13 rfl rfl rfl ?_
  refine x_icmp_ge (t := 60) 46 dX20_lessSizes_14 rfl rfl (b_ite h (fun hc h => ?_) (fun hc h => ?_))
  · refine x_aload_n 2 dX20_lessSizes_60 rfl rfl rfl rfl rfl ?_
    refine x_iload_n 3 dX20_lessSizes_61 rfl rfl rfl ?_
    refine y_Vv 43 (M := mX6_trim) (As := [(0, a3)]) (st := []) dX20_lessSizes_62 ha2 rfl q2738 q2110 q2111 q373 q2112 rfl hmX6_trim rfl rfl rfl rfl rfl rfl rfl (k_mono h (fun r1 w2 h => ?_))
    exact y_vret dX20_lessSizes_65 rfl h
  · refine x_iload 4 dX20_lessSizes_17 rfl rfl ?_
    refine x_aload_n 0 dX20_lessSizes_19 rfl rfl rfl rfl rfl ?_
    refine x_iload 5 dX20_lessSizes_20 rfl rfl ?_
    refine y_Vi 35 (M := mX6_at) (As := [(0, a5)]) (st := [(0, a4)]) dX20_lessSizes_22 ha0 rfl q2736 q1962 q1963 q373 q1964 rfl hmX6_at rfl rfl rfl rfl rfl rfl rfl rfl (k_mono h (fun r3 w4 h => ?_))
    refine x_aload_n 1 dX20_lessSizes_25 rfl rfl rfl rfl rfl ?_
    refine x_iload 5 dX20_lessSizes_26 rfl rfl ?_
    refine y_Vi 35 (M := mX6_at) (As := [(0, a5)]) (st := [(0, r3), (0, a4)]) dX20_lessSizes_28 ha1 rfl q2736 q1962 q1963 q373 q1964 rfl hmX6_at rfl rfl rfl rfl rfl rfl rfl rfl (k_mono h (fun r5 w6 h => ?_))
    refine x_isub dX20_lessSizes_31 rfl ?_
    refine x_iadd dX20_lessSizes_32 rfl ?_
    refine x_istore 4 (ls' := [(2, a0), (2, a1), (2, a2), (0, a3), (0, b_i (a4 + (b_i (r3 - r5)))), (0, a5)]) dX20_lessSizes_33 rfl rfl rfl ?_
    refine x_aload_n 2 dX20_lessSizes_35 rfl rfl rfl rfl rfl ?_
    refine y_getO 39 0 (c := 5) dX20_lessSizes_36 ha2 rfl in_X6 q627 rfl rfl rfl (fun h5 hf => of_X6_0 (Nat.le_trans (Nat.le_of_ble_eq_true rfl) hn) h5 ha2 hf) rfl (fun e7 => ?_)
    refine x_iload 5 dX20_lessSizes_39 rfl rfl ?_
    refine x_iload 4 dX20_lessSizes_41 rfl rfl ?_
    refine x_ldc 42 (x := 65535) dX20_lessSizes_43 q2737 rfl (by decide) rfl ?_
    refine x_iand dX20_lessSizes_45 rfl ?_
    obtain ⟨e8, h⟩ := h
    refine y_iast (x' := b_and (b_i (a4 + (b_i (r3 - r5)))) 65535) dX20_lessSizes_46 ⟨200, e7, e8⟩ rfl rfl ?_
    refine x_iload 4 dX20_lessSizes_47 rfl rfl ?_
    refine x_bipush 16 (z := 16) dX20_lessSizes_49 rfl (by decide) rfl ?_
    refine x_ishr dX20_lessSizes_51 rfl ?_
    refine x_istore 4 (ls' := [(2, a0), (2, a1), (2, a2), (0, a3), (0, b_shr (b_i (a4 + (b_i (r3 - r5)))) 16), (0, a5)]) dX20_lessSizes_52 rfl rfl rfl ?_
    refine x_iinc 5 1 (ls' := [(2, a0), (2, a1), (2, a2), (0, a3), (0, b_shr (b_i (a4 + (b_i (r3 - r5)))) 16), (0, b_i (a5 + 1))]) dX20_lessSizes_54 rfl rfl rfl rfl ?_
    refine x_goto (-46) (q := 11) dX20_lessSizes_57 rfl ?_
    exact x_fg (fgk (fgk (fgk (fgk (fgk (fgk (fg0))))))) h
abbrev LX20_up_17 (d n : Nat) (Q : Int → bW → Prop) (X : String → bW → Prop) (a1 : Int) (a3 : Int) (a4 : Int) (a5 : Int) (a6 : Int) (a7 : Int) (w : bW) : Prop := b_Y (d + 1) mX20_up n Q X 17 [(9, 0), (2, a1), (9, 0), (2, a3), (0, a4), (0, a5), (0, a6), (0, a7)] [] w
abbrev LX20_up_41 (d n : Nat) (Q : Int → bW → Prop) (X : String → bW → Prop) (a1 : Int) (a3 : Int) (a4 : Int) (a5 : Int) (a6 : Int) (a7 : Int) (w : bW) : Prop := b_Y (d + 1) mX20_up n Q X 41 [(9, 0), (2, a1), (9, 0), (2, a3), (0, a4), (0, a5), (0, a6), (0, a7)] [] w
theorem rX20_up {d n : Nat} {w : bW} {Q : Int → bW → Prop} {X : String → bW → Prop} (hn : 143 ≤ n) (a1 : Int) (a2 : Int) (a3 : Int) (ha1 : b_is n a1 0 5 3) (ha3 : b_is n a3 0 5 3) (h : LX20_up_17 d n Q X a1 a3 (b_shr a2 4) (b_and a2 15) 0 0 w) : b_K (d + 1) mX20_up [(2, 84), (2, a1), (0, a2), (2, a3)] n w Q X := by
  refine k_of (by decide) rfl rfl rfl (ls := [(2, 84), (2, a1), (0, a2), (2, a3), (9, 0), (9, 0), (9, 0), (9, 0)]) rfl ?_
  refine x_iload_n 2 dX20_up_0 rfl rfl rfl ?_
  refine x_iconst 4 (z := 4) dX20_up_1 rfl (by decide) rfl ?_
  refine x_ishr dX20_up_2 rfl ?_
  refine x_istore 4 (ls' := [(2, 84), (2, a1), (0, a2), (2, a3), (0, b_shr a2 4), (9, 0), (9, 0), (9, 0)]) dX20_up_3 rfl rfl rfl ?_
  refine x_iload_n 2 dX20_up_5 rfl rfl rfl ?_
  refine x_bipush 15 (z := 15) dX20_up_6 rfl (by decide) rfl ?_
  refine x_iand dX20_up_8 rfl ?_
  refine x_istore 5 (ls' := [(2, 84), (2, a1), (0, a2), (2, a3), (0, b_shr a2 4), (0, b_and a2 15), (9, 0), (9, 0)]) dX20_up_9 rfl rfl rfl ?_
  refine x_iconst 0 (z := 0) dX20_up_11 rfl (by decide) rfl ?_
  refine x_istore 6 (ls' := [(2, 84), (2, a1), (0, a2), (2, a3), (0, b_shr a2 4), (0, b_and a2 15), (0, 0), (9, 0)]) dX20_up_12 rfl rfl rfl ?_
  refine x_iconst 0 (z := 0) dX20_up_14 rfl (by decide) rfl ?_
  refine x_istore 7 (ls' := [(2, 84), (2, a1), (0, a2), (2, a3), (0, b_shr a2 4), (0, b_and a2 15), (0, 0), (0, 0)]) dX20_up_15 rfl rfl rfl ?_
  exact x_fg (fgd (fgk (fgd (fgk (fgk (fgk (fgk (fgk (fg0))))))))) h
theorem sX20_up_17 {d n : Nat} {w : bW} {Q : Int → bW → Prop} {X : String → bW → Prop} (hn : 143 ≤ n) (a1 : Int) (a3 : Int) (a4 : Int) (a5 : Int) (a6 : Int) (a7 : Int) (ha1 : b_is n a1 0 5 3) (ha3 : b_is n a3 0 5 3) (h : if a4 ≤ a7 then (LX20_up_41 d n Q X a1 a3 a4 a5 a6 0 w) else ((0 ≤ a7 ∧ a7 < 200) ∧ (LX20_up_17 d n Q X a1 a3 a4 a5 a6 (b_i (a7 + 1)) (b_up w (a3 + 1) a7 0)))) : LX20_up_17 d n Q X a1 a3 a4 a5 a6 a7 w := by
  refine x_iload 7 dX20_up_17 rfl rfl ?_
  refine x_iload 4 dX20_up_19 rfl rfl ?_
  refine x_icmp_ge (t := 38) 17 dX20_up_21 rfl rfl (b_ite h (fun hc h => ?_) (fun hc h => ?_))
  · refine x_iconst 0 (z := 0) dX20_up_38 rfl (by decide) rfl ?_
    refine x_istore 7 (ls' := [(9, 0), (2, a1), (9, 0), (2, a3), (0, a4), (0, a5), (0, a6), (0, 0)]) dX20_up_39 rfl rfl rfl ?_
    exact x_fg (fgk (fgk (fgk (fgk (fgk (fgk (fgk (fgk (fg0))))))))) h
  · refine x_aload_n 3 dX20_up_24 rfl rfl rfl rfl rfl ?_
    refine y_getO 39 0 (c := 5) dX20_up_25 ha3 rfl in_X6 q627 rfl rfl rfl (fun h5 hf => of_X6_0 (Nat.le_trans (Nat.le_of_ble_eq_true rfl) hn) h5 ha3 hf) rfl (fun e1 => ?_)
    refine x_iload 7 dX20_up_28 rfl rfl ?_
    refine x_iconst 0 (z := 0) dX20_up_30 rfl (by decide) rfl ?_
    obtain ⟨e2, h⟩ := h
    refine y_iast (x' := 0) dX20_up_31 ⟨200, e1, e2⟩ rfl rfl ?_
    refine x_iinc 7 1 (ls' := [(9, 0), (2, a1), (9, 0), (2, a3), (0, a4), (0, a5), (0, a6), (0, b_i (a7 + 1))]) dX20_up_32 rfl rfl rfl rfl ?_
    refine x_goto (-18) (q := 17) dX20_up_35 rfl ?_
    exact x_fg (fgk (fgk (fgk (fgk (fgk (fgk (fgk (fgk (fg0))))))))) h
theorem sX20_up_41 {d n : Nat} {w : bW} {Q : Int → bW → Prop} {X : String → bW → Prop} (hn : 143 ≤ n) (a1 : Int) (a3 : Int) (a4 : Int) (a5 : Int) (a6 : Int) (a7 : Int) (ha1 : b_is n a1 0 5 3) (ha3 : b_is n a3 0 5 3) (h : if w a1 1 < a7 then ((w a1 2 = 0 ∨ w a1 2 = 1) ∧ (b_K d mX6_trim [(2, a3), (0, b_i ((b_i (a4 + ((b_up w a3 2 (w a1 2)) a1 1))) + 1))] n (b_up w a3 2 (w a1 2)) (fun r2 w3 => Q 0 w3) X)) else (b_K d mX6_at [(2, a1), (0, a7)] n w (fun r4 w5 => (0 ≤ b_i (a4 + a7) ∧ b_i (a4 + a7) < 200) ∧ (LX20_up_41 d n Q X a1 a3 a4 a5 (b_ush (b_or a6 (b_shl r4 a5)) 16) (b_i (a7 + 1)) (b_up w5 (a3 + 1) (b_i (a4 + a7)) (b_and (b_or a6 (b_shl r4 a5)) 65535)))) X)) : LX20_up_41 d n Q X a1 a3 a4 a5 a6 a7 w := by
  refine x_iload 7 dX20_up_41 rfl rfl ?_
  refine x_aload_n 1 dX20_up_43 rfl rfl rfl rfl rfl ?_
  refine y_get 25 1 (c := 5) (z := w a1 1) dX20_up_44 ha1 rfl in_X6 q632 rfl rfl rfl rfl rfl ?_
  refine x_icmp_gt (t := 92) 45 dX20_up_47 rfl rfl (b_ite h (fun hc h => ?_) (fun hc h => ?_))
  · refine x_aload_n 3 dX20_up_92 rfl rfl rfl rfl rfl ?_
    refine x_aload_n 1 dX20_up_93 rfl rfl rfl rfl rfl ?_
    refine y_get 46 2 (c := 5) (z := w a1 2) dX20_up_94 ha1 rfl in_X6 q636 rfl rfl rfl rfl rfl ?_
    obtain ⟨e1, h⟩ := h
    refine x_put 46 2 (c := 5) dX20_up_97 ha3 rfl in_X6 tyX6_ok nmX6 q636 rfl rfl rfl (Or.inl rfl) (Or.inr (Or.inl ⟨rfl, rfl, e1⟩)) rfl ?_
    refine x_aload_n 3 dX20_up_100 rfl rfl rfl rfl rfl ?_
    refine x_iload 4 dX20_up_101 rfl rfl ?_
    refine x_aload_n 1 dX20_up_103 rfl rfl rfl rfl rfl ?_
    refine y_get 25 1 (c := 5) (z := (b_up w a3 2 (w a1 2)) a1 1) dX20_up_104 ha1 rfl in_X6 q632 rfl rfl rfl rfl rfl ?_
    refine x_iadd dX20_up_107 rfl ?_
    refine x_iconst 1 (z := 1) dX20_up_108 rfl (by decide) rfl ?_
    refine x_iadd dX20_up_109 rfl ?_
    refine y_Vv 43 (M := mX6_trim) (As := [(0, b_i ((b_i (a4 + ((b_up w a3 2 (w a1 2)) a1 1))) + 1))]) (st := []) dX20_up_110 ha3 rfl q2738 q2110 q2111 q373 q2112 rfl hmX6_trim rfl rfl rfl rfl rfl rfl rfl (k_mono h (fun r2 w3 h => ?_))
    exact y_vret dX20_up_113 rfl h
  · refine x_iload 6 dX20_up_50 rfl rfl ?_
    refine x_aload_n 1 dX20_up_52 rfl rfl rfl rfl rfl ?_
    refine x_iload 7 dX20_up_53 rfl rfl ?_
    refine y_Vi 35 (M := mX6_at) (As := [(0, a7)]) (st := [(0, a6)]) dX20_up_55 ha1 rfl q2736 q1962 q1963 q373 q1964 rfl hmX6_at rfl rfl rfl rfl rfl rfl rfl rfl (k_mono h (fun r4 w5 h => ?_))
    refine x_iload 5 dX20_up_58 rfl rfl ?_
    refine x_ishl dX20_up_60 rfl ?_
    refine x_ior dX20_up_61 rfl ?_
    refine x_istore 6 (ls' := [(9, 0), (2, a1), (9, 0), (2, a3), (0, a4), (0, a5), (0, b_or a6 (b_shl r4 a5)), (0, a7)]) dX20_up_62 rfl rfl rfl ?_
    refine x_aload_n 3 dX20_up_64 rfl rfl rfl rfl rfl ?_
    refine y_getO 39 0 (c := 5) dX20_up_65 ha3 rfl in_X6 q627 rfl rfl rfl (fun h5 hf => of_X6_0 (Nat.le_trans (Nat.le_of_ble_eq_true rfl) hn) h5 ha3 hf) rfl (fun e6 => ?_)
    refine x_iload 4 dX20_up_68 rfl rfl ?_
    refine x_iload 7 dX20_up_70 rfl rfl ?_
    refine x_iadd dX20_up_72 rfl ?_
    refine x_iload 6 dX20_up_73 rfl rfl ?_
    refine x_ldc 42 (x := 65535) dX20_up_75 q2737 rfl (by decide) rfl ?_
    refine x_iand dX20_up_77 rfl ?_
    obtain ⟨e7, h⟩ := h
    refine y_iast (x' := b_and (b_or a6 (b_shl r4 a5)) 65535) dX20_up_78 ⟨200, e6, e7⟩ rfl rfl ?_
    refine x_iload 6 dX20_up_79 rfl rfl ?_
    refine x_bipush 16 (z := 16) dX20_up_81 rfl (by decide) rfl ?_
    refine x_iushr dX20_up_83 rfl ?_
    refine x_istore 6 (ls' := [(9, 0), (2, a1), (9, 0), (2, a3), (0, a4), (0, a5), (0, b_ush (b_or a6 (b_shl r4 a5)) 16), (0, a7)]) dX20_up_84 rfl rfl rfl ?_
    refine x_iinc 7 1 (ls' := [(9, 0), (2, a1), (9, 0), (2, a3), (0, a4), (0, a5), (0, b_ush (b_or a6 (b_shl r4 a5)) 16), (0, b_i (a7 + 1))]) dX20_up_86 rfl rfl rfl rfl ?_
    refine x_goto (-48) (q := 41) dX20_up_89 rfl ?_
    exact x_fg (fgk (fgk (fgk (fgk (fgk (fgk (fgk (fgk (fg0))))))))) h
abbrev LX20_down_27 (d n : Nat) (Q : Int → bW → Prop) (X : String → bW → Prop) (a1 : Int) (a3 : Int) (a4 : Int) (a5 : Int) (a6 : Int) (a7 : Int) (w : bW) : Prop := b_Y (d + 1) mX20_down n Q X 27 [(9, 0), (2, a1), (9, 0), (2, a3), (0, a4), (0, a5), (0, a6), (0, a7)] [] w
theorem rX20_down {d n : Nat} {w : bW} {Q : Int → bW → Prop} {X : String → bW → Prop} (hn : 143 ≤ n) (a1 : Int) (a2 : Int) (a3 : Int) (ha1 : b_is n a1 0 5 3) (ha3 : b_is n a3 0 5 3) (h : LX20_down_27 d n Q X a1 a3 (b_shr a2 4) (b_and a2 15) (max 0 (b_i ((w a1 1) - (b_shr a2 4)))) 0 w) : b_K (d + 1) mX20_down [(2, 84), (2, a1), (0, a2), (2, a3)] n w Q X := by
  refine k_of (by decide) rfl rfl rfl (ls := [(2, 84), (2, a1), (0, a2), (2, a3), (9, 0), (9, 0), (9, 0), (9, 0)]) rfl ?_
  refine x_iload_n 2 dX20_down_0 rfl rfl rfl ?_
  refine x_iconst 4 (z := 4) dX20_down_1 rfl (by decide) rfl ?_
  refine x_ishr dX20_down_2 rfl ?_
  refine x_istore 4 (ls' := [(2, 84), (2, a1), (0, a2), (2, a3), (0, b_shr a2 4), (9, 0), (9, 0), (9, 0)]) dX20_down_3 rfl rfl rfl ?_
  refine x_iload_n 2 dX20_down_5 rfl rfl rfl ?_
  refine x_bipush 15 (z := 15) dX20_down_6 rfl (by decide) rfl ?_
  refine x_iand dX20_down_8 rfl ?_
  refine x_istore 5 (ls' := [(2, 84), (2, a1), (0, a2), (2, a3), (0, b_shr a2 4), (0, b_and a2 15), (9, 0), (9, 0)]) dX20_down_9 rfl rfl rfl ?_
  refine x_iconst 0 (z := 0) dX20_down_11 rfl (by decide) rfl ?_
  refine x_aload_n 1 dX20_down_12 rfl rfl rfl rfl rfl ?_
  refine y_get 25 1 (c := 5) (z := w a1 1) dX20_down_13 ha1 rfl in_X6 q632 rfl rfl rfl rfl rfl ?_
  refine x_iload 4 dX20_down_16 rfl rfl ?_
  refine x_isub dX20_down_18 rfl ?_
  refine y_mmax 29 dX20_down_19 q2735 q523 q367 q524 rfl rfl ?_
  refine x_istore 6 (ls' := [(2, 84), (2, a1), (0, a2), (2, a3), (0, b_shr a2 4), (0, b_and a2 15), (0, (max 0 (b_i ((w a1 1) - (b_shr a2 4))))), (9, 0)]) dX20_down_22 rfl rfl rfl ?_
  refine x_iconst 0 (z := 0) dX20_down_24 rfl (by decide) rfl ?_
  refine x_istore 7 (ls' := [(2, 84), (2, a1), (0, a2), (2, a3), (0, b_shr a2 4), (0, b_and a2 15), (0, (max 0 (b_i ((w a1 1) - (b_shr a2 4))))), (0, 0)]) dX20_down_25 rfl rfl rfl ?_
  exact x_fg (fgd (fgk (fgd (fgk (fgk (fgk (fgk (fgk (fg0))))))))) h
theorem sX20_down_27 {d n : Nat} {w : bW} {Q : Int → bW → Prop} {X : String → bW → Prop} (hn : 143 ≤ n) (a1 : Int) (a3 : Int) (a4 : Int) (a5 : Int) (a6 : Int) (a7 : Int) (ha1 : b_is n a1 0 5 3) (ha3 : b_is n a3 0 5 3) (h : if a6 ≤ a7 then (b_K d mX6_trim [(2, a3), (0, a6)] n (b_up w a3 2 0) (fun r1 w2 => Q 0 w2) X) else (b_K d mX6_at [(2, a1), (0, b_i (a4 + a7))] n w (fun r4 w5 => b_K d mX6_at [(2, a1), (0, b_i ((b_i (a4 + a7)) + 1))] n w5 (fun r6 w7 => (0 ≤ a7 ∧ a7 < 200) ∧ (LX20_down_27 d n Q X a1 a3 a4 a5 a6 (b_i (a7 + 1)) (b_up w7 (a3 + 1) a7 (b_and (b_ush (b_or r4 (b_shl r6 16)) a5) 65535)))) X) X)) : LX20_down_27 d n Q X a1 a3 a4 a5 a6 a7 w := by
  refine x_iload 7 dX20_down_27 rfl rfl ?_
  refine x_iload 6 dX20_down_29 rfl rfl ?_
  refine x_icmp_ge (t := 77) 46 dX20_down_31 rfl rfl (b_ite h (fun hc h => ?_) (fun hc h => ?_))
  · refine x_aload_n 3 dX20_down_77 rfl rfl rfl rfl rfl ?_
    refine x_iconst 0 (z := 0) dX20_down_78 rfl (by decide) rfl ?_
    refine x_put 46 2 (c := 5) dX20_down_79 ha3 rfl in_X6 tyX6_ok nmX6 q636 rfl rfl rfl (Or.inl rfl) (Or.inr (Or.inl ⟨rfl, rfl, by decide⟩)) rfl ?_
    refine x_aload_n 3 dX20_down_82 rfl rfl rfl rfl rfl ?_
    refine x_iload 6 dX20_down_83 rfl rfl ?_
    refine y_Vv 43 (M := mX6_trim) (As := [(0, a6)]) (st := []) dX20_down_85 ha3 rfl q2738 q2110 q2111 q373 q2112 rfl hmX6_trim rfl rfl rfl rfl rfl rfl rfl (k_mono h (fun r1 w2 h => ?_))
    exact y_vret dX20_down_88 rfl h
  · refine x_aload_n 3 dX20_down_34 rfl rfl rfl rfl rfl ?_
    refine y_getO 39 0 (c := 5) dX20_down_35 ha3 rfl in_X6 q627 rfl rfl rfl (fun h5 hf => of_X6_0 (Nat.le_trans (Nat.le_of_ble_eq_true rfl) hn) h5 ha3 hf) rfl (fun e3 => ?_)
    refine x_iload 7 dX20_down_38 rfl rfl ?_
    refine x_aload_n 1 dX20_down_40 rfl rfl rfl rfl rfl ?_
    refine x_iload 4 dX20_down_41 rfl rfl ?_
    refine x_iload 7 dX20_down_43 rfl rfl ?_
    refine x_iadd dX20_down_45 rfl ?_
    refine y_Vi 35 (M := mX6_at) (As := [(0, b_i (a4 + a7))]) (st := [(0, a7), (2, a3 + 1)]) dX20_down_46 ha1 rfl q2736 q1962 q1963 q373 q1964 rfl hmX6_at rfl rfl rfl rfl rfl rfl rfl rfl (k_mono h (fun r4 w5 h => ?_))
    refine x_aload_n 1 dX20_down_49 rfl rfl rfl rfl rfl ?_
    refine x_iload 4 dX20_down_50 rfl rfl ?_
    refine x_iload 7 dX20_down_52 rfl rfl ?_
    refine x_iadd dX20_down_54 rfl ?_
    refine x_iconst 1 (z := 1) dX20_down_55 rfl (by decide) rfl ?_
    refine x_iadd dX20_down_56 rfl ?_
    refine y_Vi 35 (M := mX6_at) (As := [(0, b_i ((b_i (a4 + a7)) + 1))]) (st := [(0, r4), (0, a7), (2, a3 + 1)]) dX20_down_57 ha1 rfl q2736 q1962 q1963 q373 q1964 rfl hmX6_at rfl rfl rfl rfl rfl rfl rfl rfl (k_mono h (fun r6 w7 h => ?_))
    refine x_bipush 16 (z := 16) dX20_down_60 rfl (by decide) rfl ?_
    refine x_ishl dX20_down_62 rfl ?_
    refine x_ior dX20_down_63 rfl ?_
    refine x_iload 5 dX20_down_64 rfl rfl ?_
    refine x_iushr dX20_down_66 rfl ?_
    refine x_ldc 42 (x := 65535) dX20_down_67 q2737 rfl (by decide) rfl ?_
    refine x_iand dX20_down_69 rfl ?_
    obtain ⟨e8, h⟩ := h
    refine y_iast (x' := b_and (b_ush (b_or r4 (b_shl r6 16)) a5) 65535) dX20_down_70 ⟨200, e3, e8⟩ rfl rfl ?_
    refine x_iinc 7 1 (ls' := [(9, 0), (2, a1), (9, 0), (2, a3), (0, a4), (0, a5), (0, a6), (0, b_i (a7 + 1))]) dX20_down_71 rfl rfl rfl rfl ?_
    refine x_goto (-47) (q := 27) dX20_down_74 rfl ?_
    exact x_fg (fgk (fgk (fgk (fgk (fgk (fgk (fgk (fgk (fg0))))))))) h
theorem rX20_multiply {d n : Nat} {w : bW} {Q : Int → bW → Prop} {X : String → bW → Prop} (hn : 143 ≤ n) (a1 : Int) (a2 : Int) (a3 : Int) (ha1 : b_is n a1 0 5 3) (ha2 : b_is n a2 0 5 3) (ha3 : b_is n a3 0 5 3) (h : b_K d mX20_plain [(2, a1 + 1), (0, w a1 1), (2, a2 + 1), (0, w a2 1), (2, a3 + 1)] n w (fun r4 w5 => if w5 a1 2 = w5 a2 2 then (b_K d mX6_trim [(2, a3), (0, b_i (((b_up w5 a3 2 0) a1 1) + ((b_up w5 a3 2 0) a2 1)))] n (b_up w5 a3 2 0) (fun r6 w7 => Q 0 w7) X) else (b_K d mX6_trim [(2, a3), (0, b_i (((b_up w5 a3 2 1) a1 1) + ((b_up w5 a3 2 1) a2 1)))] n (b_up w5 a3 2 1) (fun r8 w9 => Q 0 w9) X)) X) : b_K (d + 1) mX20_multiply [(2, 84), (2, a1), (2, a2), (2, a3)] n w Q X := by
  refine k_of (by decide) rfl rfl rfl (ls := [(2, 84), (2, a1), (2, a2), (2, a3)]) rfl ?_
  refine x_aload_n 1 dX20_multiply_0 rfl rfl rfl rfl rfl ?_
  refine y_getO 39 0 (c := 5) dX20_multiply_1 ha1 rfl in_X6 q627 rfl rfl rfl (fun h5 hf => of_X6_0 (Nat.le_trans (Nat.le_of_ble_eq_true rfl) hn) h5 ha1 hf) rfl (fun e1 => ?_)
  refine x_aload_n 1 dX20_multiply_4 rfl rfl rfl rfl rfl ?_
  refine y_get 25 1 (c := 5) (z := w a1 1) dX20_multiply_5 ha1 rfl in_X6 q632 rfl rfl rfl rfl rfl ?_
  refine x_aload_n 2 dX20_multiply_8 rfl rfl rfl rfl rfl ?_
  refine y_getO 39 0 (c := 5) dX20_multiply_9 ha2 rfl in_X6 q627 rfl rfl rfl (fun h5 hf => of_X6_0 (Nat.le_trans (Nat.le_of_ble_eq_true rfl) hn) h5 ha2 hf) rfl (fun e2 => ?_)
  refine x_aload_n 2 dX20_multiply_12 rfl rfl rfl rfl rfl ?_
  refine y_get 25 1 (c := 5) (z := w a2 1) dX20_multiply_13 ha2 rfl in_X6 q632 rfl rfl rfl rfl rfl ?_
  refine x_aload_n 3 dX20_multiply_16 rfl rfl rfl rfl rfl ?_
  refine y_getO 39 0 (c := 5) dX20_multiply_17 ha3 rfl in_X6 q627 rfl rfl rfl (fun h5 hf => of_X6_0 (Nat.le_trans (Nat.le_of_ble_eq_true rfl) hn) h5 ha3 hf) rfl (fun e3 => ?_)
  refine y_Sv 67 (M := mX20_plain) (As := [(2, a1 + 1), (0, w a1 1), (2, a2 + 1), (0, w a2 1), (2, a3 + 1)]) (st := []) dX20_multiply_20 q2781 q2782 q387 q2783 hmX20_plain rfl rfl rfl rfl rfl rfl rfl (k_mono h (fun r4 w5 h => ?_))
  refine x_aload_n 3 dX20_multiply_23 rfl rfl rfl rfl rfl ?_
  refine x_aload_n 1 dX20_multiply_24 rfl rfl rfl rfl rfl ?_
  refine y_get 46 2 (c := 5) (z := w5 a1 2) dX20_multiply_25 ha1 rfl in_X6 q636 rfl rfl rfl rfl rfl ?_
  refine x_aload_n 2 dX20_multiply_28 rfl rfl rfl rfl rfl ?_
  refine y_get 46 2 (c := 5) (z := w5 a2 2) dX20_multiply_29 ha2 rfl in_X6 q636 rfl rfl rfl rfl rfl ?_
  refine x_icmp_eq (t := 39) 7 dX20_multiply_32 rfl rfl (b_ite h (fun hc h => ?_) (fun hc h => ?_))
  · refine x_iconst 0 (z := 0) dX20_multiply_39 rfl (by decide) rfl ?_
    refine x_put 46 2 (c := 5) dX20_multiply_40 ha3 rfl in_X6 tyX6_ok nmX6 q636 rfl rfl rfl (Or.inl rfl) (Or.inr (Or.inl ⟨rfl, rfl, by decide⟩)) rfl ?_
    refine x_aload_n 3 dX20_multiply_43 rfl rfl rfl rfl rfl ?_
    refine x_aload_n 1 dX20_multiply_44 rfl rfl rfl rfl rfl ?_
    refine y_get 25 1 (c := 5) (z := (b_up w5 a3 2 0) a1 1) dX20_multiply_45 ha1 rfl in_X6 q632 rfl rfl rfl rfl rfl ?_
    refine x_aload_n 2 dX20_multiply_48 rfl rfl rfl rfl rfl ?_
    refine y_get 25 1 (c := 5) (z := (b_up w5 a3 2 0) a2 1) dX20_multiply_49 ha2 rfl in_X6 q632 rfl rfl rfl rfl rfl ?_
    refine x_iadd dX20_multiply_52 rfl ?_
    refine y_Vv 43 (M := mX6_trim) (As := [(0, b_i (((b_up w5 a3 2 0) a1 1) + ((b_up w5 a3 2 0) a2 1)))]) (st := []) dX20_multiply_53 ha3 rfl q2738 q2110 q2111 q373 q2112 rfl hmX6_trim rfl rfl rfl rfl rfl rfl rfl (k_mono h (fun r6 w7 h => ?_))
    exact y_vret dX20_multiply_56 rfl h
  · refine x_iconst 1 (z := 1) dX20_multiply_35 rfl (by decide) rfl ?_
    refine x_goto 4 (q := 40) dX20_multiply_36 rfl ?_
    refine x_put 46 2 (c := 5) dX20_multiply_40 ha3 rfl in_X6 tyX6_ok nmX6 q636 rfl rfl rfl (Or.inl rfl) (Or.inr (Or.inl ⟨rfl, rfl, by decide⟩)) rfl ?_
    refine x_aload_n 3 dX20_multiply_43 rfl rfl rfl rfl rfl ?_
    refine x_aload_n 1 dX20_multiply_44 rfl rfl rfl rfl rfl ?_
    refine y_get 25 1 (c := 5) (z := (b_up w5 a3 2 1) a1 1) dX20_multiply_45 ha1 rfl in_X6 q632 rfl rfl rfl rfl rfl ?_
    refine x_aload_n 2 dX20_multiply_48 rfl rfl rfl rfl rfl ?_
    refine y_get 25 1 (c := 5) (z := (b_up w5 a3 2 1) a2 1) dX20_multiply_49 ha2 rfl in_X6 q632 rfl rfl rfl rfl rfl ?_
    refine x_iadd dX20_multiply_52 rfl ?_
    refine y_Vv 43 (M := mX6_trim) (As := [(0, b_i (((b_up w5 a3 2 1) a1 1) + ((b_up w5 a3 2 1) a2 1)))]) (st := []) dX20_multiply_53 ha3 rfl q2738 q2110 q2111 q373 q2112 rfl hmX6_trim rfl rfl rfl rfl rfl rfl rfl (k_mono h (fun r8 w9 h => ?_))
    exact y_vret dX20_multiply_56 rfl h
abbrev LX20_plain_3 (d n : Nat) (Q : Int → bW → Prop) (X : String → bW → Prop) (a0 : Int) (a1 : Int) (a2 : Int) (a3 : Int) (a4 : Int) (a5 : Int) (w : bW) : Prop := b_Y (d + 1) mX20_plain n Q X 3 [(2, a0), (0, a1), (2, a2), (0, a3), (2, a4), (0, a5), (9, 0), (9, 0), (9, 0)] [] w
abbrev LX20_plain_26 (d n : Nat) (Q : Int → bW → Prop) (X : String → bW → Prop) (a0 : Int) (a1 : Int) (a2 : Int) (a3 : Int) (a4 : Int) (a5 : Int) (w : bW) : Prop := b_Y (d + 1) mX20_plain n Q X 26 [(2, a0), (0, a1), (2, a2), (0, a3), (2, a4), (0, a5), (9, 0), (9, 0), (9, 0)] [] w
abbrev LX20_plain_38 (d n : Nat) (Q : Int → bW → Prop) (X : String → bW → Prop) (a0 : Int) (a1 : Int) (a2 : Int) (a3 : Int) (a4 : Int) (a5 : Int) (a6 : Int) (a8 : Int) (w : bW) : Prop := b_Y (d + 1) mX20_plain n Q X 38 [(2, a0), (0, a1), (2, a2), (0, a3), (2, a4), (0, a5), (1, a6), (9, 0), (0, a8)] [] w
theorem rX20_plain {d n : Nat} {w : bW} {Q : Int → bW → Prop} {X : String → bW → Prop} (a0 : Int) (a1 : Int) (a2 : Int) (a3 : Int) (a4 : Int) (h : LX20_plain_3 d n Q X a0 a1 a2 a3 a4 0 w) : b_K (d + 1) mX20_plain [(2, a0), (0, a1), (2, a2), (0, a3), (2, a4)] n w Q X := by
  refine k_of (by decide) rfl rfl rfl (ls := [(2, a0), (0, a1), (2, a2), (0, a3), (2, a4), (9, 0), (9, 0), (9, 0), (9, 0)]) rfl ?_
  refine x_iconst 0 (z := 0) dX20_plain_0 rfl (by decide) rfl ?_
  refine x_istore 5 (ls' := [(2, a0), (0, a1), (2, a2), (0, a3), (2, a4), (0, 0), (9, 0), (9, 0), (9, 0)]) dX20_plain_1 rfl rfl rfl ?_
  exact x_fg (fgk (fgk (fgk (fgk (fgk (fgk (fgk (fgk (fgk (fg0)))))))))) h
theorem sX20_plain_3 {d n : Nat} {w : bW} {Q : Int → bW → Prop} {X : String → bW → Prop} (a0 : Int) (a1 : Int) (a2 : Int) (a3 : Int) (a4 : Int) (a5 : Int) (h : if b_i (a1 + a3) ≤ a5 then (LX20_plain_26 d n Q X a0 a1 a2 a3 a4 0 w) else (b_ai n a4 1 0 a5 ∧ (LX20_plain_3 d n Q X a0 a1 a2 a3 a4 (b_i (a5 + 1)) (b_up w a4 a5 0)))) : LX20_plain_3 d n Q X a0 a1 a2 a3 a4 a5 w := by
  refine x_iload 5 dX20_plain_3 rfl rfl ?_
  refine x_iload_n 1 dX20_plain_5 rfl rfl rfl ?_
  refine x_iload_n 3 dX20_plain_6 rfl rfl rfl ?_
  refine x_iadd dX20_plain_7 rfl ?_
  refine x_icmp_ge (t := 23) 15 dX20_plain_8 rfl rfl (b_ite h (fun hc h => ?_) (fun hc h => ?_))
  · refine x_iconst 0 (z := 0) dX20_plain_23 rfl (by decide) rfl ?_
    refine x_istore 5 (ls' := [(2, a0), (0, a1), (2, a2), (0, a3), (2, a4), (0, 0), (9, 0), (9, 0), (9, 0)]) dX20_plain_24 rfl rfl rfl ?_
    exact x_fg (fgk (fgk (fgk (fgk (fgk (fgk (fgk (fgk (fgk (fg0)))))))))) h
  · refine x_aload 4 dX20_plain_11 rfl rfl rfl rfl ?_
    refine x_iload 5 dX20_plain_13 rfl rfl ?_
    refine x_iconst 0 (z := 0) dX20_plain_15 rfl (by decide) rfl ?_
    obtain ⟨e1, h⟩ := h
    refine y_iast (x' := 0) dX20_plain_16 e1 rfl rfl ?_
    refine x_iinc 5 1 (ls' := [(2, a0), (0, a1), (2, a2), (0, a3), (2, a4), (0, b_i (a5 + 1)), (9, 0), (9, 0), (9, 0)]) dX20_plain_17 rfl rfl rfl rfl ?_
    refine x_goto (-17) (q := 3) dX20_plain_20 rfl ?_
    exact x_fg (fgk (fgk (fgk (fgk (fgk (fgk (fgk (fgk (fgk (fg0)))))))))) h
theorem sX20_plain_26 {d n : Nat} {w : bW} {Q : Int → bW → Prop} {X : String → bW → Prop} (a0 : Int) (a1 : Int) (a2 : Int) (a3 : Int) (a4 : Int) (a5 : Int) (h : if a1 ≤ a5 then (Q 0 w) else (LX20_plain_38 d n Q X a0 a1 a2 a3 a4 a5 0 0 w)) : LX20_plain_26 d n Q X a0 a1 a2 a3 a4 a5 w := by
  refine x_iload 5 dX20_plain_26 rfl rfl ?_
  refine x_iload_n 1 dX20_plain_28 rfl rfl rfl ?_
  refine x_icmp_ge (t := 114) 85 dX20_plain_29 rfl rfl (b_ite h (fun hc h => ?_) (fun hc h => ?_))
  · exact y_vret dX20_plain_114 rfl h
  · refine x_lconst 0 (z := 0) dX20_plain_32 rfl (by decide) rfl ?_
    refine x_lstore 6 (ls' := [(2, a0), (0, a1), (2, a2), (0, a3), (2, a4), (0, a5), (1, 0), (9, 0), (9, 0)]) dX20_plain_33 rfl rfl rfl ?_
    refine x_iconst 0 (z := 0) dX20_plain_35 rfl (by decide) rfl ?_
    refine x_istore 8 (ls' := [(2, a0), (0, a1), (2, a2), (0, a3), (2, a4), (0, a5), (1, 0), (9, 0), (0, 0)]) dX20_plain_36 rfl rfl rfl ?_
    exact x_fg (fgk (fgk (fgk (fgk (fgk (fgk (fgk (fgk (fgk (fg0)))))))))) h
theorem sX20_plain_38 {d n : Nat} {w : bW} {Q : Int → bW → Prop} {X : String → bW → Prop} (a0 : Int) (a1 : Int) (a2 : Int) (a3 : Int) (a4 : Int) (a5 : Int) (a6 : Int) (a8 : Int) (h : if a3 ≤ a8 then (b_ai n a4 1 0 (b_i (a5 + a3)) ∧ (LX20_plain_26 d n Q X a0 a1 a2 a3 a4 (b_i (a5 + 1)) (b_up w a4 (b_i (a5 + a3)) (b_i a6)))) else (b_ai n a0 1 0 a5 ∧ (b_ai n a2 1 0 a8 ∧ (b_ai n a4 1 0 (b_i (a5 + a8)) ∧ (LX20_plain_38 d n Q X a0 a1 a2 a3 a4 a5 (b_lshr (b_l (a6 + (b_l ((b_l ((w a0 a5) * (w a2 a8))) + (w a4 (b_i (a5 + a8))))))) 16) (b_i (a8 + 1)) (b_up w a4 (b_i (a5 + a8)) (b_i (b_land (b_l (a6 + (b_l ((b_l ((w a0 a5) * (w a2 a8))) + (w a4 (b_i (a5 + a8))))))) 65535)))))))) : LX20_plain_38 d n Q X a0 a1 a2 a3 a4 a5 a6 a8 w := by
  refine x_iload 8 dX20_plain_38 rfl rfl ?_
  refine x_iload_n 3 dX20_plain_40 rfl rfl rfl ?_
  refine x_icmp_ge (t := 98) 57 dX20_plain_41 rfl rfl (b_ite h (fun hc h => ?_) (fun hc h => ?_))
  · refine x_aload 4 dX20_plain_98 rfl rfl rfl rfl ?_
    refine x_iload 5 dX20_plain_100 rfl rfl ?_
    refine x_iload_n 3 dX20_plain_102 rfl rfl rfl ?_
    refine x_iadd dX20_plain_103 rfl ?_
    refine x_lload 6 dX20_plain_104 rfl rfl ?_
    refine x_l2i dX20_plain_106 rfl ?_
    obtain ⟨e1, h⟩ := h
    refine y_iast (x' := b_i a6) dX20_plain_107 e1 rfl rfl ?_
    refine x_iinc 5 1 (ls' := [(2, a0), (0, a1), (2, a2), (0, a3), (2, a4), (0, b_i (a5 + 1)), (1, a6), (9, 0), (0, a8)]) dX20_plain_108 rfl rfl rfl rfl ?_
    refine x_goto (-85) (q := 26) dX20_plain_111 rfl ?_
    exact x_fg (fgk (fgk (fgk (fgk (fgk (fgk (fgd (fgk (fgd (fg0)))))))))) h
  · refine x_lload 6 dX20_plain_44 rfl rfl ?_
    refine x_aload_n 0 dX20_plain_46 rfl rfl rfl rfl rfl ?_
    refine x_iload 5 dX20_plain_47 rfl rfl ?_
    obtain ⟨e2, h⟩ := h
    refine y_iald (z := w a0 a5) dX20_plain_49 e2 rfl rfl ?_
    refine x_i2l dX20_plain_50 rfl ?_
    refine x_aload_n 2 dX20_plain_51 rfl rfl rfl rfl rfl ?_
    refine x_iload 8 dX20_plain_52 rfl rfl ?_
    obtain ⟨e3, h⟩ := h
    refine y_iald (z := w a2 a8) dX20_plain_54 e3 rfl rfl ?_
    refine x_i2l dX20_plain_55 rfl ?_
    refine x_lmul dX20_plain_56 rfl ?_
    refine x_aload 4 dX20_plain_57 rfl rfl rfl rfl ?_
    refine x_iload 5 dX20_plain_59 rfl rfl ?_
    refine x_iload 8 dX20_plain_61 rfl rfl ?_
    refine x_iadd dX20_plain_63 rfl ?_
    obtain ⟨e4, h⟩ := h
    refine y_iald (z := w a4 (b_i (a5 + a8))) dX20_plain_64 e4 rfl rfl ?_
    refine x_i2l dX20_plain_65 rfl ?_
    refine x_ladd dX20_plain_66 rfl ?_
    refine x_ladd dX20_plain_67 rfl ?_
    refine x_lstore 6 (ls' := [(2, a0), (0, a1), (2, a2), (0, a3), (2, a4), (0, a5), (1, b_l (a6 + (b_l ((b_l ((w a0 a5) * (w a2 a8))) + (w a4 (b_i (a5 + a8))))))), (9, 0), (0, a8)]) dX20_plain_68 rfl rfl rfl ?_
    refine x_aload 4 dX20_plain_70 rfl rfl rfl rfl ?_
    refine x_iload 5 dX20_plain_72 rfl rfl ?_
    refine x_iload 8 dX20_plain_74 rfl rfl ?_
    refine x_iadd dX20_plain_76 rfl ?_
    refine x_lload 6 dX20_plain_77 rfl rfl ?_
    refine x_ldc2 65 (x := 65535) dX20_plain_79 q2784 rfl (by decide) rfl ?_
    refine x_land dX20_plain_82 rfl ?_
    refine x_l2i dX20_plain_83 rfl ?_
    refine y_iast (x' := b_i (b_land (b_l (a6 + (b_l ((b_l ((w a0 a5) * (w a2 a8))) + (w a4 (b_i (a5 + a8))))))) 65535)) dX20_plain_84 e4 rfl rfl ?_
    refine x_lload 6 dX20_plain_85 rfl rfl ?_
    refine x_bipush 16 (z := 16) dX20_plain_87 rfl (by decide) rfl ?_
    refine x_lshr dX20_plain_89 rfl ?_
    refine x_lstore 6 (ls' := [(2, a0), (0, a1), (2, a2), (0, a3), (2, a4), (0, a5), (1, b_lshr (b_l (a6 + (b_l ((b_l ((w a0 a5) * (w a2 a8))) + (w a4 (b_i (a5 + a8))))))) 16), (9, 0), (0, a8)]) dX20_plain_90 rfl rfl rfl ?_
    refine x_iinc 8 1 (ls' := [(2, a0), (0, a1), (2, a2), (0, a3), (2, a4), (0, a5), (1, b_lshr (b_l (a6 + (b_l ((b_l ((w a0 a5) * (w a2 a8))) + (w a4 (b_i (a5 + a8))))))) 16), (9, 0), (0, b_i (a8 + 1))]) dX20_plain_92 rfl rfl rfl rfl ?_
    refine x_goto (-57) (q := 38) dX20_plain_95 rfl ?_
    exact x_fg (fgk (fgk (fgk (fgk (fgk (fgk (fgk (fgk (fgk (fg0)))))))))) h
abbrev LX20_divide_48 (d n : Nat) (Q : Int → bW → Prop) (X : String → bW → Prop) (a1 : Int) (a2 : Int) (a3 : Int) (a4 : Int) (a5 : Int) (a6 : Int) (s0 : Int) (s1 : Int) (w : bW) : Prop := b_Y (d + 1) mX20_divide n Q X 48 [(2, 84), (2, a1), (2, a2), (0, a3), (2, a4), (2, a5), (0, a6)] [(0, s0), (2, s1)] w
theorem rX20_divide {d n : Nat} {w : bW} {Q : Int → bW → Prop} {X : String → bW → Prop} (hn : 143 ≤ n) (a1 : Int) (a2 : Int) (a3 : Int) (a4 : Int) (a5 : Int) (ha1 : b_is n a1 0 5 3) (ha2 : b_is n a2 0 5 3) (ha4 : b_is n a4 0 5 3) (ha5 : b_is n a5 0 5 3) (h : b_K d mX20_divideSizes [(2, 84), (2, a1), (2, a2), (2, a4), (2, a5)] n w (fun r1 w2 => if w2 a1 2 = w2 a2 2 then (LX20_divide_48 d n Q X a1 a2 a3 a4 a5 0 0 a4 w2) else (if w2 a4 1 ≤ 0 then (LX20_divide_48 d n Q X a1 a2 a3 a4 a5 1 0 a4 w2) else (LX20_divide_48 d n Q X a1 a2 a3 a4 a5 1 1 a4 w2))) X) : b_K (d + 1) mX20_divide [(2, 84), (2, a1), (2, a2), (0, a3), (2, a4), (2, a5)] n w Q X := by
  have i84 := iz84 (Nat.le_trans (Nat.le_of_ble_eq_true rfl) hn)
  refine k_of (by decide) rfl rfl rfl (ls := [(2, 84), (2, a1), (2, a2), (0, a3), (2, a4), (2, a5), (9, 0)]) rfl ?_
  refine x_aload_n 0 dX20_divide_0 rfl rfl rfl rfl rfl ?_
  refine x_aload_n 1 dX20_divide_1 rfl rfl rfl rfl rfl ?_
  refine x_aload_n 2 dX20_divide_2 rfl rfl rfl rfl rfl ?_
  refine x_aload 4 dX20_divide_3 rfl rfl rfl rfl ?_
  refine x_aload 5 dX20_divide_5 rfl rfl rfl rfl ?_
  refine y_Vv 104 (M := mX20_divideSizes) (As := [(2, a1), (2, a2), (2, a4), (2, a5)]) (st := []) dX20_divide_7 i84 rfl q2793 q2795 qs144 q387 q2796 rfl hmX20_divideSizes rfl rfl rfl rfl rfl rfl rfl (k_mono h (fun r1 w2 h => ?_))
  refine x_aload_n 1 dX20_divide_10 rfl rfl rfl rfl rfl ?_
  refine y_get 46 2 (c := 5) (z := w2 a1 2) dX20_divide_11 ha1 rfl in_X6 q636 rfl rfl rfl rfl rfl ?_
  refine x_aload_n 2 dX20_divide_14 rfl rfl rfl rfl rfl ?_
  refine y_get 46 2 (c := 5) (z := w2 a2 2) dX20_divide_15 ha2 rfl in_X6 q636 rfl rfl rfl rfl rfl ?_
  refine x_icmp_eq (t := 25) 7 dX20_divide_18 rfl rfl (b_ite h (fun hc h => ?_) (fun hc h => ?_))
  · refine x_iconst 0 (z := 0) dX20_divide_25 rfl (by decide) rfl ?_
    refine x_istore 6 (ls' := [(2, 84), (2, a1), (2, a2), (0, a3), (2, a4), (2, a5), (0, 0)]) dX20_divide_26 rfl rfl rfl ?_
    refine x_aload 4 dX20_divide_28 rfl rfl rfl rfl ?_
    refine x_iload 6 dX20_divide_30 rfl rfl ?_
    refine x_if_eq (t := 47) 15 dX20_divide_32 rfl rfl (b_ifT (by decide) ?_)
    refine x_iconst 0 (z := 0) dX20_divide_47 rfl (by decide) rfl ?_
    exact x_fg (fgk (fgk (fgk (fgk (fgk (fgk (fgk (fg0)))))))) h
  · refine x_iconst 1 (z := 1) dX20_divide_21 rfl (by decide) rfl ?_
    refine x_goto 4 (q := 26) dX20_divide_22 rfl ?_
    refine x_istore 6 (ls' := [(2, 84), (2, a1), (2, a2), (0, a3), (2, a4), (2, a5), (0, 1)]) dX20_divide_26 rfl rfl rfl ?_
    refine x_aload 4 dX20_divide_28 rfl rfl rfl rfl ?_
    refine x_iload 6 dX20_divide_30 rfl rfl ?_
    refine x_if_eq (t := 47) 15 dX20_divide_32 rfl rfl (b_ifF (by decide) ?_)
    refine x_aload 4 dX20_divide_35 rfl rfl rfl rfl ?_
    refine y_get 25 1 (c := 5) (z := w2 a4 1) dX20_divide_37 ha4 rfl in_X6 q632 rfl rfl rfl rfl rfl ?_
    refine x_if_le (t := 47) 7 dX20_divide_40 rfl rfl (b_ite h (fun hc h => ?_) (fun hc h => ?_))
    · refine x_iconst 0 (z := 0) dX20_divide_47 rfl (by decide) rfl ?_
      exact x_fg (fgk (fgk (fgk (fgk (fgk (fgk (fgk (fg0)))))))) h
    · refine x_iconst 1 (z := 1) dX20_divide_43 rfl (by decide) rfl ?_
      refine x_goto 4 (q := 48) dX20_divide_44 rfl ?_
      exact x_fg (fgk (fgk (fgk (fgk (fgk (fgk (fgk (fg0)))))))) h
theorem sX20_divide_48 {d n : Nat} {w : bW} {Q : Int → bW → Prop} {X : String → bW → Prop} (hn : 143 ≤ n) (a1 : Int) (a2 : Int) (a3 : Int) (a4 : Int) (a5 : Int) (a6 : Int) (s0 : Int) (s1 : Int) (ha1 : b_is n a1 0 5 3) (ha2 : b_is n a2 0 5 3) (ha4 : b_is n a4 0 5 3) (ha5 : b_is n a5 0 5 3) (h : b_is n s1 0 5 3 ∧ ((s0 = 0 ∨ s0 = 1) ∧ (if (b_up w s1 2 s0) a1 2 = 0 then (if a3 = 0 then (Q 0 (b_up (b_up w s1 2 s0) a5 2 0)) else (if a6 = 0 then (Q 0 (b_up (b_up w s1 2 s0) a5 2 0)) else (b_K d mX6_isZero [(2, a5)] n (b_up (b_up w s1 2 s0) a5 2 0) (fun r3 w4 => if r3 ≠ 0 then (Q 0 w4) else (b_K d mX6_set [(2, 87), (1, 1)] n w4 (fun r5 w6 => b_K d mX20_add [(2, 84), (2, a4), (2, 87), (0, 1), (2, a4)] n w6 (fun r7 w8 => b_K d mX20_add [(2, 84), (2, a5), (2, a2), (0, 0), (2, a5)] n w8 (fun r9 w10 => Q 0 w10) X) X) X)) X))) else (if (b_up w s1 2 s0) a5 1 ≤ 0 then (if a3 = 0 then (Q 0 (b_up (b_up w s1 2 s0) a5 2 0)) else (if a6 = 0 then (Q 0 (b_up (b_up w s1 2 s0) a5 2 0)) else (b_K d mX6_isZero [(2, a5)] n (b_up (b_up w s1 2 s0) a5 2 0) (fun r11 w12 => if r11 ≠ 0 then (Q 0 w12) else (b_K d mX6_set [(2, 87), (1, 1)] n w12 (fun r13 w14 => b_K d mX20_add [(2, 84), (2, a4), (2, 87), (0, 1), (2, a4)] n w14 (fun r15 w16 => b_K d mX20_add [(2, 84), (2, a5), (2, a2), (0, 0), (2, a5)] n w16 (fun r17 w18 => Q 0 w18) X) X) X)) X))) else (if a3 = 0 then (Q 0 (b_up (b_up w s1 2 s0) a5 2 1)) else (if a6 = 0 then (Q 0 (b_up (b_up w s1 2 s0) a5 2 1)) else (b_K d mX6_isZero [(2, a5)] n (b_up (b_up w s1 2 s0) a5 2 1) (fun r19 w20 => if r19 ≠ 0 then (Q 0 w20) else (b_K d mX6_set [(2, 87), (1, 1)] n w20 (fun r21 w22 => b_K d mX20_add [(2, 84), (2, a4), (2, 87), (0, 1), (2, a4)] n w22 (fun r23 w24 => b_K d mX20_add [(2, 84), (2, a5), (2, a2), (0, 0), (2, a5)] n w24 (fun r25 w26 => Q 0 w26) X) X) X)) X))))))) : LX20_divide_48 d n Q X a1 a2 a3 a4 a5 a6 s0 s1 w := by
  have i84 := iz84 (Nat.le_trans (Nat.le_of_ble_eq_true rfl) hn)
  have i87 := iz87 (Nat.le_trans (Nat.le_of_ble_eq_true rfl) hn)
  obtain ⟨e1, h⟩ := h
  obtain ⟨e2, h⟩ := h
  refine x_put 46 2 (c := 5) dX20_divide_48 e1 rfl in_X6 tyX6_ok nmX6 q636 rfl rfl rfl (Or.inl rfl) (Or.inr (Or.inl ⟨rfl, rfl, e2⟩)) rfl ?_
  refine x_aload 5 dX20_divide_51 rfl rfl rfl rfl ?_
  refine x_aload_n 1 dX20_divide_53 rfl rfl rfl rfl rfl ?_
  refine y_get 46 2 (c := 5) (z := (b_up w s1 2 s0) a1 2) dX20_divide_54 ha1 rfl in_X6 q636 rfl rfl rfl rfl rfl ?_
  refine x_if_eq (t := 72) 15 dX20_divide_57 rfl rfl (b_ite h (fun hc h => ?_) (fun hc h => ?_))
  · refine x_iconst 0 (z := 0) dX20_divide_72 rfl (by decide) rfl ?_
    refine x_put 46 2 (c := 5) dX20_divide_73 ha5 rfl in_X6 tyX6_ok nmX6 q636 rfl rfl rfl (Or.inl rfl) (Or.inr (Or.inl ⟨rfl, rfl, by decide⟩)) rfl ?_
    refine x_iload_n 3 dX20_divide_76 rfl rfl rfl ?_
    refine x_if_eq (t := 124) 47 dX20_divide_77 rfl rfl (b_ite h (fun hc h => ?_) (fun hc h => ?_))
    · exact y_vret dX20_divide_124 rfl h
    · refine x_iload 6 dX20_divide_80 rfl rfl ?_
      refine x_if_eq (t := 124) 42 dX20_divide_82 rfl rfl (b_ite h (fun hc h => ?_) (fun hc h => ?_))
      · exact y_vret dX20_divide_124 rfl h
      · refine x_aload 5 dX20_divide_85 rfl rfl rfl rfl ?_
        refine y_Vi 50 (M := mX6_isZero) (As := []) (st := []) dX20_divide_87 ha5 rfl q2730 q1764 q1765 q373 q1766 rfl hmX6_isZero rfl rfl rfl rfl rfl rfl rfl rfl (k_mono h (fun r3 w4 h => ?_))
        refine x_if_ne (t := 124) 34 dX20_divide_90 rfl rfl (b_ite h (fun hc h => ?_) (fun hc h => ?_))
        · exact y_vret dX20_divide_124 rfl h
        · refine x_aload_n 0 dX20_divide_93 rfl rfl rfl rfl rfl ?_
          refine y_getF 21 2 (c := 19) (z := 87) dX20_divide_94 i84 rfl in_X20 q1281 rfl rfl rfl fn_84_2 (Nat.le_trans (Nat.le_of_ble_eq_true rfl) hn) rfl ?_
          refine x_lconst 1 (z := 1) dX20_divide_97 rfl (by decide) rfl ?_
          refine y_Vv 82 (M := mX6_set) (As := [(1, 1)]) (st := []) dX20_divide_98 i87 rfl q2806 q1743 q1744 q373 q1745 rfl hmX6_set rfl rfl rfl rfl rfl rfl rfl (k_mono h (fun r5 w6 h => ?_))
          refine x_aload_n 0 dX20_divide_101 rfl rfl rfl rfl rfl ?_
          refine x_aload 4 dX20_divide_102 rfl rfl rfl rfl ?_
          refine x_aload_n 0 dX20_divide_104 rfl rfl rfl rfl rfl ?_
          refine y_getF 21 2 (c := 19) (z := 87) dX20_divide_105 i84 rfl in_X20 q1281 rfl rfl rfl fn_84_2 (Nat.le_trans (Nat.le_of_ble_eq_true rfl) hn) rfl ?_
          refine x_iconst 1 (z := 1) dX20_divide_108 rfl (by decide) rfl ?_
          refine x_aload 4 dX20_divide_109 rfl rfl rfl rfl ?_
          refine y_Vv 108 (M := mX20_add) (As := [(2, a4), (2, 87), (0, 1), (2, a4)]) (st := []) dX20_divide_111 i84 rfl q2819 q2727 q2728 q387 q2729 rfl hmX20_add rfl rfl rfl rfl rfl rfl rfl (k_mono h (fun r7 w8 h => ?_))
          refine x_aload_n 0 dX20_divide_114 rfl rfl rfl rfl rfl ?_
          refine x_aload 5 dX20_divide_115 rfl rfl rfl rfl ?_
          refine x_aload_n 2 dX20_divide_117 rfl rfl rfl rfl rfl ?_
          refine x_iconst 0 (z := 0) dX20_divide_118 rfl (by decide) rfl ?_
          refine x_aload 5 dX20_divide_119 rfl rfl rfl rfl ?_
          refine y_Vv 108 (M := mX20_add) (As := [(2, a5), (2, a2), (0, 0), (2, a5)]) (st := []) dX20_divide_121 i84 rfl q2819 q2727 q2728 q387 q2729 rfl hmX20_add rfl rfl rfl rfl rfl rfl rfl (k_mono h (fun r9 w10 h => ?_))
          exact y_vret dX20_divide_124 rfl h
  · refine x_aload 5 dX20_divide_60 rfl rfl rfl rfl ?_
    refine y_get 25 1 (c := 5) (z := (b_up w s1 2 s0) a5 1) dX20_divide_62 ha5 rfl in_X6 q632 rfl rfl rfl rfl rfl ?_
    refine x_if_le (t := 72) 7 dX20_divide_65 rfl rfl (b_ite h (fun hc h => ?_) (fun hc h => ?_))
    · refine x_iconst 0 (z := 0) dX20_divide_72 rfl (by decide) rfl ?_
      refine x_put 46 2 (c := 5) dX20_divide_73 ha5 rfl in_X6 tyX6_ok nmX6 q636 rfl rfl rfl (Or.inl rfl) (Or.inr (Or.inl ⟨rfl, rfl, by decide⟩)) rfl ?_
      refine x_iload_n 3 dX20_divide_76 rfl rfl rfl ?_
      refine x_if_eq (t := 124) 47 dX20_divide_77 rfl rfl (b_ite h (fun hc h => ?_) (fun hc h => ?_))
      · exact y_vret dX20_divide_124 rfl h
      · refine x_iload 6 dX20_divide_80 rfl rfl ?_
        refine x_if_eq (t := 124) 42 dX20_divide_82 rfl rfl (b_ite h (fun hc h => ?_) (fun hc h => ?_))
        · exact y_vret dX20_divide_124 rfl h
        · refine x_aload 5 dX20_divide_85 rfl rfl rfl rfl ?_
          refine y_Vi 50 (M := mX6_isZero) (As := []) (st := []) dX20_divide_87 ha5 rfl q2730 q1764 q1765 q373 q1766 rfl hmX6_isZero rfl rfl rfl rfl rfl rfl rfl rfl (k_mono h (fun r11 w12 h => ?_))
          refine x_if_ne (t := 124) 34 dX20_divide_90 rfl rfl (b_ite h (fun hc h => ?_) (fun hc h => ?_))
          · exact y_vret dX20_divide_124 rfl h
          · refine x_aload_n 0 dX20_divide_93 rfl rfl rfl rfl rfl ?_
            refine y_getF 21 2 (c := 19) (z := 87) dX20_divide_94 i84 rfl in_X20 q1281 rfl rfl rfl fn_84_2 (Nat.le_trans (Nat.le_of_ble_eq_true rfl) hn) rfl ?_
            refine x_lconst 1 (z := 1) dX20_divide_97 rfl (by decide) rfl ?_
            refine y_Vv 82 (M := mX6_set) (As := [(1, 1)]) (st := []) dX20_divide_98 i87 rfl q2806 q1743 q1744 q373 q1745 rfl hmX6_set rfl rfl rfl rfl rfl rfl rfl (k_mono h (fun r13 w14 h => ?_))
            refine x_aload_n 0 dX20_divide_101 rfl rfl rfl rfl rfl ?_
            refine x_aload 4 dX20_divide_102 rfl rfl rfl rfl ?_
            refine x_aload_n 0 dX20_divide_104 rfl rfl rfl rfl rfl ?_
            refine y_getF 21 2 (c := 19) (z := 87) dX20_divide_105 i84 rfl in_X20 q1281 rfl rfl rfl fn_84_2 (Nat.le_trans (Nat.le_of_ble_eq_true rfl) hn) rfl ?_
            refine x_iconst 1 (z := 1) dX20_divide_108 rfl (by decide) rfl ?_
            refine x_aload 4 dX20_divide_109 rfl rfl rfl rfl ?_
            refine y_Vv 108 (M := mX20_add) (As := [(2, a4), (2, 87), (0, 1), (2, a4)]) (st := []) dX20_divide_111 i84 rfl q2819 q2727 q2728 q387 q2729 rfl hmX20_add rfl rfl rfl rfl rfl rfl rfl (k_mono h (fun r15 w16 h => ?_))
            refine x_aload_n 0 dX20_divide_114 rfl rfl rfl rfl rfl ?_
            refine x_aload 5 dX20_divide_115 rfl rfl rfl rfl ?_
            refine x_aload_n 2 dX20_divide_117 rfl rfl rfl rfl rfl ?_
            refine x_iconst 0 (z := 0) dX20_divide_118 rfl (by decide) rfl ?_
            refine x_aload 5 dX20_divide_119 rfl rfl rfl rfl ?_
            refine y_Vv 108 (M := mX20_add) (As := [(2, a5), (2, a2), (0, 0), (2, a5)]) (st := []) dX20_divide_121 i84 rfl q2819 q2727 q2728 q387 q2729 rfl hmX20_add rfl rfl rfl rfl rfl rfl rfl (k_mono h (fun r17 w18 h => ?_))
            exact y_vret dX20_divide_124 rfl h
    · refine x_iconst 1 (z := 1) dX20_divide_68 rfl (by decide) rfl ?_
      refine x_goto 4 (q := 73) dX20_divide_69 rfl ?_
      refine x_put 46 2 (c := 5) dX20_divide_73 ha5 rfl in_X6 tyX6_ok nmX6 q636 rfl rfl rfl (Or.inl rfl) (Or.inr (Or.inl ⟨rfl, rfl, by decide⟩)) rfl ?_
      refine x_iload_n 3 dX20_divide_76 rfl rfl rfl ?_
      refine x_if_eq (t := 124) 47 dX20_divide_77 rfl rfl (b_ite h (fun hc h => ?_) (fun hc h => ?_))
      · exact y_vret dX20_divide_124 rfl h
      · refine x_iload 6 dX20_divide_80 rfl rfl ?_
        refine x_if_eq (t := 124) 42 dX20_divide_82 rfl rfl (b_ite h (fun hc h => ?_) (fun hc h => ?_))
        · exact y_vret dX20_divide_124 rfl h
        · refine x_aload 5 dX20_divide_85 rfl rfl rfl rfl ?_
          refine y_Vi 50 (M := mX6_isZero) (As := []) (st := []) dX20_divide_87 ha5 rfl q2730 q1764 q1765 q373 q1766 rfl hmX6_isZero rfl rfl rfl rfl rfl rfl rfl rfl (k_mono h (fun r19 w20 h => ?_))
          refine x_if_ne (t := 124) 34 dX20_divide_90 rfl rfl (b_ite h (fun hc h => ?_) (fun hc h => ?_))
          · exact y_vret dX20_divide_124 rfl h
          · refine x_aload_n 0 dX20_divide_93 rfl rfl rfl rfl rfl ?_
            refine y_getF 21 2 (c := 19) (z := 87) dX20_divide_94 i84 rfl in_X20 q1281 rfl rfl rfl fn_84_2 (Nat.le_trans (Nat.le_of_ble_eq_true rfl) hn) rfl ?_
            refine x_lconst 1 (z := 1) dX20_divide_97 rfl (by decide) rfl ?_
            refine y_Vv 82 (M := mX6_set) (As := [(1, 1)]) (st := []) dX20_divide_98 i87 rfl q2806 q1743 q1744 q373 q1745 rfl hmX6_set rfl rfl rfl rfl rfl rfl rfl (k_mono h (fun r21 w22 h => ?_))
            refine x_aload_n 0 dX20_divide_101 rfl rfl rfl rfl rfl ?_
            refine x_aload 4 dX20_divide_102 rfl rfl rfl rfl ?_
            refine x_aload_n 0 dX20_divide_104 rfl rfl rfl rfl rfl ?_
            refine y_getF 21 2 (c := 19) (z := 87) dX20_divide_105 i84 rfl in_X20 q1281 rfl rfl rfl fn_84_2 (Nat.le_trans (Nat.le_of_ble_eq_true rfl) hn) rfl ?_
            refine x_iconst 1 (z := 1) dX20_divide_108 rfl (by decide) rfl ?_
            refine x_aload 4 dX20_divide_109 rfl rfl rfl rfl ?_
            refine y_Vv 108 (M := mX20_add) (As := [(2, a4), (2, 87), (0, 1), (2, a4)]) (st := []) dX20_divide_111 i84 rfl q2819 q2727 q2728 q387 q2729 rfl hmX20_add rfl rfl rfl rfl rfl rfl rfl (k_mono h (fun r23 w24 h => ?_))
            refine x_aload_n 0 dX20_divide_114 rfl rfl rfl rfl rfl ?_
            refine x_aload 5 dX20_divide_115 rfl rfl rfl rfl ?_
            refine x_aload_n 2 dX20_divide_117 rfl rfl rfl rfl rfl ?_
            refine x_iconst 0 (z := 0) dX20_divide_118 rfl (by decide) rfl ?_
            refine x_aload 5 dX20_divide_119 rfl rfl rfl rfl ?_
            refine y_Vv 108 (M := mX20_add) (As := [(2, a5), (2, a2), (0, 0), (2, a5)]) (st := []) dX20_divide_121 i84 rfl q2819 q2727 q2728 q387 q2729 rfl hmX20_add rfl rfl rfl rfl rfl rfl rfl (k_mono h (fun r25 w26 h => ?_))
            exact y_vret dX20_divide_124 rfl h
abbrev LX20_divideSizes_126 (d n : Nat) (Q : Int → bW → Prop) (X : String → bW → Prop) (a3 : Int) (a4 : Int) (a5 : Int) (a6 : Int) (a7 : Int) (a8 : Int) (w : bW) : Prop := b_Y (d + 1) mX20_divideSizes n Q X 126 [(2, 84), (9, 0), (9, 0), (2, a3), (2, a4), (0, a5), (0, a6), (0, a7), (0, a8)] [] w
abbrev LX20_divideSizes_166 (d n : Nat) (Q : Int → bW → Prop) (X : String → bW → Prop) (a4 : Int) (a5 : Int) (a6 : Int) (a8 : Int) (w : bW) : Prop := b_Y (d + 1) mX20_divideSizes n Q X 166 [(2, 84), (9, 0), (9, 0), (9, 0), (2, a4), (0, a5), (0, a6), (9, 0), (0, a8)] [] w
theorem rX20_divideSizes {d n : Nat} {w : bW} {Q : Int → bW → Prop} {X : String → bW → Prop} (hn : 143 ≤ n) (a1 : Int) (a2 : Int) (a3 : Int) (a4 : Int) (ha1 : b_is n a1 0 5 3) (ha2 : b_is n a2 0 5 3) (ha3 : b_is n a3 0 5 3) (ha4 : b_is n a4 0 5 3) (h : b_K d mX6_compareSize [(2, a1), (2, a2)] n w (fun r1 w2 => if 0 ≤ r1 then (if (b_up (b_up w2 a3 2 0) a4 2 0) a2 1 ≠ 1 then ((0 ≤ b_i (((b_up (b_up w2 a3 2 0) a4 2 0) a2 1) - 1) ∧ b_i (((b_up (b_up w2 a3 2 0) a4 2 0) a2 1) - 1) < 200) ∧ (b_K d mJ11_numberOfLeadingZeros [(0, (b_up (b_up w2 a3 2 0) a4 2 0) (a2 + 1) (b_i (((b_up (b_up w2 a3 2 0) a4 2 0) a2 1) - 1)))] n (b_up (b_up w2 a3 2 0) a4 2 0) (fun r5 w6 => b_K d mX20_shiftRow [(2, a1), (0, b_i (r5 - 16)), (2, 85), (0, b_i ((w6 a1 1) + 1))] n w6 (fun r7 w8 => b_K d mX20_shiftRow [(2, a2), (0, b_i (r5 - 16)), (2, 86), (0, (b_up (b_up w2 a3 2 0) a4 2 0) a2 1)] n w8 (fun r9 w10 => LX20_divideSizes_126 d n Q X a3 a4 ((b_up (b_up w2 a3 2 0) a4 2 0) a2 1) (b_i (r5 - 16)) (w6 a1 1) (b_i ((w6 a1 1) - ((b_up (b_up w2 a3 2 0) a4 2 0) a2 1))) w10) X) X) X)) else (b_K d mX20_divideBy [(2, a1), (0, (b_up (b_up w2 a3 2 0) a4 2 0) (a2 + 1) 0), (2, a3)] n (b_up (b_up w2 a3 2 0) a4 2 0) (fun r12 w13 => b_K d mX6_set [(2, a4), (1, r12)] n w13 (fun r14 w15 => Q 0 w15) X) X)) else (b_K d mX6_copy [(2, a4), (2, a1)] n w2 (fun r16 w17 => b_K d mX6_clear [(2, a3)] n (b_up w17 a4 2 0) (fun r18 w19 => Q 0 w19) X) X)) X) : b_K (d + 1) mX20_divideSizes [(2, 84), (2, a1), (2, a2), (2, a3), (2, a4)] n w Q X := by
  have i84 := iz84 (Nat.le_trans (Nat.le_of_ble_eq_true rfl) hn)
  refine k_of (by decide) rfl rfl rfl (ls := [(2, 84), (2, a1), (2, a2), (2, a3), (2, a4), (9, 0), (9, 0), (9, 0), (9, 0)]) rfl ?_
  refine x_aload_n 1 dX20_divideSizes_0 rfl rfl rfl rfl rfl ?_
  refine x_aload_n 2 dX20_divideSizes_1 rfl rfl rfl rfl rfl ?_
  refine y_Vi 54 (M := mX6_compareSize) (As := [(2, a2)]) (st := []) dX20_divideSizes_2 ha1 rfl q2731 q2118 q2119 q373 q2120 rfl hmX6_compareSize rfl rfl rfl rfl rfl rfl rfl rfl (k_mono h (fun r1 w2 h => ?_))
  refine x_if_ge (t := 25) 20 dX20_divideSizes_5 rfl rfl (b_ite h (fun hc h => ?_) (fun hc h => ?_))
  · refine x_aload_n 3 dX20_divideSizes_25 rfl rfl rfl rfl rfl ?_
    refine x_iconst 0 (z := 0) dX20_divideSizes_26 rfl (by decide) rfl ?_
    refine x_put 46 2 (c := 5) dX20_divideSizes_27 ha3 rfl in_X6 tyX6_ok nmX6 q636 rfl rfl rfl (Or.inl rfl) (Or.inr (Or.inl ⟨rfl, rfl, by decide⟩)) rfl ?_
    refine x_aload 4 dX20_divideSizes_30 rfl rfl rfl rfl ?_
    refine x_iconst 0 (z := 0) dX20_divideSizes_32 rfl (by decide) rfl ?_
    refine x_put 46 2 (c := 5) dX20_divideSizes_33 ha4 rfl in_X6 tyX6_ok nmX6 q636 rfl rfl rfl (Or.inl rfl) (Or.inr (Or.inl ⟨rfl, rfl, by decide⟩)) rfl ?_
    refine x_aload_n 2 dX20_divideSizes_36 rfl rfl rfl rfl rfl ?_
    refine y_get 25 1 (c := 5) (z := (b_up (b_up w2 a3 2 0) a4 2 0) a2 1) dX20_divideSizes_37 ha2 rfl in_X6 q632 rfl rfl rfl rfl rfl ?_
    refine x_istore 5 (ls' := [(2, 84), (2, a1), (2, a2), (2, a3), (2, a4), (0, (b_up (b_up w2 a3 2 0) a4 2 0) a2 1), (9, 0), (9, 0), (9, 0)]) dX20_divideSizes_40 rfl rfl rfl ?_
    refine x_iload 5 dX20_divideSizes_42 rfl rfl ?_
    refine x_iconst 1 (z := 1) dX20_divideSizes_44 rfl (by decide) rfl ?_
    refine x_icmp_ne (t := 70) 25 dX20_divideSizes_45 rfl rfl (b_ite h (fun hc h => ?_) (fun hc h => ?_))
    · refine x_aload_n 2 dX20_divideSizes_70 rfl rfl rfl rfl rfl ?_
      refine y_getO 39 0 (c := 5) dX20_divideSizes_71 ha2 rfl in_X6 q627 rfl rfl rfl (fun h5 hf => of_X6_0 (Nat.le_trans (Nat.le_of_ble_eq_true rfl) hn) h5 ha2 hf) rfl (fun e3 => ?_)
      refine x_iload 5 dX20_divideSizes_74 rfl rfl ?_
      refine x_iconst 1 (z := 1) dX20_divideSizes_76 rfl (by decide) rfl ?_
      refine x_isub dX20_divideSizes_77 rfl ?_
      obtain ⟨e4, h⟩ := h
      refine y_iald (z := (b_up (b_up w2 a3 2 0) a4 2 0) (a2 + 1) (b_i (((b_up (b_up w2 a3 2 0) a4 2 0) a2 1) - 1))) dX20_divideSizes_78 ⟨200, e3, e4⟩ rfl rfl ?_
      refine y_Si 86 (M := mJ11_numberOfLeadingZeros) (As := [(0, (b_up (b_up w2 a3 2 0) a4 2 0) (a2 + 1) (b_i (((b_up (b_up w2 a3 2 0) a4 2 0) a2 1) - 1)))]) (st := []) dX20_divideSizes_79 q2807 q1756 q399 q1757 hmJ11_numberOfLeadingZeros rfl rfl rfl rfl rfl rfl rfl rfl (k_mono h (fun r5 w6 h => ?_))
      refine x_bipush 16 (z := 16) dX20_divideSizes_82 rfl (by decide) rfl ?_
      refine x_isub dX20_divideSizes_84 rfl ?_
      refine x_istore 6 (ls' := [(2, 84), (2, a1), (2, a2), (2, a3), (2, a4), (0, (b_up (b_up w2 a3 2 0) a4 2 0) a2 1), (0, b_i (r5 - 16)), (9, 0), (9, 0)]) dX20_divideSizes_85 rfl rfl rfl ?_
      refine x_aload_n 1 dX20_divideSizes_87 rfl rfl rfl rfl rfl ?_
      refine y_get 25 1 (c := 5) (z := w6 a1 1) dX20_divideSizes_88 ha1 rfl in_X6 q632 rfl rfl rfl rfl rfl ?_
      refine x_istore 7 (ls' := [(2, 84), (2, a1), (2, a2), (2, a3), (2, a4), (0, (b_up (b_up w2 a3 2 0) a4 2 0) a2 1), (0, b_i (r5 - 16)), (0, w6 a1 1), (9, 0)]) dX20_divideSizes_91 rfl rfl rfl ?_
      refine x_aload_n 1 dX20_divideSizes_93 rfl rfl rfl rfl rfl ?_
      refine x_iload 6 dX20_divideSizes_94 rfl rfl ?_
      refine x_aload_n 0 dX20_divideSizes_96 rfl rfl rfl rfl rfl ?_
      refine y_getF 7 0 (c := 19) (z := 85) dX20_divideSizes_97 i84 rfl in_X20 q1279 rfl rfl rfl fn_84_0 (Nat.le_trans (Nat.le_of_ble_eq_true rfl) hn) rfl ?_
      refine x_iload 7 dX20_divideSizes_100 rfl rfl ?_
      refine x_iconst 1 (z := 1) dX20_divideSizes_102 rfl (by decide) rfl ?_
      refine x_iadd dX20_divideSizes_103 rfl ?_
      refine y_Sv 91 (M := mX20_shiftRow) (As := [(2, a1), (0, b_i (r5 - 16)), (2, 85), (0, b_i ((w6 a1 1) + 1))]) (st := []) dX20_divideSizes_104 q2808 q2809 q387 q2810 hmX20_shiftRow rfl rfl rfl rfl rfl rfl rfl (k_mono h (fun r7 w8 h => ?_))
      refine x_aload_n 2 dX20_divideSizes_107 rfl rfl rfl rfl rfl ?_
      refine x_iload 6 dX20_divideSizes_108 rfl rfl ?_
      refine x_aload_n 0 dX20_divideSizes_110 rfl rfl rfl rfl rfl ?_
      refine y_getF 13 1 (c := 19) (z := 86) dX20_divideSizes_111 i84 rfl in_X20 q1280 rfl rfl rfl fn_84_1 (Nat.le_trans (Nat.le_of_ble_eq_true rfl) hn) rfl ?_
      refine x_iload 5 dX20_divideSizes_114 rfl rfl ?_
      refine y_Sv 91 (M := mX20_shiftRow) (As := [(2, a2), (0, b_i (r5 - 16)), (2, 86), (0, (b_up (b_up w2 a3 2 0) a4 2 0) a2 1)]) (st := []) dX20_divideSizes_116 q2808 q2809 q387 q2810 hmX20_shiftRow rfl rfl rfl rfl rfl rfl rfl (k_mono h (fun r9 w10 h => ?_))
      refine x_iload 7 dX20_divideSizes_119 rfl rfl ?_
      refine x_iload 5 dX20_divideSizes_121 rfl rfl ?_
      refine x_isub dX20_divideSizes_123 rfl ?_
      refine x_istore 8 (ls' := [(2, 84), (2, a1), (2, a2), (2, a3), (2, a4), (0, (b_up (b_up w2 a3 2 0) a4 2 0) a2 1), (0, b_i (r5 - 16)), (0, w6 a1 1), (0, b_i ((w6 a1 1) - ((b_up (b_up w2 a3 2 0) a4 2 0) a2 1)))]) dX20_divideSizes_124 rfl rfl rfl ?_
      exact x_fg (fgk (fgd (fgd (fgk (fgk (fgk (fgk (fgk (fgk (fg0)))))))))) h
    · refine x_aload_n 1 dX20_divideSizes_48 rfl rfl rfl rfl rfl ?_
      refine x_aload_n 2 dX20_divideSizes_49 rfl rfl rfl rfl rfl ?_
      refine y_getO 39 0 (c := 5) dX20_divideSizes_50 ha2 rfl in_X6 q627 rfl rfl rfl (fun h5 hf => of_X6_0 (Nat.le_trans (Nat.le_of_ble_eq_true rfl) hn) h5 ha2 hf) rfl (fun e11 => ?_)
      refine x_iconst 0 (z := 0) dX20_divideSizes_53 rfl (by decide) rfl ?_
      refine y_iald (z := (b_up (b_up w2 a3 2 0) a4 2 0) (a2 + 1) 0) dX20_divideSizes_54 ⟨200, e11, by decide⟩ rfl rfl ?_
      refine x_aload_n 3 dX20_divideSizes_55 rfl rfl rfl rfl rfl ?_
      refine y_Si 78 (M := mX20_divideBy) (As := [(2, a1), (0, (b_up (b_up w2 a3 2 0) a4 2 0) (a2 + 1) 0), (2, a3)]) (st := []) dX20_divideSizes_56 q2803 q2804 q387 q2805 hmX20_divideBy rfl rfl rfl rfl rfl rfl rfl rfl (k_mono h (fun r12 w13 h => ?_))
      refine x_istore 6 (ls' := [(2, 84), (2, a1), (2, a2), (2, a3), (2, a4), (0, (b_up (b_up w2 a3 2 0) a4 2 0) a2 1), (0, r12), (9, 0), (9, 0)]) dX20_divideSizes_59 rfl rfl rfl ?_
      refine x_aload 4 dX20_divideSizes_61 rfl rfl rfl rfl ?_
      refine x_iload 6 dX20_divideSizes_63 rfl rfl ?_
      refine x_i2l dX20_divideSizes_65 rfl ?_
      refine y_Vv 82 (M := mX6_set) (As := [(1, r12)]) (st := []) dX20_divideSizes_66 ha4 rfl q2806 q1743 q1744 q373 q1745 rfl hmX6_set rfl rfl rfl rfl rfl rfl rfl (k_mono h (fun r14 w15 h => ?_))
      exact y_vret dX20_divideSizes_69 rfl h
  · refine x_aload 4 dX20_divideSizes_8 rfl rfl rfl rfl ?_
    refine x_aload_n 1 dX20_divideSizes_10 rfl rfl rfl rfl rfl ?_
    refine y_Vv 71 (M := mX6_copy) (As := [(2, a1)]) (st := []) dX20_divideSizes_11 ha4 rfl q2797 q2798 q2799 q373 q2800 rfl hmX6_copy rfl rfl rfl rfl rfl rfl rfl (k_mono h (fun r16 w17 h => ?_))
    refine x_aload 4 dX20_divideSizes_14 rfl rfl rfl rfl ?_
    refine x_iconst 0 (z := 0) dX20_divideSizes_16 rfl (by decide) rfl ?_
    refine x_put 46 2 (c := 5) dX20_divideSizes_17 ha4 rfl in_X6 tyX6_ok nmX6 q636 rfl rfl rfl (Or.inl rfl) (Or.inr (Or.inl ⟨rfl, rfl, by decide⟩)) rfl ?_
    refine x_aload_n 3 dX20_divideSizes_20 rfl rfl rfl rfl rfl ?_
    refine y_Vv 75 (M := mX6_clear) (As := []) (st := []) dX20_divideSizes_21 ha3 rfl q2802 q1747 q1748 q373 q1749 rfl hmX6_clear rfl rfl rfl rfl rfl rfl rfl (k_mono h (fun r18 w19 h => ?_))
    exact y_vret dX20_divideSizes_24 rfl h
theorem sX20_divideSizes_126 {d n : Nat} {w : bW} {Q : Int → bW → Prop} {X : String → bW → Prop} (hn : 143 ≤ n) (a3 : Int) (a4 : Int) (a5 : Int) (a6 : Int) (a7 : Int) (a8 : Int) (ha3 : b_is n a3 0 5 3) (ha4 : b_is n a4 0 5 3) (h : if a8 < 0 then (b_K d mX6_trim [(2, a3), (0, b_i ((b_i (a7 - a5)) + 1))] n w (fun r1 w2 => LX20_divideSizes_166 d n Q X a4 a5 a6 0 w2) X) else (b_K d mX20_digit [(2, 84), (0, a8), (0, a5)] n w (fun r4 w5 => (0 ≤ a8 ∧ a8 < 200) ∧ (LX20_divideSizes_126 d n Q X a3 a4 a5 a6 a7 (b_i (a8 + (-1))) (b_up w5 (a3 + 1) a8 r4))) X)) : LX20_divideSizes_126 d n Q X a3 a4 a5 a6 a7 a8 w := by
  have i84 := iz84 (Nat.le_trans (Nat.le_of_ble_eq_true rfl) hn)
  refine x_iload 8 dX20_divideSizes_126 rfl rfl ?_
  refine x_if_lt (t := 152) 24 dX20_divideSizes_128 rfl rfl (b_ite h (fun hc h => ?_) (fun hc h => ?_))
  · refine x_aload_n 3 dX20_divideSizes_152 rfl rfl rfl rfl rfl ?_
    refine x_iload 7 dX20_divideSizes_153 rfl rfl ?_
    refine x_iload 5 dX20_divideSizes_155 rfl rfl ?_
    refine x_isub dX20_divideSizes_157 rfl ?_
    refine x_iconst 1 (z := 1) dX20_divideSizes_158 rfl (by decide) rfl ?_
    refine x_iadd dX20_divideSizes_159 rfl ?_
    refine y_Vv 43 (M := mX6_trim) (As := [(0, b_i ((b_i (a7 - a5)) + 1))]) (st := []) dX20_divideSizes_160 ha3 rfl q2738 q2110 q2111 q373 q2112 rfl hmX6_trim rfl rfl rfl rfl rfl rfl rfl (k_mono h (fun r1 w2 h => ?_))
    refine x_iconst 0 (z := 0) dX20_divideSizes_163 rfl (by decide) rfl ?_
    refine x_istore 8 (ls' := [(2, 84), (9, 0), (9, 0), (2, a3), (2, a4), (0, a5), (0, a6), (0, a7), (0, 0)]) dX20_divideSizes_164 rfl rfl rfl ?_
    exact x_fg (fgk (fgk (fgk (fgd (fgk (fgk (fgk (fgd (fgk (fg0)))))))))) h
  · refine x_aload_n 3 dX20_divideSizes_131 rfl rfl rfl rfl rfl ?_
    refine y_getO 39 0 (c := 5) dX20_divideSizes_132 ha3 rfl in_X6 q627 rfl rfl rfl (fun h5 hf => of_X6_0 (Nat.le_trans (Nat.le_of_ble_eq_true rfl) hn) h5 ha3 hf) rfl (fun e3 => ?_)
    refine x_iload 8 dX20_divideSizes_135 rfl rfl ?_
    refine x_aload_n 0 dX20_divideSizes_137 rfl rfl rfl rfl rfl ?_
    refine x_iload 8 dX20_divideSizes_138 rfl rfl ?_
    refine x_iload 5 dX20_divideSizes_140 rfl rfl ?_
    refine y_Vi 95 (M := mX20_digit) (As := [(0, a8), (0, a5)]) (st := [(0, a8), (2, a3 + 1)]) dX20_divideSizes_142 i84 rfl q2811 q2813 qs145 q387 q2814 rfl hmX20_digit rfl rfl rfl rfl rfl rfl rfl rfl (k_mono h (fun r4 w5 h => ?_))
    obtain ⟨e6, h⟩ := h
    refine y_iast (x' := r4) dX20_divideSizes_145 ⟨200, e3, e6⟩ rfl rfl ?_
    refine x_iinc 8 (-1) (ls' := [(2, 84), (9, 0), (9, 0), (2, a3), (2, a4), (0, a5), (0, a6), (0, a7), (0, b_i (a8 + (-1)))]) dX20_divideSizes_146 rfl rfl rfl rfl ?_
    refine x_goto (-23) (q := 126) dX20_divideSizes_149 rfl ?_
    exact x_fg (fgk (fgk (fgk (fgk (fgk (fgk (fgk (fgk (fgk (fg0)))))))))) h
theorem sX20_divideSizes_166 {d n : Nat} {w : bW} {Q : Int → bW → Prop} {X : String → bW → Prop} (hn : 143 ≤ n) (a4 : Int) (a5 : Int) (a6 : Int) (a8 : Int) (ha4 : b_is n a4 0 5 3) (h : if a5 ≤ a8 then (b_K d mX6_trim [(2, a4), (0, a5)] n w (fun r1 w2 => Q 0 w2) X) else ((0 ≤ a8 ∧ a8 < 204) ∧ ((0 ≤ b_i (a8 + 1) ∧ b_i (a8 + 1) < 204) ∧ ((0 ≤ a8 ∧ a8 < 200) ∧ (LX20_divideSizes_166 d n Q X a4 a5 a6 (b_i (a8 + 1)) (b_up w (a4 + 1) a8 (b_and (b_ush (b_or (w 85 a8) (b_shl (w 85 (b_i (a8 + 1))) 16)) a6) 65535))))))) : LX20_divideSizes_166 d n Q X a4 a5 a6 a8 w := by
  have i84 := iz84 (Nat.le_trans (Nat.le_of_ble_eq_true rfl) hn)
  have i85 := iz85 (Nat.le_trans (Nat.le_of_ble_eq_true rfl) hn)
  refine x_iload 8 dX20_divideSizes_166 rfl rfl ?_
  refine x_iload 5 dX20_divideSizes_168 rfl rfl ?_
  refine x_icmp_ge (t := 213) 43 dX20_divideSizes_170 rfl rfl (b_ite h (fun hc h => ?_) (fun hc h => ?_))
  · refine x_aload 4 dX20_divideSizes_213 rfl rfl rfl rfl ?_
    refine x_iload 5 dX20_divideSizes_215 rfl rfl ?_
    refine y_Vv 43 (M := mX6_trim) (As := [(0, a5)]) (st := []) dX20_divideSizes_217 ha4 rfl q2738 q2110 q2111 q373 q2112 rfl hmX6_trim rfl rfl rfl rfl rfl rfl rfl (k_mono h (fun r1 w2 h => ?_))
    exact y_vret dX20_divideSizes_220 rfl h
  · refine x_aload 4 dX20_divideSizes_173 rfl rfl rfl rfl ?_
    refine y_getO 39 0 (c := 5) dX20_divideSizes_175 ha4 rfl in_X6 q627 rfl rfl rfl (fun h5 hf => of_X6_0 (Nat.le_trans (Nat.le_of_ble_eq_true rfl) hn) h5 ha4 hf) rfl (fun e3 => ?_)
    refine x_iload 8 dX20_divideSizes_178 rfl rfl ?_
    refine x_aload_n 0 dX20_divideSizes_180 rfl rfl rfl rfl rfl ?_
    refine y_getF 7 0 (c := 19) (z := 85) dX20_divideSizes_181 i84 rfl in_X20 q1279 rfl rfl rfl fn_84_0 (Nat.le_trans (Nat.le_of_ble_eq_true rfl) hn) rfl ?_
    refine x_iload 8 dX20_divideSizes_184 rfl rfl ?_
    obtain ⟨e4, h⟩ := h
    refine y_iald (z := w 85 a8) dX20_divideSizes_186 ⟨204, i85, e4⟩ rfl rfl ?_
    refine x_aload_n 0 dX20_divideSizes_187 rfl rfl rfl rfl rfl ?_
    refine y_getF 7 0 (c := 19) (z := 85) dX20_divideSizes_188 i84 rfl in_X20 q1279 rfl rfl rfl fn_84_0 (Nat.le_trans (Nat.le_of_ble_eq_true rfl) hn) rfl ?_
    refine x_iload 8 dX20_divideSizes_191 rfl rfl ?_
    refine x_iconst 1 (z := 1) dX20_divideSizes_193 rfl (by decide) rfl ?_
    refine x_iadd dX20_divideSizes_194 rfl ?_
    obtain ⟨e5, h⟩ := h
    refine y_iald (z := w 85 (b_i (a8 + 1))) dX20_divideSizes_195 ⟨204, i85, e5⟩ rfl rfl ?_
    refine x_bipush 16 (z := 16) dX20_divideSizes_196 rfl (by decide) rfl ?_
    refine x_ishl dX20_divideSizes_198 rfl ?_
    refine x_ior dX20_divideSizes_199 rfl ?_
    refine x_iload 6 dX20_divideSizes_200 rfl rfl ?_
    refine x_iushr dX20_divideSizes_202 rfl ?_
    refine x_ldc 42 (x := 65535) dX20_divideSizes_203 q2737 rfl (by decide) rfl ?_
    refine x_iand dX20_divideSizes_205 rfl ?_
    obtain ⟨e6, h⟩ := h
    refine y_iast (x' := b_and (b_ush (b_or (w 85 a8) (b_shl (w 85 (b_i (a8 + 1))) 16)) a6) 65535) dX20_divideSizes_206 ⟨200, e3, e6⟩ rfl rfl ?_
    refine x_iinc 8 1 (ls' := [(2, 84), (9, 0), (9, 0), (9, 0), (2, a4), (0, a5), (0, a6), (9, 0), (0, b_i (a8 + 1))]) dX20_divideSizes_207 rfl rfl rfl rfl ?_
    refine x_goto (-44) (q := 166) dX20_divideSizes_210 rfl ?_
    exact x_fg (fgk (fgk (fgk (fgk (fgk (fgk (fgk (fgk (fgk (fg0)))))))))) h
abbrev LX20_divideBy_14 (d n : Nat) (Q : Int → bW → Prop) (X : String → bW → Prop) (a0 : Int) (a1 : Int) (a2 : Int) (a3 : Int) (a4 : Int) (a5 : Int) (w : bW) : Prop := b_Y (d + 1) mX20_divideBy n Q X 14 [(2, a0), (0, a1), (2, a2), (0, a3), (0, a4), (0, a5), (9, 0), (9, 0)] [] w
theorem rX20_divideBy {d n : Nat} {w : bW} {Q : Int → bW → Prop} {X : String → bW → Prop} (hn : 143 ≤ n) (a0 : Int) (a1 : Int) (a2 : Int) (ha0 : b_is n a0 0 5 3) (ha2 : b_is n a2 0 5 3) (h : LX20_divideBy_14 d n Q X a0 a1 a2 0 (w a0 1) (b_i ((w a0 1) - 1)) w) : b_K (d + 1) mX20_divideBy [(2, a0), (0, a1), (2, a2)] n w Q X := by
  refine k_of (by decide) rfl rfl rfl (ls := [(2, a0), (0, a1), (2, a2), (9, 0), (9, 0), (9, 0), (9, 0), (9, 0)]) rfl ?_
  refine x_iconst 0 (z := 0) dX20_divideBy_0 rfl (by decide) rfl ?_
  refine x_istore_n 3 (ls' := [(2, a0), (0, a1), (2, a2), (0, 0), (9, 0), (9, 0), (9, 0), (9, 0)]) dX20_divideBy_1 rfl rfl rfl rfl ?_
  refine x_aload_n 0 dX20_divideBy_2 rfl rfl rfl rfl rfl ?_
  refine y_get 25 1 (c := 5) (z := w a0 1) dX20_divideBy_3 ha0 rfl in_X6 q632 rfl rfl rfl rfl rfl ?_
  refine x_istore 4 (ls' := [(2, a0), (0, a1), (2, a2), (0, 0), (0, w a0 1), (9, 0), (9, 0), (9, 0)]) dX20_divideBy_6 rfl rfl rfl ?_
  refine x_iload 4 dX20_divideBy_8 rfl rfl ?_
  refine x_iconst 1 (z := 1) dX20_divideBy_10 rfl (by decide) rfl ?_
  refine x_isub dX20_divideBy_11 rfl ?_
  refine x_istore 5 (ls' := [(2, a0), (0, a1), (2, a2), (0, 0), (0, w a0 1), (0, b_i ((w a0 1) - 1)), (9, 0), (9, 0)]) dX20_divideBy_12 rfl rfl rfl ?_
  exact x_fg (fgk (fgk (fgk (fgk (fgk (fgk (fgk (fgk (fg0))))))))) h
theorem sX20_divideBy_14 {d n : Nat} {w : bW} {Q : Int → bW → Prop} {X : String → bW → Prop} (hn : 143 ≤ n) (a0 : Int) (a1 : Int) (a2 : Int) (a3 : Int) (a4 : Int) (a5 : Int) (ha0 : b_is n a0 0 5 3) (ha2 : b_is n a2 0 5 3) (h : if a5 < 0 then (b_K d mX6_trim [(2, a2), (0, a4)] n w (fun r1 w2 => Q a3 w2) X) else ((0 ≤ a5 ∧ a5 < 200) ∧ ((a1 ≠ 0) ∧ ((0 ≤ a5 ∧ a5 < 200) ∧ ((a1 ≠ 0) ∧ (LX20_divideBy_14 d n Q X a0 a1 a2 (b_i (b_lrem (b_lor (b_lshl a3 16) (w (a0 + 1) a5)) a1)) a4 (b_i (a5 + (-1))) (b_up w (a2 + 1) a5 (b_i (b_ldiv (b_lor (b_lshl a3 16) (w (a0 + 1) a5)) a1))))))))) : LX20_divideBy_14 d n Q X a0 a1 a2 a3 a4 a5 w := by
  refine x_iload 5 dX20_divideBy_14 rfl rfl ?_
  refine x_if_lt (t := 61) 45 dX20_divideBy_16 rfl rfl (b_ite h (fun hc h => ?_) (fun hc h => ?_))
  · refine x_aload_n 2 dX20_divideBy_61 rfl rfl rfl rfl rfl ?_
    refine x_iload 4 dX20_divideBy_62 rfl rfl ?_
    refine y_Vv 43 (M := mX6_trim) (As := [(0, a4)]) (st := []) dX20_divideBy_64 ha2 rfl q2738 q2110 q2111 q373 q2112 rfl hmX6_trim rfl rfl rfl rfl rfl rfl rfl (k_mono h (fun r1 w2 h => ?_))
    refine x_iload_n 3 dX20_divideBy_67 rfl rfl rfl ?_
    exact y_iret dX20_divideBy_68 rfl h
  · refine x_iload_n 3 dX20_divideBy_19 rfl rfl rfl ?_
    refine x_i2l dX20_divideBy_20 rfl ?_
    refine x_bipush 16 (z := 16) dX20_divideBy_21 rfl (by decide) rfl ?_
    refine x_lshl dX20_divideBy_23 rfl ?_
    refine x_aload_n 0 dX20_divideBy_24 rfl rfl rfl rfl rfl ?_
    refine y_getO 39 0 (c := 5) dX20_divideBy_25 ha0 rfl in_X6 q627 rfl rfl rfl (fun h5 hf => of_X6_0 (Nat.le_trans (Nat.le_of_ble_eq_true rfl) hn) h5 ha0 hf) rfl (fun e3 => ?_)
    refine x_iload 5 dX20_divideBy_28 rfl rfl ?_
    obtain ⟨e4, h⟩ := h
    refine y_iald (z := w (a0 + 1) a5) dX20_divideBy_30 ⟨200, e3, e4⟩ rfl rfl ?_
    refine x_i2l dX20_divideBy_31 rfl ?_
    refine x_lor dX20_divideBy_32 rfl ?_
    refine x_lstore 6 (ls' := [(2, a0), (0, a1), (2, a2), (0, a3), (0, a4), (0, a5), (1, b_lor (b_lshl a3 16) (w (a0 + 1) a5)), (9, 0)]) dX20_divideBy_33 rfl rfl rfl ?_
    refine x_aload_n 2 dX20_divideBy_35 rfl rfl rfl rfl rfl ?_
    refine y_getO 39 0 (c := 5) dX20_divideBy_36 ha2 rfl in_X6 q627 rfl rfl rfl (fun h5 hf => of_X6_0 (Nat.le_trans (Nat.le_of_ble_eq_true rfl) hn) h5 ha2 hf) rfl (fun e5 => ?_)
    refine x_iload 5 dX20_divideBy_39 rfl rfl ?_
    refine x_lload 6 dX20_divideBy_41 rfl rfl ?_
    refine x_iload_n 1 dX20_divideBy_43 rfl rfl rfl ?_
    refine x_i2l dX20_divideBy_44 rfl ?_
    obtain ⟨h0, h⟩ := h
    refine x_ldiv dX20_divideBy_45 h0 rfl ?_
    refine x_l2i dX20_divideBy_46 rfl ?_
    obtain ⟨e6, h⟩ := h
    refine y_iast (x' := b_i (b_ldiv (b_lor (b_lshl a3 16) (w (a0 + 1) a5)) a1)) dX20_divideBy_47 ⟨200, e5, e6⟩ rfl rfl ?_
    refine x_lload 6 dX20_divideBy_48 rfl rfl ?_
    refine x_iload_n 1 dX20_divideBy_50 rfl rfl rfl ?_
    refine x_i2l dX20_divideBy_51 rfl ?_
    obtain ⟨h0, h⟩ := h
    refine x_lrem dX20_divideBy_52 h0 rfl ?_
    refine x_l2i dX20_divideBy_53 rfl ?_
    refine x_istore_n 3 (ls' := [(2, a0), (0, a1), (2, a2), (0, b_i (b_lrem (b_lor (b_lshl a3 16) (w (a0 + 1) a5)) a1)), (0, a4), (0, a5), (1, b_lor (b_lshl a3 16) (w (a0 + 1) a5)), (9, 0)]) dX20_divideBy_54 rfl rfl rfl rfl ?_
    refine x_iinc 5 (-1) (ls' := [(2, a0), (0, a1), (2, a2), (0, b_i (b_lrem (b_lor (b_lshl a3 16) (w (a0 + 1) a5)) a1)), (0, a4), (0, b_i (a5 + (-1))), (1, b_lor (b_lshl a3 16) (w (a0 + 1) a5)), (9, 0)]) dX20_divideBy_55 rfl rfl rfl rfl ?_
    refine x_goto (-44) (q := 14) dX20_divideBy_58 rfl ?_
    exact x_fg (fgk (fgk (fgk (fgk (fgk (fgk (fgd (fgk (fg0))))))))) h
abbrev LX20_shiftRow_6 (d n : Nat) (Q : Int → bW → Prop) (X : String → bW → Prop) (a0 : Int) (a1 : Int) (a2 : Int) (a3 : Int) (a4 : Int) (a5 : Int) (w : bW) : Prop := b_Y (d + 1) mX20_shiftRow n Q X 6 [(2, a0), (0, a1), (2, a2), (0, a3), (0, a4), (0, a5)] [] w
theorem rX20_shiftRow {d n : Nat} {w : bW} {Q : Int → bW → Prop} {X : String → bW → Prop} (a0 : Int) (a1 : Int) (a2 : Int) (a3 : Int) (ha0 : b_is n a0 0 5 3) (h : LX20_shiftRow_6 d n Q X a0 a1 a2 a3 0 0 w) : b_K (d + 1) mX20_shiftRow [(2, a0), (0, a1), (2, a2), (0, a3)] n w Q X := by
  refine k_of (by decide) rfl rfl rfl (ls := [(2, a0), (0, a1), (2, a2), (0, a3), (9, 0), (9, 0)]) rfl ?_
  refine x_iconst 0 (z := 0) dX20_shiftRow_0 rfl (by decide) rfl ?_
  refine x_istore 4 (ls' := [(2, a0), (0, a1), (2, a2), (0, a3), (0, 0), (9, 0)]) dX20_shiftRow_1 rfl rfl rfl ?_
  refine x_iconst 0 (z := 0) dX20_shiftRow_3 rfl (by decide) rfl ?_
  refine x_istore 5 (ls' := [(2, a0), (0, a1), (2, a2), (0, a3), (0, 0), (0, 0)]) dX20_shiftRow_4 rfl rfl rfl ?_
  exact x_fg (fgk (fgk (fgk (fgk (fgk (fgk (fg0))))))) h
theorem sX20_shiftRow_6 {d n : Nat} {w : bW} {Q : Int → bW → Prop} {X : String → bW → Prop} (a0 : Int) (a1 : Int) (a2 : Int) (a3 : Int) (a4 : Int) (a5 : Int) (ha0 : b_is n a0 0 5 3) (h : if a3 ≤ a5 then (Q 0 w) else (b_K d mX6_at [(2, a0), (0, a5)] n w (fun r1 w2 => b_ai n a2 1 0 a5 ∧ (LX20_shiftRow_6 d n Q X a0 a1 a2 a3 (b_ush (b_or a4 (b_shl r1 a1)) 16) (b_i (a5 + 1)) (b_up w2 a2 a5 (b_and (b_or a4 (b_shl r1 a1)) 65535)))) X)) : LX20_shiftRow_6 d n Q X a0 a1 a2 a3 a4 a5 w := by
  refine x_iload 5 dX20_shiftRow_6 rfl rfl ?_
  refine x_iload_n 3 dX20_shiftRow_8 rfl rfl rfl ?_
  refine x_icmp_ge (t := 47) 38 dX20_shiftRow_9 rfl rfl (b_ite h (fun hc h => ?_) (fun hc h => ?_))
  · exact y_vret dX20_shiftRow_47 rfl h
  · refine x_iload 4 dX20_shiftRow_12 rfl rfl ?_
    refine x_aload_n 0 dX20_shiftRow_14 rfl rfl rfl rfl rfl ?_
    refine x_iload 5 dX20_shiftRow_15 rfl rfl ?_
    refine y_Vi 35 (M := mX6_at) (As := [(0, a5)]) (st := [(0, a4)]) dX20_shiftRow_17 ha0 rfl q2736 q1962 q1963 q373 q1964 rfl hmX6_at rfl rfl rfl rfl rfl rfl rfl rfl (k_mono h (fun r1 w2 h => ?_))
    refine x_iload_n 1 dX20_shiftRow_20 rfl rfl rfl ?_
    refine x_ishl dX20_shiftRow_21 rfl ?_
    refine x_ior dX20_shiftRow_22 rfl ?_
    refine x_istore 4 (ls' := [(2, a0), (0, a1), (2, a2), (0, a3), (0, b_or a4 (b_shl r1 a1)), (0, a5)]) dX20_shiftRow_23 rfl rfl rfl ?_
    refine x_aload_n 2 dX20_shiftRow_25 rfl rfl rfl rfl rfl ?_
    refine x_iload 5 dX20_shiftRow_26 rfl rfl ?_
    refine x_iload 4 dX20_shiftRow_28 rfl rfl ?_
    refine x_ldc 42 (x := 65535) dX20_shiftRow_30 q2737 rfl (by decide) rfl ?_
    refine x_iand dX20_shiftRow_32 rfl ?_
    obtain ⟨e3, h⟩ := h
    refine y_iast (x' := b_and (b_or a4 (b_shl r1 a1)) 65535) dX20_shiftRow_33 e3 rfl rfl ?_
    refine x_iload 4 dX20_shiftRow_34 rfl rfl ?_
    refine x_bipush 16 (z := 16) dX20_shiftRow_36 rfl (by decide) rfl ?_
    refine x_iushr dX20_shiftRow_38 rfl ?_
    refine x_istore 4 (ls' := [(2, a0), (0, a1), (2, a2), (0, a3), (0, b_ush (b_or a4 (b_shl r1 a1)) 16), (0, a5)]) dX20_shiftRow_39 rfl rfl rfl ?_
    refine x_iinc 5 1 (ls' := [(2, a0), (0, a1), (2, a2), (0, a3), (0, b_ush (b_or a4 (b_shl r1 a1)) 16), (0, b_i (a5 + 1))]) dX20_shiftRow_41 rfl rfl rfl rfl ?_
    refine x_goto (-38) (q := 6) dX20_shiftRow_44 rfl ?_
    exact x_fg (fgk (fgk (fgk (fgk (fgk (fgk (fg0))))))) h
abbrev LX20_digit_44 (d n : Nat) (Q : Int → bW → Prop) (X : String → bW → Prop) (a1 : Int) (a2 : Int) (a3 : Int) (a5 : Int) (w : bW) : Prop := b_Y (d + 1) mX20_digit n Q X 44 [(2, 84), (0, a1), (0, a2), (1, a3), (9, 0), (1, a5), (9, 0), (9, 0), (9, 0), (9, 0), (9, 0)] [] w
abbrev LX20_digit_125 (d n : Nat) (Q : Int → bW → Prop) (X : String → bW → Prop) (a1 : Int) (a2 : Int) (a5 : Int) (a7 : Int) (a9 : Int) (w : bW) : Prop := b_Y (d + 1) mX20_digit n Q X 125 [(2, 84), (0, a1), (0, a2), (9, 0), (9, 0), (1, a5), (9, 0), (1, a7), (9, 0), (0, a9), (9, 0)] [] w
abbrev LX20_digit_235 (d n : Nat) (Q : Int → bW → Prop) (X : String → bW → Prop) (a1 : Int) (a2 : Int) (a5 : Int) (a9 : Int) (a10 : Int) (w : bW) : Prop := b_Y (d + 1) mX20_digit n Q X 235 [(2, 84), (0, a1), (0, a2), (9, 0), (9, 0), (1, a5), (9, 0), (9, 0), (9, 0), (0, a9), (0, a10)] [] w
theorem rX20_digit {d n : Nat} {w : bW} {Q : Int → bW → Prop} {X : String → bW → Prop} (hn : 143 ≤ n) (a1 : Int) (a2 : Int) (h : (0 ≤ b_i (a1 + a2) ∧ b_i (a1 + a2) < 204) ∧ ((0 ≤ b_i ((b_i (a1 + a2)) - 1) ∧ b_i ((b_i (a1 + a2)) - 1) < 204) ∧ ((0 ≤ b_i (a2 - 1) ∧ b_i (a2 - 1) < 204) ∧ ((w 86 (b_i (a2 - 1)) ≠ 0) ∧ (LX20_digit_44 d n Q X a1 a2 (b_lor (b_lshl (w 85 (b_i (a1 + a2))) 16) (w 85 (b_i ((b_i (a1 + a2)) - 1)))) (min (b_ldiv (b_lor (b_lshl (w 85 (b_i (a1 + a2))) 16) (w 85 (b_i ((b_i (a1 + a2)) - 1)))) (w 86 (b_i (a2 - 1)))) 65535) w))))) : b_K (d + 1) mX20_digit [(2, 84), (0, a1), (0, a2)] n w Q X := by
  have i84 := iz84 (Nat.le_trans (Nat.le_of_ble_eq_true rfl) hn)
  have i85 := iz85 (Nat.le_trans (Nat.le_of_ble_eq_true rfl) hn)
  have i86 := iz86 (Nat.le_trans (Nat.le_of_ble_eq_true rfl) hn)
  refine k_of (by decide) rfl rfl rfl (ls := [(2, 84), (0, a1), (0, a2), (9, 0), (9, 0), (9, 0), (9, 0), (9, 0), (9, 0), (9, 0), (9, 0)]) rfl ?_
  refine x_aload_n 0 dX20_digit_0 rfl rfl rfl rfl rfl ?_
  refine y_getF 7 0 (c := 19) (z := 85) dX20_digit_1 i84 rfl in_X20 q1279 rfl rfl rfl fn_84_0 (Nat.le_trans (Nat.le_of_ble_eq_true rfl) hn) rfl ?_
  refine x_iload_n 1 dX20_digit_4 rfl rfl rfl ?_
  refine x_iload_n 2 dX20_digit_5 rfl rfl rfl ?_
  refine x_iadd dX20_digit_6 rfl ?_
  obtain ⟨e1, h⟩ := h
  refine y_iald (z := w 85 (b_i (a1 + a2))) dX20_digit_7 ⟨204, i85, e1⟩ rfl rfl ?_
  refine x_i2l dX20_digit_8 rfl ?_
  refine x_bipush 16 (z := 16) dX20_digit_9 rfl (by decide) rfl ?_
  refine x_lshl dX20_digit_11 rfl ?_
  refine x_aload_n 0 dX20_digit_12 rfl rfl rfl rfl rfl ?_
  refine y_getF 7 0 (c := 19) (z := 85) dX20_digit_13 i84 rfl in_X20 q1279 rfl rfl rfl fn_84_0 (Nat.le_trans (Nat.le_of_ble_eq_true rfl) hn) rfl ?_
  refine x_iload_n 1 dX20_digit_16 rfl rfl rfl ?_
  refine x_iload_n 2 dX20_digit_17 rfl rfl rfl ?_
  refine x_iadd dX20_digit_18 rfl ?_
  refine x_iconst 1 (z := 1) dX20_digit_19 rfl (by decide) rfl ?_
  refine x_isub dX20_digit_20 rfl ?_
  obtain ⟨e2, h⟩ := h
  refine y_iald (z := w 85 (b_i ((b_i (a1 + a2)) - 1))) dX20_digit_21 ⟨204, i85, e2⟩ rfl rfl ?_
  refine x_i2l dX20_digit_22 rfl ?_
  refine x_lor dX20_digit_23 rfl ?_
  refine x_lstore_n 3 (ls' := [(2, 84), (0, a1), (0, a2), (1, b_lor (b_lshl (w 85 (b_i (a1 + a2))) 16) (w 85 (b_i ((b_i (a1 + a2)) - 1)))), (9, 0), (9, 0), (9, 0), (9, 0), (9, 0), (9, 0), (9, 0)]) dX20_digit_24 rfl rfl rfl rfl ?_
  refine x_lload_n 3 dX20_digit_25 rfl rfl rfl ?_
  refine x_aload_n 0 dX20_digit_26 rfl rfl rfl rfl rfl ?_
  refine y_getF 13 1 (c := 19) (z := 86) dX20_digit_27 i84 rfl in_X20 q1280 rfl rfl rfl fn_84_1 (Nat.le_trans (Nat.le_of_ble_eq_true rfl) hn) rfl ?_
  refine x_iload_n 2 dX20_digit_30 rfl rfl rfl ?_
  refine x_iconst 1 (z := 1) dX20_digit_31 rfl (by decide) rfl ?_
  refine x_isub dX20_digit_32 rfl ?_
  obtain ⟨e3, h⟩ := h
  refine y_iald (z := w 86 (b_i (a2 - 1))) dX20_digit_33 ⟨204, i86, e3⟩ rfl rfl ?_
  refine x_i2l dX20_digit_34 rfl ?_
  obtain ⟨h0, h⟩ := h
  refine x_ldiv dX20_digit_35 h0 rfl ?_
  refine x_ldc2 65 (x := 65535) dX20_digit_36 q2784 rfl (by decide) rfl ?_
  refine y_mminl 98 dX20_digit_39 q2815 q2816 q367 q2817 rfl rfl ?_
  refine x_lstore 5 (ls' := [(2, 84), (0, a1), (0, a2), (1, b_lor (b_lshl (w 85 (b_i (a1 + a2))) 16) (w 85 (b_i ((b_i (a1 + a2)) - 1)))), (9, 0), (1, (min (b_ldiv (b_lor (b_lshl (w 85 (b_i (a1 + a2))) 16) (w 85 (b_i ((b_i (a1 + a2)) - 1)))) (w 86 (b_i (a2 - 1)))) 65535)), (9, 0), (9, 0), (9, 0), (9, 0), (9, 0)]) dX20_digit_42 rfl rfl rfl ?_
  exact x_fg (fgk (fgk (fgk (fgk (fgk (fgk (fgk (fgk (fgk (fgk (fgk (fg0)))))))))))) h
theorem sX20_digit_44 {d n : Nat} {w : bW} {Q : Int → bW → Prop} {X : String → bW → Prop} (hn : 143 ≤ n) (a1 : Int) (a2 : Int) (a3 : Int) (a5 : Int) (h : (0 ≤ b_i (a2 - 2) ∧ b_i (a2 - 2) < 204) ∧ ((0 ≤ b_i (a2 - 1) ∧ b_i (a2 - 1) < 204) ∧ ((0 ≤ b_i ((b_i (a1 + a2)) - 2) ∧ b_i ((b_i (a1 + a2)) - 2) < 204) ∧ (if b_l (a5 * (w 86 (b_i (a2 - 2)))) ≤ b_lor (b_lshl (b_l (a3 - (b_l (a5 * (w 86 (b_i (a2 - 1))))))) 16) (w 85 (b_i ((b_i (a1 + a2)) - 2))) then (LX20_digit_125 d n Q X a1 a2 a5 0 0 w) else (if 65536 ≤ b_l (a3 - (b_l (a5 * (w 86 (b_i (a2 - 1)))))) then (LX20_digit_125 d n Q X a1 a2 a5 0 0 w) else (LX20_digit_44 d n Q X a1 a2 a3 (b_l (a5 - 1)) w)))))) : LX20_digit_44 d n Q X a1 a2 a3 a5 w := by
  have i84 := iz84 (Nat.le_trans (Nat.le_of_ble_eq_true rfl) hn)
  have i85 := iz85 (Nat.le_trans (Nat.le_of_ble_eq_true rfl) hn)
  have i86 := iz86 (Nat.le_trans (Nat.le_of_ble_eq_true rfl) hn)
  refine x_lload 5 dX20_digit_44 rfl rfl ?_
  refine x_aload_n 0 dX20_digit_46 rfl rfl rfl rfl rfl ?_
  refine y_getF 13 1 (c := 19) (z := 86) dX20_digit_47 i84 rfl in_X20 q1280 rfl rfl rfl fn_84_1 (Nat.le_trans (Nat.le_of_ble_eq_true rfl) hn) rfl ?_
  refine x_iload_n 2 dX20_digit_50 rfl rfl rfl ?_
  refine x_iconst 2 (z := 2) dX20_digit_51 rfl (by decide) rfl ?_
  refine x_isub dX20_digit_52 rfl ?_
  obtain ⟨e1, h⟩ := h
  refine y_iald (z := w 86 (b_i (a2 - 2))) dX20_digit_53 ⟨204, i86, e1⟩ rfl rfl ?_
  refine x_i2l dX20_digit_54 rfl ?_
  refine x_lmul dX20_digit_55 rfl ?_
  refine x_lload_n 3 dX20_digit_56 rfl rfl rfl ?_
  refine x_lload 5 dX20_digit_57 rfl rfl ?_
  refine x_aload_n 0 dX20_digit_59 rfl rfl rfl rfl rfl ?_
  refine y_getF 13 1 (c := 19) (z := 86) dX20_digit_60 i84 rfl in_X20 q1280 rfl rfl rfl fn_84_1 (Nat.le_trans (Nat.le_of_ble_eq_true rfl) hn) rfl ?_
  refine x_iload_n 2 dX20_digit_63 rfl rfl rfl ?_
  refine x_iconst 1 (z := 1) dX20_digit_64 rfl (by decide) rfl ?_
  refine x_isub dX20_digit_65 rfl ?_
  obtain ⟨e2, h⟩ := h
  refine y_iald (z := w 86 (b_i (a2 - 1))) dX20_digit_66 ⟨204, i86, e2⟩ rfl rfl ?_
  refine x_i2l dX20_digit_67 rfl ?_
  refine x_lmul dX20_digit_68 rfl ?_
  refine x_lsub dX20_digit_69 rfl ?_
  refine x_bipush 16 (z := 16) dX20_digit_70 rfl (by decide) rfl ?_
  refine x_lshl dX20_digit_72 rfl ?_
  refine x_aload_n 0 dX20_digit_73 rfl rfl rfl rfl rfl ?_
  refine y_getF 7 0 (c := 19) (z := 85) dX20_digit_74 i84 rfl in_X20 q1279 rfl rfl rfl fn_84_0 (Nat.le_trans (Nat.le_of_ble_eq_true rfl) hn) rfl ?_
  refine x_iload_n 1 dX20_digit_77 rfl rfl rfl ?_
  refine x_iload_n 2 dX20_digit_78 rfl rfl rfl ?_
  refine x_iadd dX20_digit_79 rfl ?_
  refine x_iconst 2 (z := 2) dX20_digit_80 rfl (by decide) rfl ?_
  refine x_isub dX20_digit_81 rfl ?_
  obtain ⟨e3, h⟩ := h
  refine y_iald (z := w 85 (b_i ((b_i (a1 + a2)) - 2))) dX20_digit_82 ⟨204, i85, e3⟩ rfl rfl ?_
  refine x_i2l dX20_digit_83 rfl ?_
  refine x_lor dX20_digit_84 rfl ?_
  refine x_lc_le (q := 89) (t := 119) 33 dX20_digit_85 dX20_digit_86 rfl rfl (b_ite h (fun hc h => ?_) (fun hc h => ?_))
  · refine x_lconst 0 (z := 0) dX20_digit_119 rfl (by decide) rfl ?_
    refine x_lstore 7 (ls' := [(2, 84), (0, a1), (0, a2), (1, a3), (9, 0), (1, a5), (9, 0), (1, 0), (9, 0), (9, 0), (9, 0)]) dX20_digit_120 rfl rfl rfl ?_
    refine x_iconst 0 (z := 0) dX20_digit_122 rfl (by decide) rfl ?_
    refine x_istore 9 (ls' := [(2, 84), (0, a1), (0, a2), (1, a3), (9, 0), (1, a5), (9, 0), (1, 0), (9, 0), (0, 0), (9, 0)]) dX20_digit_123 rfl rfl rfl ?_
    exact x_fg (fgk (fgk (fgk (fgd (fgk (fgk (fgk (fgk (fgk (fgk (fgk (fg0)))))))))))) h
  · refine x_lload_n 3 dX20_digit_89 rfl rfl rfl ?_
    refine x_lload 5 dX20_digit_90 rfl rfl ?_
    refine x_aload_n 0 dX20_digit_92 rfl rfl rfl rfl rfl ?_
    refine y_getF 13 1 (c := 19) (z := 86) dX20_digit_93 i84 rfl in_X20 q1280 rfl rfl rfl fn_84_1 (Nat.le_trans (Nat.le_of_ble_eq_true rfl) hn) rfl ?_
    refine x_iload_n 2 dX20_digit_96 rfl rfl rfl ?_
    refine x_iconst 1 (z := 1) dX20_digit_97 rfl (by decide) rfl ?_
    refine x_isub dX20_digit_98 rfl ?_
    refine y_iald (z := w 86 (b_i (a2 - 1))) dX20_digit_99 ⟨204, i86, e2⟩ rfl rfl ?_
    refine x_i2l dX20_digit_100 rfl ?_
    refine x_lmul dX20_digit_101 rfl ?_
    refine x_lsub dX20_digit_102 rfl ?_
    refine x_ldc2 102 (x := 65536) dX20_digit_103 q2818 rfl (by decide) rfl ?_
    refine x_lc_ge (q := 110) (t := 119) 12 dX20_digit_106 dX20_digit_107 rfl rfl (b_ite h (fun hc h => ?_) (fun hc h => ?_))
    · refine x_lconst 0 (z := 0) dX20_digit_119 rfl (by decide) rfl ?_
      refine x_lstore 7 (ls' := [(2, 84), (0, a1), (0, a2), (1, a3), (9, 0), (1, a5), (9, 0), (1, 0), (9, 0), (9, 0), (9, 0)]) dX20_digit_120 rfl rfl rfl ?_
      refine x_iconst 0 (z := 0) dX20_digit_122 rfl (by decide) rfl ?_
      refine x_istore 9 (ls' := [(2, 84), (0, a1), (0, a2), (1, a3), (9, 0), (1, a5), (9, 0), (1, 0), (9, 0), (0, 0), (9, 0)]) dX20_digit_123 rfl rfl rfl ?_
      exact x_fg (fgk (fgk (fgk (fgd (fgk (fgk (fgk (fgk (fgk (fgk (fgk (fg0)))))))))))) h
    · refine x_lload 5 dX20_digit_110 rfl rfl ?_
      refine x_lconst 1 (z := 1) dX20_digit_112 rfl (by decide) rfl ?_
      refine x_lsub dX20_digit_113 rfl ?_
      refine x_lstore 5 (ls' := [(2, 84), (0, a1), (0, a2), (1, a3), (9, 0), (1, b_l (a5 - 1)), (9, 0), (9, 0), (9, 0), (9, 0), (9, 0)]) dX20_digit_114 rfl rfl rfl ?_
      refine x_goto (-72) (q := 44) dX20_digit_116 rfl ?_
      exact x_fg (fgk (fgk (fgk (fgk (fgk (fgk (fgk (fgk (fgk (fgk (fgk (fg0)))))))))))) h
theorem sX20_digit_125 {d n : Nat} {w : bW} {Q : Int → bW → Prop} {X : String → bW → Prop} (hn : 143 ≤ n) (a1 : Int) (a2 : Int) (a5 : Int) (a7 : Int) (a9 : Int) (h : if a2 ≤ a9 then ((0 ≤ b_i (a1 + a2) ∧ b_i (a1 + a2) < 204) ∧ (if 0 ≤ b_l (a7 + (w 85 (b_i (a1 + a2)))) then (Q (b_i a5) (b_up w 85 (b_i (a1 + a2)) (b_i (b_land (b_l (a7 + (w 85 (b_i (a1 + a2))))) 65535)))) else (LX20_digit_235 d n Q X a1 a2 (b_l (a5 - 1)) 0 0 (b_up w 85 (b_i (a1 + a2)) (b_i (b_land (b_l (a7 + (w 85 (b_i (a1 + a2))))) 65535)))))) else ((0 ≤ b_i (a1 + a9) ∧ b_i (a1 + a9) < 204) ∧ ((0 ≤ a9 ∧ a9 < 204) ∧ (LX20_digit_125 d n Q X a1 a2 a5 (b_lshr (b_l (a7 + (b_l ((w 85 (b_i (a1 + a9))) - (b_l (a5 * (w 86 a9))))))) 16) (b_i (a9 + 1)) (b_up w 85 (b_i (a1 + a9)) (b_i (b_land (b_l (a7 + (b_l ((w 85 (b_i (a1 + a9))) - (b_l (a5 * (w 86 a9))))))) 65535))))))) : LX20_digit_125 d n Q X a1 a2 a5 a7 a9 w := by
  have i84 := iz84 (Nat.le_trans (Nat.le_of_ble_eq_true rfl) hn)
  have i85 := iz85 (Nat.le_trans (Nat.le_of_ble_eq_true rfl) hn)
  have i86 := iz86 (Nat.le_trans (Nat.le_of_ble_eq_true rfl) hn)
  refine x_iload 9 dX20_digit_125 rfl rfl ?_
  refine x_iload_n 2 dX20_digit_127 rfl rfl rfl ?_
  refine x_icmp_ge (t := 187) 59 dX20_digit_128 rfl rfl (b_ite h (fun hc h => ?_) (fun hc h => ?_))
  · refine x_lload 7 dX20_digit_187 rfl rfl ?_
    refine x_aload_n 0 dX20_digit_189 rfl rfl rfl rfl rfl ?_
    refine y_getF 7 0 (c := 19) (z := 85) dX20_digit_190 i84 rfl in_X20 q1279 rfl rfl rfl fn_84_0 (Nat.le_trans (Nat.le_of_ble_eq_true rfl) hn) rfl ?_
    refine x_iload_n 1 dX20_digit_193 rfl rfl rfl ?_
    refine x_iload_n 2 dX20_digit_194 rfl rfl rfl ?_
    refine x_iadd dX20_digit_195 rfl ?_
    obtain ⟨e1, h⟩ := h
    refine y_iald (z := w 85 (b_i (a1 + a2))) dX20_digit_196 ⟨204, i85, e1⟩ rfl rfl ?_
    refine x_i2l dX20_digit_197 rfl ?_
    refine x_ladd dX20_digit_198 rfl ?_
    refine x_lstore 7 (ls' := [(2, 84), (0, a1), (0, a2), (9, 0), (9, 0), (1, a5), (9, 0), (1, b_l (a7 + (w 85 (b_i (a1 + a2))))), (9, 0), (0, a9), (9, 0)]) dX20_digit_199 rfl rfl rfl ?_
    refine x_aload_n 0 dX20_digit_201 rfl rfl rfl rfl rfl ?_
    refine y_getF 7 0 (c := 19) (z := 85) dX20_digit_202 i84 rfl in_X20 q1279 rfl rfl rfl fn_84_0 (Nat.le_trans (Nat.le_of_ble_eq_true rfl) hn) rfl ?_
    refine x_iload_n 1 dX20_digit_205 rfl rfl rfl ?_
    refine x_iload_n 2 dX20_digit_206 rfl rfl rfl ?_
    refine x_iadd dX20_digit_207 rfl ?_
    refine x_lload 7 dX20_digit_208 rfl rfl ?_
    refine x_ldc2 65 (x := 65535) dX20_digit_210 q2784 rfl (by decide) rfl ?_
    refine x_land dX20_digit_213 rfl ?_
    refine x_l2i dX20_digit_214 rfl ?_
    refine y_iast (x' := b_i (b_land (b_l (a7 + (w 85 (b_i (a1 + a2))))) 65535)) dX20_digit_215 ⟨204, i85, e1⟩ rfl rfl ?_
    refine x_lload 7 dX20_digit_216 rfl rfl ?_
    refine x_lconst 0 (z := 0) dX20_digit_218 rfl (by decide) rfl ?_
    refine x_lc_ge (q := 223) (t := 312) 92 dX20_digit_219 dX20_digit_220 rfl rfl (b_ite h (fun hc h => ?_) (fun hc h => ?_))
    · refine x_lload 5 dX20_digit_312 rfl rfl ?_
      refine x_l2i dX20_digit_314 rfl ?_
      exact y_iret dX20_digit_315 rfl h
    · refine x_lload 5 dX20_digit_223 rfl rfl ?_
      refine x_lconst 1 (z := 1) dX20_digit_225 rfl (by decide) rfl ?_
      refine x_lsub dX20_digit_226 rfl ?_
      refine x_lstore 5 (ls' := [(2, 84), (0, a1), (0, a2), (9, 0), (9, 0), (1, b_l (a5 - 1)), (9, 0), (1, b_l (a7 + (w 85 (b_i (a1 + a2))))), (9, 0), (0, a9), (9, 0)]) dX20_digit_227 rfl rfl rfl ?_
      refine x_iconst 0 (z := 0) dX20_digit_229 rfl (by decide) rfl ?_
      refine x_istore 9 (ls' := [(2, 84), (0, a1), (0, a2), (9, 0), (9, 0), (1, b_l (a5 - 1)), (9, 0), (1, b_l (a7 + (w 85 (b_i (a1 + a2))))), (9, 0), (0, 0), (9, 0)]) dX20_digit_230 rfl rfl rfl ?_
      refine x_iconst 0 (z := 0) dX20_digit_232 rfl (by decide) rfl ?_
      refine x_istore 10 (ls' := [(2, 84), (0, a1), (0, a2), (9, 0), (9, 0), (1, b_l (a5 - 1)), (9, 0), (1, b_l (a7 + (w 85 (b_i (a1 + a2))))), (9, 0), (0, 0), (0, 0)]) dX20_digit_233 rfl rfl rfl ?_
      exact x_fg (fgk (fgk (fgk (fgk (fgk (fgk (fgk (fgd (fgk (fgk (fgk (fg0)))))))))))) h
  · refine x_lload 7 dX20_digit_131 rfl rfl ?_
    refine x_aload_n 0 dX20_digit_133 rfl rfl rfl rfl rfl ?_
    refine y_getF 7 0 (c := 19) (z := 85) dX20_digit_134 i84 rfl in_X20 q1279 rfl rfl rfl fn_84_0 (Nat.le_trans (Nat.le_of_ble_eq_true rfl) hn) rfl ?_
    refine x_iload_n 1 dX20_digit_137 rfl rfl rfl ?_
    refine x_iload 9 dX20_digit_138 rfl rfl ?_
    refine x_iadd dX20_digit_140 rfl ?_
    obtain ⟨e2, h⟩ := h
    refine y_iald (z := w 85 (b_i (a1 + a9))) dX20_digit_141 ⟨204, i85, e2⟩ rfl rfl ?_
    refine x_i2l dX20_digit_142 rfl ?_
    refine x_lload 5 dX20_digit_143 rfl rfl ?_
    refine x_aload_n 0 dX20_digit_145 rfl rfl rfl rfl rfl ?_
    refine y_getF 13 1 (c := 19) (z := 86) dX20_digit_146 i84 rfl in_X20 q1280 rfl rfl rfl fn_84_1 (Nat.le_trans (Nat.le_of_ble_eq_true rfl) hn) rfl ?_
    refine x_iload 9 dX20_digit_149 rfl rfl ?_
    obtain ⟨e3, h⟩ := h
    refine y_iald (z := w 86 a9) dX20_digit_151 ⟨204, i86, e3⟩ rfl rfl ?_
    refine x_i2l dX20_digit_152 rfl ?_
    refine x_lmul dX20_digit_153 rfl ?_
    refine x_lsub dX20_digit_154 rfl ?_
    refine x_ladd dX20_digit_155 rfl ?_
    refine x_lstore 7 (ls' := [(2, 84), (0, a1), (0, a2), (9, 0), (9, 0), (1, a5), (9, 0), (1, b_l (a7 + (b_l ((w 85 (b_i (a1 + a9))) - (b_l (a5 * (w 86 a9))))))), (9, 0), (0, a9), (9, 0)]) dX20_digit_156 rfl rfl rfl ?_
    refine x_aload_n 0 dX20_digit_158 rfl rfl rfl rfl rfl ?_
    refine y_getF 7 0 (c := 19) (z := 85) dX20_digit_159 i84 rfl in_X20 q1279 rfl rfl rfl fn_84_0 (Nat.le_trans (Nat.le_of_ble_eq_true rfl) hn) rfl ?_
    refine x_iload_n 1 dX20_digit_162 rfl rfl rfl ?_
    refine x_iload 9 dX20_digit_163 rfl rfl ?_
    refine x_iadd dX20_digit_165 rfl ?_
    refine x_lload 7 dX20_digit_166 rfl rfl ?_
    refine x_ldc2 65 (x := 65535) dX20_digit_168 q2784 rfl (by decide) rfl ?_
    refine x_land dX20_digit_171 rfl ?_
    refine x_l2i dX20_digit_172 rfl ?_
    refine y_iast (x' := b_i (b_land (b_l (a7 + (b_l ((w 85 (b_i (a1 + a9))) - (b_l (a5 * (w 86 a9))))))) 65535)) dX20_digit_173 ⟨204, i85, e2⟩ rfl rfl ?_
    refine x_lload 7 dX20_digit_174 rfl rfl ?_
    refine x_bipush 16 (z := 16) dX20_digit_176 rfl (by decide) rfl ?_
    refine x_lshr dX20_digit_178 rfl ?_
    refine x_lstore 7 (ls' := [(2, 84), (0, a1), (0, a2), (9, 0), (9, 0), (1, a5), (9, 0), (1, b_lshr (b_l (a7 + (b_l ((w 85 (b_i (a1 + a9))) - (b_l (a5 * (w 86 a9))))))) 16), (9, 0), (0, a9), (9, 0)]) dX20_digit_179 rfl rfl rfl ?_
    refine x_iinc 9 1 (ls' := [(2, 84), (0, a1), (0, a2), (9, 0), (9, 0), (1, a5), (9, 0), (1, b_lshr (b_l (a7 + (b_l ((w 85 (b_i (a1 + a9))) - (b_l (a5 * (w 86 a9))))))) 16), (9, 0), (0, b_i (a9 + 1)), (9, 0)]) dX20_digit_181 rfl rfl rfl rfl ?_
    refine x_goto (-59) (q := 125) dX20_digit_184 rfl ?_
    exact x_fg (fgk (fgk (fgk (fgk (fgk (fgk (fgk (fgk (fgk (fgk (fgk (fg0)))))))))))) h
theorem sX20_digit_235 {d n : Nat} {w : bW} {Q : Int → bW → Prop} {X : String → bW → Prop} (hn : 143 ≤ n) (a1 : Int) (a2 : Int) (a5 : Int) (a9 : Int) (a10 : Int) (h : if a2 ≤ a10 then ((0 ≤ b_i (a1 + a2) ∧ b_i (a1 + a2) < 204) ∧ (Q (b_i a5) (b_up w 85 (b_i (a1 + a2)) (b_and (b_i ((w 85 (b_i (a1 + a2))) + a9)) 65535)))) else ((0 ≤ b_i (a1 + a10) ∧ b_i (a1 + a10) < 204) ∧ ((0 ≤ a10 ∧ a10 < 204) ∧ (LX20_digit_235 d n Q X a1 a2 a5 (b_shr (b_i (a9 + (b_i ((w 85 (b_i (a1 + a10))) + (w 86 a10))))) 16) (b_i (a10 + 1)) (b_up w 85 (b_i (a1 + a10)) (b_and (b_i (a9 + (b_i ((w 85 (b_i (a1 + a10))) + (w 86 a10))))) 65535)))))) : LX20_digit_235 d n Q X a1 a2 a5 a9 a10 w := by
  have i84 := iz84 (Nat.le_trans (Nat.le_of_ble_eq_true rfl) hn)
  have i85 := iz85 (Nat.le_trans (Nat.le_of_ble_eq_true rfl) hn)
  have i86 := iz86 (Nat.le_trans (Nat.le_of_ble_eq_true rfl) hn)
  refine x_iload 10 dX20_digit_235 rfl rfl ?_
  refine x_iload_n 2 dX20_digit_237 rfl rfl rfl ?_
  refine x_icmp_ge (t := 290) 52 dX20_digit_238 rfl rfl (b_ite h (fun hc h => ?_) (fun hc h => ?_))
  · refine x_aload_n 0 dX20_digit_290 rfl rfl rfl rfl rfl ?_
    refine y_getF 7 0 (c := 19) (z := 85) dX20_digit_291 i84 rfl in_X20 q1279 rfl rfl rfl fn_84_0 (Nat.le_trans (Nat.le_of_ble_eq_true rfl) hn) rfl ?_
    refine x_iload_n 1 dX20_digit_294 rfl rfl rfl ?_
    refine x_iload_n 2 dX20_digit_295 rfl rfl rfl ?_
    refine x_iadd dX20_digit_296 rfl ?_
    refine x_aload_n 0 dX20_digit_297 rfl rfl rfl rfl rfl ?_
    refine y_getF 7 0 (c := 19) (z := 85) dX20_digit_298 i84 rfl in_X20 q1279 rfl rfl rfl fn_84_0 (Nat.le_trans (Nat.le_of_ble_eq_true rfl) hn) rfl ?_
    refine x_iload_n 1 dX20_digit_301 rfl rfl rfl ?_
    refine x_iload_n 2 dX20_digit_302 rfl rfl rfl ?_
    refine x_iadd dX20_digit_303 rfl ?_
    obtain ⟨e1, h⟩ := h
    refine y_iald (z := w 85 (b_i (a1 + a2))) dX20_digit_304 ⟨204, i85, e1⟩ rfl rfl ?_
    refine x_iload 9 dX20_digit_305 rfl rfl ?_
    refine x_iadd dX20_digit_307 rfl ?_
    refine x_ldc 42 (x := 65535) dX20_digit_308 q2737 rfl (by decide) rfl ?_
    refine x_iand dX20_digit_310 rfl ?_
    refine y_iast (x' := b_and (b_i ((w 85 (b_i (a1 + a2))) + a9)) 65535) dX20_digit_311 ⟨204, i85, e1⟩ rfl rfl ?_
    refine x_lload 5 dX20_digit_312 rfl rfl ?_
    refine x_l2i dX20_digit_314 rfl ?_
    exact y_iret dX20_digit_315 rfl h
  · refine x_iload 9 dX20_digit_241 rfl rfl ?_
    refine x_aload_n 0 dX20_digit_243 rfl rfl rfl rfl rfl ?_
    refine y_getF 7 0 (c := 19) (z := 85) dX20_digit_244 i84 rfl in_X20 q1279 rfl rfl rfl fn_84_0 (Nat.le_trans (Nat.le_of_ble_eq_true rfl) hn) rfl ?_
    refine x_iload_n 1 dX20_digit_247 rfl rfl rfl ?_
    refine x_iload 10 dX20_digit_248 rfl rfl ?_
    refine x_iadd dX20_digit_250 rfl ?_
    obtain ⟨e2, h⟩ := h
    refine y_iald (z := w 85 (b_i (a1 + a10))) dX20_digit_251 ⟨204, i85, e2⟩ rfl rfl ?_
    refine x_aload_n 0 dX20_digit_252 rfl rfl rfl rfl rfl ?_
    refine y_getF 13 1 (c := 19) (z := 86) dX20_digit_253 i84 rfl in_X20 q1280 rfl rfl rfl fn_84_1 (Nat.le_trans (Nat.le_of_ble_eq_true rfl) hn) rfl ?_
    refine x_iload 10 dX20_digit_256 rfl rfl ?_
    obtain ⟨e3, h⟩ := h
    refine y_iald (z := w 86 a10) dX20_digit_258 ⟨204, i86, e3⟩ rfl rfl ?_
    refine x_iadd dX20_digit_259 rfl ?_
    refine x_iadd dX20_digit_260 rfl ?_
    refine x_istore 9 (ls' := [(2, 84), (0, a1), (0, a2), (9, 0), (9, 0), (1, a5), (9, 0), (9, 0), (9, 0), (0, b_i (a9 + (b_i ((w 85 (b_i (a1 + a10))) + (w 86 a10))))), (0, a10)]) dX20_digit_261 rfl rfl rfl ?_
    refine x_aload_n 0 dX20_digit_263 rfl rfl rfl rfl rfl ?_
    refine y_getF 7 0 (c := 19) (z := 85) dX20_digit_264 i84 rfl in_X20 q1279 rfl rfl rfl fn_84_0 (Nat.le_trans (Nat.le_of_ble_eq_true rfl) hn) rfl ?_
    refine x_iload_n 1 dX20_digit_267 rfl rfl rfl ?_
    refine x_iload 10 dX20_digit_268 rfl rfl ?_
    refine x_iadd dX20_digit_270 rfl ?_
    refine x_iload 9 dX20_digit_271 rfl rfl ?_
    refine x_ldc 42 (x := 65535) dX20_digit_273 q2737 rfl (by decide) rfl ?_
    refine x_iand dX20_digit_275 rfl ?_
    refine y_iast (x' := b_and (b_i (a9 + (b_i ((w 85 (b_i (a1 + a10))) + (w 86 a10))))) 65535) dX20_digit_276 ⟨204, i85, e2⟩ rfl rfl ?_
    refine x_iload 9 dX20_digit_277 rfl rfl ?_
    refine x_bipush 16 (z := 16) dX20_digit_279 rfl (by decide) rfl ?_
    refine x_ishr dX20_digit_281 rfl ?_
    refine x_istore 9 (ls' := [(2, 84), (0, a1), (0, a2), (9, 0), (9, 0), (1, a5), (9, 0), (9, 0), (9, 0), (0, b_shr (b_i (a9 + (b_i ((w 85 (b_i (a1 + a10))) + (w 86 a10))))) 16), (0, a10)]) dX20_digit_282 rfl rfl rfl ?_
    refine x_iinc 10 1 (ls' := [(2, 84), (0, a1), (0, a2), (9, 0), (9, 0), (1, a5), (9, 0), (9, 0), (9, 0), (0, b_shr (b_i (a9 + (b_i ((w 85 (b_i (a1 + a10))) + (w 86 a10))))) 16), (0, b_i (a10 + 1))]) dX20_digit_284 rfl rfl rfl rfl ?_
    refine x_goto (-52) (q := 235) dX20_digit_287 rfl ?_
    exact x_fg (fgk (fgk (fgk (fgk (fgk (fgk (fgk (fgk (fgk (fgk (fgk (fg0)))))))))))) h
abbrev LX20_combine_24 (d n : Nat) (Q : Int → bW → Prop) (X : String → bW → Prop) (a1 : Int) (a2 : Int) (a3 : Int) (a4 : Int) (a5 : Int) (a6 : Int) (a7 : Int) (a8 : Int) (w : bW) : Prop := b_Y (d + 1) mX20_combine n Q X 24 [(9, 0), (2, a1), (2, a2), (0, a3), (2, a4), (0, a5), (0, a6), (0, a7), (0, a8), (9, 0), (9, 0)] [] w
abbrev LX20_combine_165 (d n : Nat) (Q : Int → bW → Prop) (X : String → bW → Prop) (a4 : Int) (a5 : Int) (a8 : Int) (a9 : Int) (w : bW) : Prop := b_Y (d + 1) mX20_combine n Q X 165 [(9, 0), (9, 0), (9, 0), (9, 0), (2, a4), (0, a5), (9, 0), (9, 0), (0, a8), (0, a9), (9, 0)] [] w
abbrev LX20_combine_67 (d n : Nat) (Q : Int → bW → Prop) (X : String → bW → Prop) (a1 : Int) (a2 : Int) (a3 : Int) (a4 : Int) (a5 : Int) (a7 : Int) (a8 : Int) (a9 : Int) (a10 : Int) (s0 : Int) (s1 : Int) (w : bW) : Prop := b_Y (d + 1) mX20_combine n Q X 67 [(9, 0), (2, a1), (2, a2), (0, a3), (2, a4), (0, a5), (9, 0), (0, a7), (0, a8), (0, a9), (0, a10)] [(0, s0), (0, s1)] w
theorem rX20_combine {d n : Nat} {w : bW} {Q : Int → bW → Prop} {X : String → bW → Prop} (hn : 143 ≤ n) (a1 : Int) (a2 : Int) (a3 : Int) (a4 : Int) (ha1 : b_is n a1 0 5 3) (ha2 : b_is n a2 0 5 3) (ha4 : b_is n a4 0 5 3) (h : LX20_combine_24 d n Q X a1 a2 a3 a4 (b_i ((max (w a1 1) (w a2 1)) + 1)) 1 1 0 w) : b_K (d + 1) mX20_combine [(2, 84), (2, a1), (2, a2), (0, a3), (2, a4)] n w Q X := by
  refine k_of (by decide) rfl rfl rfl (ls := [(2, 84), (2, a1), (2, a2), (0, a3), (2, a4), (9, 0), (9, 0), (9, 0), (9, 0), (9, 0), (9, 0)]) rfl ?_
  refine x_aload_n 1 dX20_combine_0 rfl rfl rfl rfl rfl ?_
  refine y_get 25 1 (c := 5) (z := w a1 1) dX20_combine_1 ha1 rfl in_X6 q632 rfl rfl rfl rfl rfl ?_
  refine x_aload_n 2 dX20_combine_4 rfl rfl rfl rfl rfl ?_
  refine y_get 25 1 (c := 5) (z := w a2 1) dX20_combine_5 ha2 rfl in_X6 q632 rfl rfl rfl rfl rfl ?_
  refine y_mmax 29 dX20_combine_8 q2735 q523 q367 q524 rfl rfl ?_
  refine x_iconst 1 (z := 1) dX20_combine_11 rfl (by decide) rfl ?_
  refine x_iadd dX20_combine_12 rfl ?_
  refine x_istore 5 (ls' := [(2, 84), (2, a1), (2, a2), (0, a3), (2, a4), (0, b_i ((max (w a1 1) (w a2 1)) + 1)), (9, 0), (9, 0), (9, 0), (9, 0), (9, 0)]) dX20_combine_13 rfl rfl rfl ?_
  refine x_iconst 1 (z := 1) dX20_combine_15 rfl (by decide) rfl ?_
  refine x_istore 6 (ls' := [(2, 84), (2, a1), (2, a2), (0, a3), (2, a4), (0, b_i ((max (w a1 1) (w a2 1)) + 1)), (0, 1), (9, 0), (9, 0), (9, 0), (9, 0)]) dX20_combine_16 rfl rfl rfl ?_
  refine x_iconst 1 (z := 1) dX20_combine_18 rfl (by decide) rfl ?_
  refine x_istore 7 (ls' := [(2, 84), (2, a1), (2, a2), (0, a3), (2, a4), (0, b_i ((max (w a1 1) (w a2 1)) + 1)), (0, 1), (0, 1), (9, 0), (9, 0), (9, 0)]) dX20_combine_19 rfl rfl rfl ?_
  refine x_iconst 0 (z := 0) dX20_combine_21 rfl (by decide) rfl ?_
  refine x_istore 8 (ls' := [(2, 84), (2, a1), (2, a2), (0, a3), (2, a4), (0, b_i ((max (w a1 1) (w a2 1)) + 1)), (0, 1), (0, 1), (0, 0), (9, 0), (9, 0)]) dX20_combine_22 rfl rfl rfl ?_
  exact x_fg (fgd (fgk (fgk (fgk (fgk (fgk (fgk (fgk (fgk (fgk (fgk (fg0)))))))))))) h
theorem sX20_combine_24 {d n : Nat} {w : bW} {Q : Int → bW → Prop} {X : String → bW → Prop} (hn : 143 ≤ n) (a1 : Int) (a2 : Int) (a3 : Int) (a4 : Int) (a5 : Int) (a6 : Int) (a7 : Int) (a8 : Int) (ha1 : b_is n a1 0 5 3) (ha2 : b_is n a2 0 5 3) (ha4 : b_is n a4 0 5 3) (h : if a5 ≤ a8 then ((0 ≤ b_i (a5 - 1) ∧ b_i (a5 - 1) < 200) ∧ (if b_and (w (a4 + 1) (b_i (a5 - 1))) 32768 = 0 then (LX20_combine_165 d n Q X a4 a5 1 0 (b_up w a4 2 0)) else (LX20_combine_165 d n Q X a4 a5 1 0 (b_up w a4 2 1)))) else (b_K d mX6_endless [(2, a1), (0, a8), (0, a6)] n w (fun r3 w4 => b_K d mX6_endless [(2, a2), (0, a8), (0, a7)] n w4 (fun r5 w6 => b_K d mX6_at [(2, a1), (0, a8)] n w6 (fun r7 w8 => if r7 ≠ 0 then (LX20_combine_67 d n Q X a1 a2 a3 a4 a5 a7 a8 r3 r5 0 a6 w8) else (LX20_combine_67 d n Q X a1 a2 a3 a4 a5 a7 a8 r3 r5 1 a6 w8)) X) X) X)) : LX20_combine_24 d n Q X a1 a2 a3 a4 a5 a6 a7 a8 w := by
  refine x_iload 8 dX20_combine_24 rfl rfl ?_
  refine x_iload 5 dX20_combine_26 rfl rfl ?_
  refine x_icmp_ge (t := 133) 105 dX20_combine_28 rfl rfl (b_ite h (fun hc h => ?_) (fun hc h => ?_))
  · refine x_aload 4 dX20_combine_133 rfl rfl rfl rfl ?_
    refine x_aload 4 dX20_combine_135 rfl rfl rfl rfl ?_
    refine y_getO 39 0 (c := 5) dX20_combine_137 ha4 rfl in_X6 q627 rfl rfl rfl (fun h5 hf => of_X6_0 (Nat.le_trans (Nat.le_of_ble_eq_true rfl) hn) h5 ha4 hf) rfl (fun e1 => ?_)
    refine x_iload 5 dX20_combine_140 rfl rfl ?_
    refine x_iconst 1 (z := 1) dX20_combine_142 rfl (by decide) rfl ?_
    refine x_isub dX20_combine_143 rfl ?_
    obtain ⟨e2, h⟩ := h
    refine y_iald (z := w (a4 + 1) (b_i (a5 - 1))) dX20_combine_144 ⟨200, e1, e2⟩ rfl rfl ?_
    refine x_ldc 116 (x := 32768) dX20_combine_145 q2830 rfl (by decide) rfl ?_
    refine x_iand dX20_combine_147 rfl ?_
    refine x_if_eq (t := 155) 7 dX20_combine_148 rfl rfl (b_ite h (fun hc h => ?_) (fun hc h => ?_))
    · refine x_iconst 0 (z := 0) dX20_combine_155 rfl (by decide) rfl ?_
      refine x_put 46 2 (c := 5) dX20_combine_156 ha4 rfl in_X6 tyX6_ok nmX6 q636 rfl rfl rfl (Or.inl rfl) (Or.inr (Or.inl ⟨rfl, rfl, by decide⟩)) rfl ?_
      refine x_iconst 1 (z := 1) dX20_combine_159 rfl (by decide) rfl ?_
      refine x_istore 8 (ls' := [(9, 0), (2, a1), (2, a2), (0, a3), (2, a4), (0, a5), (0, a6), (0, a7), (0, 1), (9, 0), (9, 0)]) dX20_combine_160 rfl rfl rfl ?_
      refine x_iconst 0 (z := 0) dX20_combine_162 rfl (by decide) rfl ?_
      refine x_istore 9 (ls' := [(9, 0), (2, a1), (2, a2), (0, a3), (2, a4), (0, a5), (0, a6), (0, a7), (0, 1), (0, 0), (9, 0)]) dX20_combine_163 rfl rfl rfl ?_
      exact x_fg (fgk (fgd (fgd (fgd (fgk (fgk (fgd (fgd (fgk (fgk (fgk (fg0)))))))))))) h
    · refine x_iconst 1 (z := 1) dX20_combine_151 rfl (by decide) rfl ?_
      refine x_goto 4 (q := 156) dX20_combine_152 rfl ?_
      refine x_put 46 2 (c := 5) dX20_combine_156 ha4 rfl in_X6 tyX6_ok nmX6 q636 rfl rfl rfl (Or.inl rfl) (Or.inr (Or.inl ⟨rfl, rfl, by decide⟩)) rfl ?_
      refine x_iconst 1 (z := 1) dX20_combine_159 rfl (by decide) rfl ?_
      refine x_istore 8 (ls' := [(9, 0), (2, a1), (2, a2), (0, a3), (2, a4), (0, a5), (0, a6), (0, a7), (0, 1), (9, 0), (9, 0)]) dX20_combine_160 rfl rfl rfl ?_
      refine x_iconst 0 (z := 0) dX20_combine_162 rfl (by decide) rfl ?_
      refine x_istore 9 (ls' := [(9, 0), (2, a1), (2, a2), (0, a3), (2, a4), (0, a5), (0, a6), (0, a7), (0, 1), (0, 0), (9, 0)]) dX20_combine_163 rfl rfl rfl ?_
      exact x_fg (fgk (fgd (fgd (fgd (fgk (fgk (fgd (fgd (fgk (fgk (fgk (fg0)))))))))))) h
  · refine x_aload_n 1 dX20_combine_31 rfl rfl rfl rfl rfl ?_
    refine x_iload 8 dX20_combine_32 rfl rfl ?_
    refine x_iload 6 dX20_combine_34 rfl rfl ?_
    refine y_Vi 112 (M := mX6_endless) (As := [(0, a8), (0, a6)]) (st := []) dX20_combine_36 ha1 rfl q2824 q2825 q2826 q373 q2827 rfl hmX6_endless rfl rfl rfl rfl rfl rfl rfl rfl (k_mono h (fun r3 w4 h => ?_))
    refine x_istore 9 (ls' := [(9, 0), (2, a1), (2, a2), (0, a3), (2, a4), (0, a5), (0, a6), (0, a7), (0, a8), (0, r3), (9, 0)]) dX20_combine_39 rfl rfl rfl ?_
    refine x_aload_n 2 dX20_combine_41 rfl rfl rfl rfl rfl ?_
    refine x_iload 8 dX20_combine_42 rfl rfl ?_
    refine x_iload 7 dX20_combine_44 rfl rfl ?_
    refine y_Vi 112 (M := mX6_endless) (As := [(0, a8), (0, a7)]) (st := []) dX20_combine_46 ha2 rfl q2824 q2825 q2826 q373 q2827 rfl hmX6_endless rfl rfl rfl rfl rfl rfl rfl rfl (k_mono h (fun r5 w6 h => ?_))
    refine x_istore 10 (ls' := [(9, 0), (2, a1), (2, a2), (0, a3), (2, a4), (0, a5), (0, a6), (0, a7), (0, a8), (0, r3), (0, r5)]) dX20_combine_49 rfl rfl rfl ?_
    refine x_iload 6 dX20_combine_51 rfl rfl ?_
    refine x_aload_n 1 dX20_combine_53 rfl rfl rfl rfl rfl ?_
    refine x_iload 8 dX20_combine_54 rfl rfl ?_
    refine y_Vi 35 (M := mX6_at) (As := [(0, a8)]) (st := [(0, a6)]) dX20_combine_56 ha1 rfl q2736 q1962 q1963 q373 q1964 rfl hmX6_at rfl rfl rfl rfl rfl rfl rfl rfl (k_mono h (fun r7 w8 h => ?_))
    refine x_if_ne (t := 66) 7 dX20_combine_59 rfl rfl (b_ite h (fun hc h => ?_) (fun hc h => ?_))
    · refine x_iconst 0 (z := 0) dX20_combine_66 rfl (by decide) rfl ?_
      exact x_fg (fgk (fgk (fgk (fgk (fgk (fgk (fgd (fgk (fgk (fgk (fgk (fg0)))))))))))) h
    · refine x_iconst 1 (z := 1) dX20_combine_62 rfl (by decide) rfl ?_
      refine x_goto 4 (q := 67) dX20_combine_63 rfl ?_
      exact x_fg (fgk (fgk (fgk (fgk (fgk (fgk (fgd (fgk (fgk (fgk (fgk (fg0)))))))))))) h
theorem sX20_combine_165 {d n : Nat} {w : bW} {Q : Int → bW → Prop} {X : String → bW → Prop} (hn : 143 ≤ n) (a4 : Int) (a5 : Int) (a8 : Int) (a9 : Int) (ha4 : b_is n a4 0 5 3) (h : if a5 ≤ a9 then (b_K d mX6_trim [(2, a4), (0, a5)] n w (fun r1 w2 => Q 0 w2) X) else (if w a4 2 = 0 then (b_K d mX6_trim [(2, a4), (0, a5)] n w (fun r3 w4 => Q 0 w4) X) else ((0 ≤ a9 ∧ a9 < 200) ∧ (if a8 = 0 then (if w (a4 + 1) a9 ≠ 0 then (LX20_combine_165 d n Q X a4 a5 (b_and a8 0) (b_i (a9 + 1)) (b_up w (a4 + 1) a9 (b_and (b_xor (w (a4 + 1) a9) (-1)) 65535))) else (LX20_combine_165 d n Q X a4 a5 (b_and a8 1) (b_i (a9 + 1)) (b_up w (a4 + 1) a9 (b_and (b_xor (w (a4 + 1) a9) (-1)) 65535)))) else (if w (a4 + 1) a9 ≠ 0 then (LX20_combine_165 d n Q X a4 a5 (b_and a8 0) (b_i (a9 + 1)) (b_up w (a4 + 1) a9 (b_and (b_i (-(w (a4 + 1) a9))) 65535))) else (LX20_combine_165 d n Q X a4 a5 (b_and a8 1) (b_i (a9 + 1)) (b_up w (a4 + 1) a9 (b_and (b_i (-(w (a4 + 1) a9))) 65535)))))))) : LX20_combine_165 d n Q X a4 a5 a8 a9 w := by
  refine x_iload 9 dX20_combine_165 rfl rfl ?_
  refine x_iload 5 dX20_combine_167 rfl rfl ?_
  refine x_icmp_ge (t := 237) 68 dX20_combine_169 rfl rfl (b_ite h (fun hc h => ?_) (fun hc h => ?_))
  · refine x_aload 4 dX20_combine_237 rfl rfl rfl rfl ?_
    refine x_iload 5 dX20_combine_239 rfl rfl ?_
    refine y_Vv 43 (M := mX6_trim) (As := [(0, a5)]) (st := []) dX20_combine_241 ha4 rfl q2738 q2110 q2111 q373 q2112 rfl hmX6_trim rfl rfl rfl rfl rfl rfl rfl (k_mono h (fun r1 w2 h => ?_))
    exact y_vret dX20_combine_244 rfl h
  · refine x_aload 4 dX20_combine_172 rfl rfl rfl rfl ?_
    refine y_get 46 2 (c := 5) (z := w a4 2) dX20_combine_174 ha4 rfl in_X6 q636 rfl rfl rfl rfl rfl ?_
    refine x_if_eq (t := 237) 60 dX20_combine_177 rfl rfl (b_ite h (fun hc h => ?_) (fun hc h => ?_))
    · refine x_aload 4 dX20_combine_237 rfl rfl rfl rfl ?_
      refine x_iload 5 dX20_combine_239 rfl rfl ?_
      refine y_Vv 43 (M := mX6_trim) (As := [(0, a5)]) (st := []) dX20_combine_241 ha4 rfl q2738 q2110 q2111 q373 q2112 rfl hmX6_trim rfl rfl rfl rfl rfl rfl rfl (k_mono h (fun r3 w4 h => ?_))
      exact y_vret dX20_combine_244 rfl h
    · refine x_aload 4 dX20_combine_180 rfl rfl rfl rfl ?_
      refine y_getO 39 0 (c := 5) dX20_combine_182 ha4 rfl in_X6 q627 rfl rfl rfl (fun h5 hf => of_X6_0 (Nat.le_trans (Nat.le_of_ble_eq_true rfl) hn) h5 ha4 hf) rfl (fun e5 => ?_)
      refine x_iload 9 dX20_combine_185 rfl rfl ?_
      obtain ⟨e6, h⟩ := h
      refine y_iald (z := w (a4 + 1) a9) dX20_combine_187 ⟨200, e5, e6⟩ rfl rfl ?_
      refine x_istore 10 (ls' := [(9, 0), (9, 0), (9, 0), (9, 0), (2, a4), (0, a5), (9, 0), (9, 0), (0, a8), (0, a9), (0, w (a4 + 1) a9)]) dX20_combine_188 rfl rfl rfl ?_
      refine x_aload 4 dX20_combine_190 rfl rfl rfl rfl ?_
      refine y_getO 39 0 (c := 5) dX20_combine_192 ha4 rfl in_X6 q627 rfl rfl rfl (fun h5 hf => of_X6_0 (Nat.le_trans (Nat.le_of_ble_eq_true rfl) hn) h5 ha4 hf) rfl (fun e7 => ?_)
      refine x_iload 9 dX20_combine_195 rfl rfl ?_
      refine x_iload 8 dX20_combine_197 rfl rfl ?_
      refine x_if_eq (t := 208) 9 dX20_combine_199 rfl rfl (b_ite h (fun hc h => ?_) (fun hc h => ?_))
      · refine x_iload 10 dX20_combine_208 rfl rfl ?_
        refine x_iconst (-1) (z := (-1)) dX20_combine_210 rfl (by decide) rfl ?_
        refine x_ixor dX20_combine_211 rfl ?_
        refine x_ldc 42 (x := 65535) dX20_combine_212 q2737 rfl (by decide) rfl ?_
        refine x_iand dX20_combine_214 rfl ?_
        refine y_iast (x' := b_and (b_xor (w (a4 + 1) a9) (-1)) 65535) dX20_combine_215 ⟨200, e5, e6⟩ rfl rfl ?_
        refine x_iload 8 dX20_combine_216 rfl rfl ?_
        refine x_iload 10 dX20_combine_218 rfl rfl ?_
        refine x_if_ne (t := 227) 7 dX20_combine_220 rfl rfl (b_ite h (fun hc h => ?_) (fun hc h => ?_))
        · refine x_iconst 0 (z := 0) dX20_combine_227 rfl (by decide) rfl ?_
          refine x_iand dX20_combine_228 rfl ?_
          refine x_istore 8 (ls' := [(9, 0), (9, 0), (9, 0), (9, 0), (2, a4), (0, a5), (9, 0), (9, 0), (0, b_and a8 0), (0, a9), (0, w (a4 + 1) a9)]) dX20_combine_229 rfl rfl rfl ?_
          refine x_iinc 9 1 (ls' := [(9, 0), (9, 0), (9, 0), (9, 0), (2, a4), (0, a5), (9, 0), (9, 0), (0, b_and a8 0), (0, b_i (a9 + 1)), (0, w (a4 + 1) a9)]) dX20_combine_231 rfl rfl rfl rfl ?_
          refine x_goto (-69) (q := 165) dX20_combine_234 rfl ?_
          exact x_fg (fgk (fgk (fgk (fgk (fgk (fgk (fgk (fgk (fgk (fgk (fgd (fg0)))))))))))) h
        · refine x_iconst 1 (z := 1) dX20_combine_223 rfl (by decide) rfl ?_
          refine x_goto 4 (q := 228) dX20_combine_224 rfl ?_
          refine x_iand dX20_combine_228 rfl ?_
          refine x_istore 8 (ls' := [(9, 0), (9, 0), (9, 0), (9, 0), (2, a4), (0, a5), (9, 0), (9, 0), (0, b_and a8 1), (0, a9), (0, w (a4 + 1) a9)]) dX20_combine_229 rfl rfl rfl ?_
          refine x_iinc 9 1 (ls' := [(9, 0), (9, 0), (9, 0), (9, 0), (2, a4), (0, a5), (9, 0), (9, 0), (0, b_and a8 1), (0, b_i (a9 + 1)), (0, w (a4 + 1) a9)]) dX20_combine_231 rfl rfl rfl rfl ?_
          refine x_goto (-69) (q := 165) dX20_combine_234 rfl ?_
          exact x_fg (fgk (fgk (fgk (fgk (fgk (fgk (fgk (fgk (fgk (fgk (fgd (fg0)))))))))))) h
      · refine x_iload 10 dX20_combine_202 rfl rfl ?_
        refine x_ineg dX20_combine_204 rfl ?_
        refine x_goto 7 (q := 212) dX20_combine_205 rfl ?_
        refine x_ldc 42 (x := 65535) dX20_combine_212 q2737 rfl (by decide) rfl ?_
        refine x_iand dX20_combine_214 rfl ?_
        refine y_iast (x' := b_and (b_i (-(w (a4 + 1) a9))) 65535) dX20_combine_215 ⟨200, e5, e6⟩ rfl rfl ?_
        refine x_iload 8 dX20_combine_216 rfl rfl ?_
        refine x_iload 10 dX20_combine_218 rfl rfl ?_
        refine x_if_ne (t := 227) 7 dX20_combine_220 rfl rfl (b_ite h (fun hc h => ?_) (fun hc h => ?_))
        · refine x_iconst 0 (z := 0) dX20_combine_227 rfl (by decide) rfl ?_
          refine x_iand dX20_combine_228 rfl ?_
          refine x_istore 8 (ls' := [(9, 0), (9, 0), (9, 0), (9, 0), (2, a4), (0, a5), (9, 0), (9, 0), (0, b_and a8 0), (0, a9), (0, w (a4 + 1) a9)]) dX20_combine_229 rfl rfl rfl ?_
          refine x_iinc 9 1 (ls' := [(9, 0), (9, 0), (9, 0), (9, 0), (2, a4), (0, a5), (9, 0), (9, 0), (0, b_and a8 0), (0, b_i (a9 + 1)), (0, w (a4 + 1) a9)]) dX20_combine_231 rfl rfl rfl rfl ?_
          refine x_goto (-69) (q := 165) dX20_combine_234 rfl ?_
          exact x_fg (fgk (fgk (fgk (fgk (fgk (fgk (fgk (fgk (fgk (fgk (fgd (fg0)))))))))))) h
        · refine x_iconst 1 (z := 1) dX20_combine_223 rfl (by decide) rfl ?_
          refine x_goto 4 (q := 228) dX20_combine_224 rfl ?_
          refine x_iand dX20_combine_228 rfl ?_
          refine x_istore 8 (ls' := [(9, 0), (9, 0), (9, 0), (9, 0), (2, a4), (0, a5), (9, 0), (9, 0), (0, b_and a8 1), (0, a9), (0, w (a4 + 1) a9)]) dX20_combine_229 rfl rfl rfl ?_
          refine x_iinc 9 1 (ls' := [(9, 0), (9, 0), (9, 0), (9, 0), (2, a4), (0, a5), (9, 0), (9, 0), (0, b_and a8 1), (0, b_i (a9 + 1)), (0, w (a4 + 1) a9)]) dX20_combine_231 rfl rfl rfl rfl ?_
          refine x_goto (-69) (q := 165) dX20_combine_234 rfl ?_
          exact x_fg (fgk (fgk (fgk (fgk (fgk (fgk (fgk (fgk (fgk (fgk (fgd (fg0)))))))))))) h
theorem sX20_combine_67 {d n : Nat} {w : bW} {Q : Int → bW → Prop} {X : String → bW → Prop} (hn : 143 ≤ n) (a1 : Int) (a2 : Int) (a3 : Int) (a4 : Int) (a5 : Int) (a7 : Int) (a8 : Int) (a9 : Int) (a10 : Int) (s0 : Int) (s1 : Int) (ha1 : b_is n a1 0 5 3) (ha2 : b_is n a2 0 5 3) (ha4 : b_is n a4 0 5 3) (h : b_K d mX6_at [(2, a2), (0, a8)] n w (fun r1 w2 => if r1 ≠ 0 then (if a3 ≠ 0 then (if a3 ≠ 1 then ((0 ≤ a8 ∧ a8 < 200) ∧ (LX20_combine_24 d n Q X a1 a2 a3 a4 a5 (b_and s1 s0) (b_and a7 0) (b_i (a8 + 1)) (b_up w2 (a4 + 1) a8 (b_xor a9 a10)))) else ((0 ≤ a8 ∧ a8 < 200) ∧ (LX20_combine_24 d n Q X a1 a2 a3 a4 a5 (b_and s1 s0) (b_and a7 0) (b_i (a8 + 1)) (b_up w2 (a4 + 1) a8 (b_or a9 a10))))) else ((0 ≤ a8 ∧ a8 < 200) ∧ (LX20_combine_24 d n Q X a1 a2 a3 a4 a5 (b_and s1 s0) (b_and a7 0) (b_i (a8 + 1)) (b_up w2 (a4 + 1) a8 (b_and a9 a10))))) else (if a3 ≠ 0 then (if a3 ≠ 1 then ((0 ≤ a8 ∧ a8 < 200) ∧ (LX20_combine_24 d n Q X a1 a2 a3 a4 a5 (b_and s1 s0) (b_and a7 1) (b_i (a8 + 1)) (b_up w2 (a4 + 1) a8 (b_xor a9 a10)))) else ((0 ≤ a8 ∧ a8 < 200) ∧ (LX20_combine_24 d n Q X a1 a2 a3 a4 a5 (b_and s1 s0) (b_and a7 1) (b_i (a8 + 1)) (b_up w2 (a4 + 1) a8 (b_or a9 a10))))) else ((0 ≤ a8 ∧ a8 < 200) ∧ (LX20_combine_24 d n Q X a1 a2 a3 a4 a5 (b_and s1 s0) (b_and a7 1) (b_i (a8 + 1)) (b_up w2 (a4 + 1) a8 (b_and a9 a10)))))) X) : LX20_combine_67 d n Q X a1 a2 a3 a4 a5 a7 a8 a9 a10 s0 s1 w := by
  refine x_iand dX20_combine_67 rfl ?_
  refine x_istore 6 (ls' := [(9, 0), (2, a1), (2, a2), (0, a3), (2, a4), (0, a5), (0, b_and s1 s0), (0, a7), (0, a8), (0, a9), (0, a10)]) dX20_combine_68 rfl rfl rfl ?_
  refine x_iload 7 dX20_combine_70 rfl rfl ?_
  refine x_aload_n 2 dX20_combine_72 rfl rfl rfl rfl rfl ?_
  refine x_iload 8 dX20_combine_73 rfl rfl ?_
  refine y_Vi 35 (M := mX6_at) (As := [(0, a8)]) (st := [(0, a7)]) dX20_combine_75 ha2 rfl q2736 q1962 q1963 q373 q1964 rfl hmX6_at rfl rfl rfl rfl rfl rfl rfl rfl (k_mono h (fun r1 w2 h => ?_))
  refine x_if_ne (t := 85) 7 dX20_combine_78 rfl rfl (b_ite h (fun hc h => ?_) (fun hc h => ?_))
  · refine x_iconst 0 (z := 0) dX20_combine_85 rfl (by decide) rfl ?_
    refine x_iand dX20_combine_86 rfl ?_
    refine x_istore 7 (ls' := [(9, 0), (2, a1), (2, a2), (0, a3), (2, a4), (0, a5), (0, b_and s1 s0), (0, b_and a7 0), (0, a8), (0, a9), (0, a10)]) dX20_combine_87 rfl rfl rfl ?_
    refine x_aload 4 dX20_combine_89 rfl rfl rfl rfl ?_
    refine y_getO 39 0 (c := 5) dX20_combine_91 ha4 rfl in_X6 q627 rfl rfl rfl (fun h5 hf => of_X6_0 (Nat.le_trans (Nat.le_of_ble_eq_true rfl) hn) h5 ha4 hf) rfl (fun e3 => ?_)
    refine x_iload 8 dX20_combine_94 rfl rfl ?_
    refine x_iload_n 3 dX20_combine_96 rfl rfl rfl ?_
    refine x_if_ne (t := 108) 11 dX20_combine_97 rfl rfl (b_ite h (fun hc h => ?_) (fun hc h => ?_))
    · refine x_iload_n 3 dX20_combine_108 rfl rfl rfl ?_
      refine x_iconst 1 (z := 1) dX20_combine_109 rfl (by decide) rfl ?_
      refine x_icmp_ne (t := 121) 11 dX20_combine_110 rfl rfl (b_ite h (fun hc h => ?_) (fun hc h => ?_))
      · refine x_iload 9 dX20_combine_121 rfl rfl ?_
        refine x_iload 10 dX20_combine_123 rfl rfl ?_
        refine x_ixor dX20_combine_125 rfl ?_
        obtain ⟨e4, h⟩ := h
        refine y_iast (x' := b_xor a9 a10) dX20_combine_126 ⟨200, e3, e4⟩ rfl rfl ?_
        refine x_iinc 8 1 (ls' := [(9, 0), (2, a1), (2, a2), (0, a3), (2, a4), (0, a5), (0, b_and s1 s0), (0, b_and a7 0), (0, b_i (a8 + 1)), (0, a9), (0, a10)]) dX20_combine_127 rfl rfl rfl rfl ?_
        refine x_goto (-106) (q := 24) dX20_combine_130 rfl ?_
        exact x_fg (fgk (fgk (fgk (fgk (fgk (fgk (fgk (fgk (fgk (fgd (fgd (fg0)))))))))))) h
      · refine x_iload 9 dX20_combine_113 rfl rfl ?_
        refine x_iload 10 dX20_combine_115 rfl rfl ?_
        refine x_ior dX20_combine_117 rfl ?_
        refine x_goto 8 (q := 126) dX20_combine_118 rfl ?_
        obtain ⟨e5, h⟩ := h
        refine y_iast (x' := b_or a9 a10) dX20_combine_126 ⟨200, e3, e5⟩ rfl rfl ?_
        refine x_iinc 8 1 (ls' := [(9, 0), (2, a1), (2, a2), (0, a3), (2, a4), (0, a5), (0, b_and s1 s0), (0, b_and a7 0), (0, b_i (a8 + 1)), (0, a9), (0, a10)]) dX20_combine_127 rfl rfl rfl rfl ?_
        refine x_goto (-106) (q := 24) dX20_combine_130 rfl ?_
        exact x_fg (fgk (fgk (fgk (fgk (fgk (fgk (fgk (fgk (fgk (fgd (fgd (fg0)))))))))))) h
    · refine x_iload 9 dX20_combine_100 rfl rfl ?_
      refine x_iload 10 dX20_combine_102 rfl rfl ?_
      refine x_iand dX20_combine_104 rfl ?_
      refine x_goto 21 (q := 126) dX20_combine_105 rfl ?_
      obtain ⟨e6, h⟩ := h
      refine y_iast (x' := b_and a9 a10) dX20_combine_126 ⟨200, e3, e6⟩ rfl rfl ?_
      refine x_iinc 8 1 (ls' := [(9, 0), (2, a1), (2, a2), (0, a3), (2, a4), (0, a5), (0, b_and s1 s0), (0, b_and a7 0), (0, b_i (a8 + 1)), (0, a9), (0, a10)]) dX20_combine_127 rfl rfl rfl rfl ?_
      refine x_goto (-106) (q := 24) dX20_combine_130 rfl ?_
      exact x_fg (fgk (fgk (fgk (fgk (fgk (fgk (fgk (fgk (fgk (fgd (fgd (fg0)))))))))))) h
  · refine x_iconst 1 (z := 1) dX20_combine_81 rfl (by decide) rfl ?_
    refine x_goto 4 (q := 86) dX20_combine_82 rfl ?_
    refine x_iand dX20_combine_86 rfl ?_
    refine x_istore 7 (ls' := [(9, 0), (2, a1), (2, a2), (0, a3), (2, a4), (0, a5), (0, b_and s1 s0), (0, b_and a7 1), (0, a8), (0, a9), (0, a10)]) dX20_combine_87 rfl rfl rfl ?_
    refine x_aload 4 dX20_combine_89 rfl rfl rfl rfl ?_
    refine y_getO 39 0 (c := 5) dX20_combine_91 ha4 rfl in_X6 q627 rfl rfl rfl (fun h5 hf => of_X6_0 (Nat.le_trans (Nat.le_of_ble_eq_true rfl) hn) h5 ha4 hf) rfl (fun e7 => ?_)
    refine x_iload 8 dX20_combine_94 rfl rfl ?_
    refine x_iload_n 3 dX20_combine_96 rfl rfl rfl ?_
    refine x_if_ne (t := 108) 11 dX20_combine_97 rfl rfl (b_ite h (fun hc h => ?_) (fun hc h => ?_))
    · refine x_iload_n 3 dX20_combine_108 rfl rfl rfl ?_
      refine x_iconst 1 (z := 1) dX20_combine_109 rfl (by decide) rfl ?_
      refine x_icmp_ne (t := 121) 11 dX20_combine_110 rfl rfl (b_ite h (fun hc h => ?_) (fun hc h => ?_))
      · refine x_iload 9 dX20_combine_121 rfl rfl ?_
        refine x_iload 10 dX20_combine_123 rfl rfl ?_
        refine x_ixor dX20_combine_125 rfl ?_
        obtain ⟨e8, h⟩ := h
        refine y_iast (x' := b_xor a9 a10) dX20_combine_126 ⟨200, e7, e8⟩ rfl rfl ?_
        refine x_iinc 8 1 (ls' := [(9, 0), (2, a1), (2, a2), (0, a3), (2, a4), (0, a5), (0, b_and s1 s0), (0, b_and a7 1), (0, b_i (a8 + 1)), (0, a9), (0, a10)]) dX20_combine_127 rfl rfl rfl rfl ?_
        refine x_goto (-106) (q := 24) dX20_combine_130 rfl ?_
        exact x_fg (fgk (fgk (fgk (fgk (fgk (fgk (fgk (fgk (fgk (fgd (fgd (fg0)))))))))))) h
      · refine x_iload 9 dX20_combine_113 rfl rfl ?_
        refine x_iload 10 dX20_combine_115 rfl rfl ?_
        refine x_ior dX20_combine_117 rfl ?_
        refine x_goto 8 (q := 126) dX20_combine_118 rfl ?_
        obtain ⟨e9, h⟩ := h
        refine y_iast (x' := b_or a9 a10) dX20_combine_126 ⟨200, e7, e9⟩ rfl rfl ?_
        refine x_iinc 8 1 (ls' := [(9, 0), (2, a1), (2, a2), (0, a3), (2, a4), (0, a5), (0, b_and s1 s0), (0, b_and a7 1), (0, b_i (a8 + 1)), (0, a9), (0, a10)]) dX20_combine_127 rfl rfl rfl rfl ?_
        refine x_goto (-106) (q := 24) dX20_combine_130 rfl ?_
        exact x_fg (fgk (fgk (fgk (fgk (fgk (fgk (fgk (fgk (fgk (fgd (fgd (fg0)))))))))))) h
    · refine x_iload 9 dX20_combine_100 rfl rfl ?_
      refine x_iload 10 dX20_combine_102 rfl rfl ?_
      refine x_iand dX20_combine_104 rfl ?_
      refine x_goto 21 (q := 126) dX20_combine_105 rfl ?_
      obtain ⟨e10, h⟩ := h
      refine y_iast (x' := b_and a9 a10) dX20_combine_126 ⟨200, e7, e10⟩ rfl rfl ?_
      refine x_iinc 8 1 (ls' := [(9, 0), (2, a1), (2, a2), (0, a3), (2, a4), (0, a5), (0, b_and s1 s0), (0, b_and a7 1), (0, b_i (a8 + 1)), (0, a9), (0, a10)]) dX20_combine_127 rfl rfl rfl rfl ?_
      refine x_goto (-106) (q := 24) dX20_combine_130 rfl ?_
      exact x_fg (fgk (fgk (fgk (fgk (fgk (fgk (fgk (fgk (fgk (fgd (fgd (fg0)))))))))))) h
end RulesX20
