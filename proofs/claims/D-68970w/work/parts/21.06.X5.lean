section RulesX5
set_option maxRecDepth 100000
theorem rX5_begin {d n : Nat} {w : bW} {Q : Int → bW → Prop} {X : String → bW → Prop} (hn : 8 ≤ n) (a1 : Int) (a2 : Int) (h : b_K d mX5_next [(2, 7)] n (b_up (b_up (b_up w 7 0 a1) 7 1 a2) 7 4 0) (fun r1 w2 => Q 0 w2) X) : b_K (d + 1) mX5_begin [(2, 7), (2, a1), (0, a2)] n w Q X := by
  have i7 := iz7 (Nat.le_trans (Nat.le_of_ble_eq_true rfl) hn)
  refine k_of (by decide) rfl rfl rfl (ls := [(2, 7), (2, a1), (0, a2)]) rfl ?_
  refine x_aload_n 0 dX5_begin_0 rfl rfl rfl rfl rfl ?_
  refine x_aload_n 1 dX5_begin_1 rfl rfl rfl rfl rfl ?_
  refine x_put 9 0 (c := 4) dX5_begin_2 i7 rfl in_X5 tyX5_ok nmX5 q600 rfl rfl rfl (Or.inl rfl) (Or.inr (Or.inr (Or.inr ⟨rfl, Or.inr ⟨_, rfl⟩⟩))) rfl ?_
  refine x_aload_n 0 dX5_begin_5 rfl rfl rfl rfl rfl ?_
  refine x_iload_n 2 dX5_begin_6 rfl rfl rfl ?_
  refine x_put 15 1 (c := 4) dX5_begin_7 i7 rfl in_X5 tyX5_ok nmX5 q602 rfl rfl rfl (Or.inl rfl) (Or.inl ⟨rfl, rfl⟩) rfl ?_
  refine x_aload_n 0 dX5_begin_10 rfl rfl rfl rfl rfl ?_
  refine x_iconst 0 (z := 0) dX5_begin_11 rfl (by decide) rfl ?_
  refine x_put 19 4 (c := 4) dX5_begin_12 i7 rfl in_X5 tyX5_ok nmX5 q607 rfl rfl rfl (Or.inl rfl) (Or.inl ⟨rfl, rfl⟩) rfl ?_
  refine x_aload_n 0 dX5_begin_15 rfl rfl rfl rfl rfl ?_
  refine y_Vv 22 (M := mX5_next) (As := []) (st := []) dX5_begin_16 i7 rfl q1683 q1684 q1685 q372 q1686 rfl hmX5_next rfl rfl rfl rfl rfl rfl rfl (k_mono h (fun r1 w2 h => ?_))
  exact y_vret dX5_begin_19 rfl h
abbrev LX5_next_61 (d n : Nat) (Q : Int → bW → Prop) (X : String → bW → Prop) (a1 : Int) (w : bW) : Prop := b_Y (d + 1) mX5_next n Q X 61 [(2, 7), (0, a1), (9, 0)] [] w
abbrev LX5_next_112 (d n : Nat) (Q : Int → bW → Prop) (X : String → bW → Prop) (w : bW) : Prop := b_Y (d + 1) mX5_next n Q X 112 [(2, 7), (9, 0), (9, 0)] [] w
theorem rX5_next {d n : Nat} {w : bW} {Q : Int → bW → Prop} {X : String → bW → Prop} (hn : 8 ≤ n) (h : b_K d mX5_skip [(2, 7)] n w (fun r1 w2 => b_K d mX5_at [(2, 7), (0, w2 7 4)] n (b_up w2 7 3 (w2 7 4)) (fun r3 w4 => if 0 ≤ r3 then (if r3 ≠ 48 then (LX5_next_61 d n Q X r3 w4) else (b_K d mX5_at [(2, 7), (0, b_i ((w4 7 3) + 1))] n w4 (fun r5 w6 => if r5 ≠ 120 then (LX5_next_61 d n Q X r3 w6) else (b_K d mX5_bytes [(2, 7)] n w6 (fun r7 w8 => Q 0 w8) X)) X)) else (Q 0 (b_up w4 7 2 0))) X) X) : b_K (d + 1) mX5_next [(2, 7)] n w Q X := by
  have i7 := iz7 (Nat.le_trans (Nat.le_of_ble_eq_true rfl) hn)
  refine k_of (by decide) rfl rfl rfl (ls := [(2, 7), (9, 0), (9, 0)]) rfl ?_
  refine x_aload_n 0 dX5_next_0 rfl rfl rfl rfl rfl ?_
  refine y_Vv 35 (M := mX5_skip) (As := []) (st := []) dX5_next_1 i7 rfl q1687 q1689 qs5 q372 q1690 rfl hmX5_skip rfl rfl rfl rfl rfl rfl rfl (k_mono h (fun r1 w2 h => ?_))
  refine x_aload_n 0 dX5_next_4 rfl rfl rfl rfl rfl ?_
  refine x_aload_n 0 dX5_next_5 rfl rfl rfl rfl rfl ?_
  refine y_get 19 4 (c := 4) (z := w2 7 4) dX5_next_6 i7 rfl in_X5 q607 rfl rfl rfl rfl rfl ?_
  refine x_put 38 3 (c := 4) dX5_next_9 i7 rfl in_X5 tyX5_ok nmX5 q606 rfl rfl rfl (Or.inl rfl) (Or.inl ⟨rfl, rfl⟩) rfl ?_
  refine x_aload_n 0 dX5_next_12 rfl rfl rfl rfl rfl ?_
  refine x_aload_n 0 dX5_next_13 rfl rfl rfl rfl rfl ?_
  refine y_get 38 3 (c := 4) (z := w2 7 4) dX5_next_14 i7 rfl in_X5 q606 rfl rfl rfl rfl rfl ?_
  refine y_Vi 25 (M := mX5_at) (As := [(0, w2 7 4)]) (st := []) dX5_next_17 i7 rfl q1691 q1693 qs6 q372 q1694 rfl hmX5_at rfl rfl rfl rfl rfl rfl rfl rfl (k_mono h (fun r3 w4 h => ?_))
  refine x_istore_n 1 (ls' := [(2, 7), (0, r3), (9, 0)]) dX5_next_20 rfl rfl rfl rfl ?_
  refine x_iload_n 1 dX5_next_21 rfl rfl rfl ?_
  refine x_if_ge (t := 33) 11 dX5_next_22 rfl rfl (b_ite h (fun hc h => ?_) (fun hc h => ?_))
  · refine x_iload_n 1 dX5_next_33 rfl rfl rfl ?_
    refine x_bipush 48 (z := 48) dX5_next_34 rfl (by decide) rfl ?_
    refine x_icmp_ne (t := 61) 25 dX5_next_36 rfl rfl (b_ite h (fun hc h => ?_) (fun hc h => ?_))
    · exact x_fg (fgk (fgk (fgk (fg0)))) h
    · refine x_aload_n 0 dX5_next_39 rfl rfl rfl rfl rfl ?_
      refine x_aload_n 0 dX5_next_40 rfl rfl rfl rfl rfl ?_
      refine y_get 38 3 (c := 4) (z := w4 7 3) dX5_next_41 i7 rfl in_X5 q606 rfl rfl rfl rfl rfl ?_
      refine x_iconst 1 (z := 1) dX5_next_44 rfl (by decide) rfl ?_
      refine x_iadd dX5_next_45 rfl ?_
      refine y_Vi 25 (M := mX5_at) (As := [(0, b_i ((w4 7 3) + 1))]) (st := []) dX5_next_46 i7 rfl q1691 q1693 qs6 q372 q1694 rfl hmX5_at rfl rfl rfl rfl rfl rfl rfl rfl (k_mono h (fun r5 w6 h => ?_))
      refine x_bipush 120 (z := 120) dX5_next_49 rfl (by decide) rfl ?_
      refine x_icmp_ne (t := 61) 10 dX5_next_51 rfl rfl (b_ite h (fun hc h => ?_) (fun hc h => ?_))
      · exact x_fg (fgk (fgk (fgk (fg0)))) h
      · refine x_aload_n 0 dX5_next_54 rfl rfl rfl rfl rfl ?_
        refine y_Vv 44 (M := mX5_bytes) (As := []) (st := []) dX5_next_55 i7 rfl q1698 q1700 qs7 q372 q1701 rfl hmX5_bytes rfl rfl rfl rfl rfl rfl rfl (k_mono h (fun r7 w8 h => ?_))
        refine x_goto 153 (q := 211) dX5_next_58 rfl ?_
        exact y_vret dX5_next_211 rfl h
  · refine x_aload_n 0 dX5_next_25 rfl rfl rfl rfl rfl ?_
    refine x_iconst 0 (z := 0) dX5_next_26 rfl (by decide) rfl ?_
    refine x_put 41 2 (c := 4) dX5_next_27 i7 rfl in_X5 tyX5_ok nmX5 q604 rfl rfl rfl (Or.inl rfl) (Or.inl ⟨rfl, rfl⟩) rfl ?_
    refine x_goto 181 (q := 211) dX5_next_30 rfl ?_
    exact y_vret dX5_next_211 rfl h
theorem sX5_next_61 {d n : Nat} {w : bW} {Q : Int → bW → Prop} {X : String → bW → Prop} (hn : 8 ≤ n) (a1 : Int) (h : b_K d mX30_isDigit [(0, a1)] n w (fun r1 w2 => if r1 ≠ 0 then (b_K d mX5_number [(2, 7)] n w2 (fun r3 w4 => Q 0 w4) X) else (if a1 ≠ 45 then (if a1 ≠ 34 then (b_K d mX30_isLetter [(0, a1)] n w2 (fun r5 w6 => if r5 ≠ 0 then (LX5_next_112 d n Q X (b_up w6 7 2 5)) else (if a1 ≠ 95 then (if a1 ≠ 37 then (if a1 = 123 then (Q 0 (b_up (b_up w6 7 2 a1) 7 4 (b_i ((w6 7 3) + 1)))) else (if a1 = 125 then (Q 0 (b_up (b_up w6 7 2 a1) 7 4 (b_i ((w6 7 3) + 1)))) else (if a1 = 40 then (Q 0 (b_up (b_up w6 7 2 a1) 7 4 (b_i ((w6 7 3) + 1)))) else (if a1 = 41 then (Q 0 (b_up (b_up w6 7 2 a1) 7 4 (b_i ((w6 7 3) + 1)))) else (if a1 ≠ 59 then (Q 0 (b_up (b_up w6 7 2 1) 7 4 (b_i ((w6 7 3) + 1)))) else (Q 0 (b_up (b_up w6 7 2 a1) 7 4 (b_i ((w6 7 3) + 1))))))))) else (b_K d mX5_mark [(2, 7)] n w6 (fun r7 w8 => Q 0 w8) X)) else (LX5_next_112 d n Q X (b_up w6 7 2 5)))) X) else (b_K d mX5_string [(2, 7)] n w2 (fun r9 w10 => Q 0 w10) X)) else (b_K d mX5_number [(2, 7)] n w2 (fun r11 w12 => Q 0 w12) X))) X) : LX5_next_61 d n Q X a1 w := by
  have i7 := iz7 (Nat.le_trans (Nat.le_of_ble_eq_true rfl) hn)
  refine x_iload_n 1 dX5_next_61 rfl rfl rfl ?_
  refine y_Si 47 (M := mX30_isDigit) (As := [(0, a1)]) (st := []) dX5_next_62 q1708 q1706 q398 q1707 hmX30_isDigit rfl rfl rfl rfl rfl rfl rfl rfl (k_mono h (fun r1 w2 h => ?_))
  refine x_if_ne (t := 74) 9 dX5_next_65 rfl rfl (b_ite h (fun hc h => ?_) (fun hc h => ?_))
  · refine x_aload_n 0 dX5_next_74 rfl rfl rfl rfl rfl ?_
    refine y_Vv 50 (M := mX5_number) (As := []) (st := []) dX5_next_75 i7 rfl q1709 q1711 qs8 q372 q1712 rfl hmX5_number rfl rfl rfl rfl rfl rfl rfl (k_mono h (fun r3 w4 h => ?_))
    refine x_goto 133 (q := 211) dX5_next_78 rfl ?_
    exact y_vret dX5_next_211 rfl h
  · refine x_iload_n 1 dX5_next_68 rfl rfl rfl ?_
    refine x_bipush 45 (z := 45) dX5_next_69 rfl (by decide) rfl ?_
    refine x_icmp_ne (t := 81) 10 dX5_next_71 rfl rfl (b_ite h (fun hc h => ?_) (fun hc h => ?_))
    · refine x_iload_n 1 dX5_next_81 rfl rfl rfl ?_
      refine x_bipush 34 (z := 34) dX5_next_82 rfl (by decide) rfl ?_
      refine x_icmp_ne (t := 94) 10 dX5_next_84 rfl rfl (b_ite h (fun hc h => ?_) (fun hc h => ?_))
      · refine x_iload_n 1 dX5_next_94 rfl rfl rfl ?_
        refine y_Si 56 (M := mX30_isLetter) (As := [(0, a1)]) (st := []) dX5_next_95 q1720 q1721 q398 q1722 hmX30_isLetter rfl rfl rfl rfl rfl rfl rfl rfl (k_mono h (fun r5 w6 h => ?_))
        refine x_if_ne (t := 107) 9 dX5_next_98 rfl rfl (b_ite h (fun hc h => ?_) (fun hc h => ?_))
        · refine x_aload_n 0 dX5_next_107 rfl rfl rfl rfl rfl ?_
          refine x_iconst 5 (z := 5) dX5_next_108 rfl (by decide) rfl ?_
          refine x_put 41 2 (c := 4) dX5_next_109 i7 rfl in_X5 tyX5_ok nmX5 q604 rfl rfl rfl (Or.inl rfl) (Or.inl ⟨rfl, rfl⟩) rfl ?_
          exact x_fg (fgk (fgd (fgk (fg0)))) h
        · refine x_iload_n 1 dX5_next_101 rfl rfl rfl ?_
          refine x_bipush 95 (z := 95) dX5_next_102 rfl (by decide) rfl ?_
          refine x_icmp_ne (t := 139) 35 dX5_next_104 rfl rfl (b_ite h (fun hc h => ?_) (fun hc h => ?_))
          · refine x_iload_n 1 dX5_next_139 rfl rfl rfl ?_
            refine x_bipush 37 (z := 37) dX5_next_140 rfl (by decide) rfl ?_
            refine x_icmp_ne (t := 152) 10 dX5_next_142 rfl rfl (b_ite h (fun hc h => ?_) (fun hc h => ?_))
            · refine x_iload_n 1 dX5_next_152 rfl rfl rfl ?_
              refine x_bipush 123 (z := 123) dX5_next_153 rfl (by decide) rfl ?_
              refine x_icmp_eq (t := 182) 27 dX5_next_155 rfl rfl (b_ite h (fun hc h => ?_) (fun hc h => ?_))
              · refine x_iconst 1 (z := 1) dX5_next_182 rfl (by decide) rfl ?_
                refine x_goto 4 (q := 187) dX5_next_183 rfl ?_
                refine x_istore_n 2 (ls' := [(2, 7), (0, a1), (0, 1)]) dX5_next_187 rfl rfl rfl rfl ?_
                refine x_aload_n 0 dX5_next_188 rfl rfl rfl rfl rfl ?_
                refine x_iload_n 2 dX5_next_189 rfl rfl rfl ?_
                refine x_if_eq (t := 197) 7 dX5_next_190 rfl rfl (b_ifF (by decide) ?_)
                refine x_iload_n 1 dX5_next_193 rfl rfl rfl ?_
                refine x_goto 4 (q := 198) dX5_next_194 rfl ?_
                refine x_put 41 2 (c := 4) dX5_next_198 i7 rfl in_X5 tyX5_ok nmX5 q604 rfl rfl rfl (Or.inl rfl) (Or.inl ⟨rfl, rfl⟩) rfl ?_
                refine x_aload_n 0 dX5_next_201 rfl rfl rfl rfl rfl ?_
                refine x_aload_n 0 dX5_next_202 rfl rfl rfl rfl rfl ?_
                refine y_get 38 3 (c := 4) (z := w6 7 3) dX5_next_203 i7 rfl in_X5 q606 rfl rfl rfl rfl rfl ?_
                refine x_iconst 1 (z := 1) dX5_next_206 rfl (by decide) rfl ?_
                refine x_iadd dX5_next_207 rfl ?_
                refine x_put 19 4 (c := 4) dX5_next_208 i7 rfl in_X5 tyX5_ok nmX5 q607 rfl rfl rfl (Or.inl rfl) (Or.inl ⟨rfl, rfl⟩) rfl ?_
                exact y_vret dX5_next_211 rfl h
              · refine x_iload_n 1 dX5_next_158 rfl rfl rfl ?_
                refine x_bipush 125 (z := 125) dX5_next_159 rfl (by decide) rfl ?_
                refine x_icmp_eq (t := 182) 21 dX5_next_161 rfl rfl (b_ite h (fun hc h => ?_) (fun hc h => ?_))
                · refine x_iconst 1 (z := 1) dX5_next_182 rfl (by decide) rfl ?_
                  refine x_goto 4 (q := 187) dX5_next_183 rfl ?_
                  refine x_istore_n 2 (ls' := [(2, 7), (0, a1), (0, 1)]) dX5_next_187 rfl rfl rfl rfl ?_
                  refine x_aload_n 0 dX5_next_188 rfl rfl rfl rfl rfl ?_
                  refine x_iload_n 2 dX5_next_189 rfl rfl rfl ?_
                  refine x_if_eq (t := 197) 7 dX5_next_190 rfl rfl (b_ifF (by decide) ?_)
                  refine x_iload_n 1 dX5_next_193 rfl rfl rfl ?_
                  refine x_goto 4 (q := 198) dX5_next_194 rfl ?_
                  refine x_put 41 2 (c := 4) dX5_next_198 i7 rfl in_X5 tyX5_ok nmX5 q604 rfl rfl rfl (Or.inl rfl) (Or.inl ⟨rfl, rfl⟩) rfl ?_
                  refine x_aload_n 0 dX5_next_201 rfl rfl rfl rfl rfl ?_
                  refine x_aload_n 0 dX5_next_202 rfl rfl rfl rfl rfl ?_
                  refine y_get 38 3 (c := 4) (z := w6 7 3) dX5_next_203 i7 rfl in_X5 q606 rfl rfl rfl rfl rfl ?_
                  refine x_iconst 1 (z := 1) dX5_next_206 rfl (by decide) rfl ?_
                  refine x_iadd dX5_next_207 rfl ?_
                  refine x_put 19 4 (c := 4) dX5_next_208 i7 rfl in_X5 tyX5_ok nmX5 q607 rfl rfl rfl (Or.inl rfl) (Or.inl ⟨rfl, rfl⟩) rfl ?_
                  exact y_vret dX5_next_211 rfl h
                · refine x_iload_n 1 dX5_next_164 rfl rfl rfl ?_
                  refine x_bipush 40 (z := 40) dX5_next_165 rfl (by decide) rfl ?_
                  refine x_icmp_eq (t := 182) 15 dX5_next_167 rfl rfl (b_ite h (fun hc h => ?_) (fun hc h => ?_))
                  · refine x_iconst 1 (z := 1) dX5_next_182 rfl (by decide) rfl ?_
                    refine x_goto 4 (q := 187) dX5_next_183 rfl ?_
                    refine x_istore_n 2 (ls' := [(2, 7), (0, a1), (0, 1)]) dX5_next_187 rfl rfl rfl rfl ?_
                    refine x_aload_n 0 dX5_next_188 rfl rfl rfl rfl rfl ?_
                    refine x_iload_n 2 dX5_next_189 rfl rfl rfl ?_
                    refine x_if_eq (t := 197) 7 dX5_next_190 rfl rfl (b_ifF (by decide) ?_)
                    refine x_iload_n 1 dX5_next_193 rfl rfl rfl ?_
                    refine x_goto 4 (q := 198) dX5_next_194 rfl ?_
                    refine x_put 41 2 (c := 4) dX5_next_198 i7 rfl in_X5 tyX5_ok nmX5 q604 rfl rfl rfl (Or.inl rfl) (Or.inl ⟨rfl, rfl⟩) rfl ?_
                    refine x_aload_n 0 dX5_next_201 rfl rfl rfl rfl rfl ?_
                    refine x_aload_n 0 dX5_next_202 rfl rfl rfl rfl rfl ?_
                    refine y_get 38 3 (c := 4) (z := w6 7 3) dX5_next_203 i7 rfl in_X5 q606 rfl rfl rfl rfl rfl ?_
                    refine x_iconst 1 (z := 1) dX5_next_206 rfl (by decide) rfl ?_
                    refine x_iadd dX5_next_207 rfl ?_
                    refine x_put 19 4 (c := 4) dX5_next_208 i7 rfl in_X5 tyX5_ok nmX5 q607 rfl rfl rfl (Or.inl rfl) (Or.inl ⟨rfl, rfl⟩) rfl ?_
                    exact y_vret dX5_next_211 rfl h
                  · refine x_iload_n 1 dX5_next_170 rfl rfl rfl ?_
                    refine x_bipush 41 (z := 41) dX5_next_171 rfl (by decide) rfl ?_
                    refine x_icmp_eq (t := 182) 9 dX5_next_173 rfl rfl (b_ite h (fun hc h => ?_) (fun hc h => ?_))
                    · refine x_iconst 1 (z := 1) dX5_next_182 rfl (by decide) rfl ?_
                      refine x_goto 4 (q := 187) dX5_next_183 rfl ?_
                      refine x_istore_n 2 (ls' := [(2, 7), (0, a1), (0, 1)]) dX5_next_187 rfl rfl rfl rfl ?_
                      refine x_aload_n 0 dX5_next_188 rfl rfl rfl rfl rfl ?_
                      refine x_iload_n 2 dX5_next_189 rfl rfl rfl ?_
                      refine x_if_eq (t := 197) 7 dX5_next_190 rfl rfl (b_ifF (by decide) ?_)
                      refine x_iload_n 1 dX5_next_193 rfl rfl rfl ?_
                      refine x_goto 4 (q := 198) dX5_next_194 rfl ?_
                      refine x_put 41 2 (c := 4) dX5_next_198 i7 rfl in_X5 tyX5_ok nmX5 q604 rfl rfl rfl (Or.inl rfl) (Or.inl ⟨rfl, rfl⟩) rfl ?_
                      refine x_aload_n 0 dX5_next_201 rfl rfl rfl rfl rfl ?_
                      refine x_aload_n 0 dX5_next_202 rfl rfl rfl rfl rfl ?_
                      refine y_get 38 3 (c := 4) (z := w6 7 3) dX5_next_203 i7 rfl in_X5 q606 rfl rfl rfl rfl rfl ?_
                      refine x_iconst 1 (z := 1) dX5_next_206 rfl (by decide) rfl ?_
                      refine x_iadd dX5_next_207 rfl ?_
                      refine x_put 19 4 (c := 4) dX5_next_208 i7 rfl in_X5 tyX5_ok nmX5 q607 rfl rfl rfl (Or.inl rfl) (Or.inl ⟨rfl, rfl⟩) rfl ?_
                      exact y_vret dX5_next_211 rfl h
                    · refine x_iload_n 1 dX5_next_176 rfl rfl rfl ?_
                      refine x_bipush 59 (z := 59) dX5_next_177 rfl (by decide) rfl ?_
                      refine x_icmp_ne (t := 186) 7 dX5_next_179 rfl rfl (b_ite h (fun hc h => ?_) (fun hc h => ?_))
                      · refine x_iconst 0 (z := 0) dX5_next_186 rfl (by decide) rfl ?_
                        refine x_istore_n 2 (ls' := [(2, 7), (0, a1), (0, 0)]) dX5_next_187 rfl rfl rfl rfl ?_
                        refine x_aload_n 0 dX5_next_188 rfl rfl rfl rfl rfl ?_
                        refine x_iload_n 2 dX5_next_189 rfl rfl rfl ?_
                        refine x_if_eq (t := 197) 7 dX5_next_190 rfl rfl (b_ifT (by decide) ?_)
                        refine x_iconst 1 (z := 1) dX5_next_197 rfl (by decide) rfl ?_
                        refine x_put 41 2 (c := 4) dX5_next_198 i7 rfl in_X5 tyX5_ok nmX5 q604 rfl rfl rfl (Or.inl rfl) (Or.inl ⟨rfl, rfl⟩) rfl ?_
                        refine x_aload_n 0 dX5_next_201 rfl rfl rfl rfl rfl ?_
                        refine x_aload_n 0 dX5_next_202 rfl rfl rfl rfl rfl ?_
                        refine y_get 38 3 (c := 4) (z := w6 7 3) dX5_next_203 i7 rfl in_X5 q606 rfl rfl rfl rfl rfl ?_
                        refine x_iconst 1 (z := 1) dX5_next_206 rfl (by decide) rfl ?_
                        refine x_iadd dX5_next_207 rfl ?_
                        refine x_put 19 4 (c := 4) dX5_next_208 i7 rfl in_X5 tyX5_ok nmX5 q607 rfl rfl rfl (Or.inl rfl) (Or.inl ⟨rfl, rfl⟩) rfl ?_
                        exact y_vret dX5_next_211 rfl h
                      · refine x_iconst 1 (z := 1) dX5_next_182 rfl (by decide) rfl ?_
                        refine x_goto 4 (q := 187) dX5_next_183 rfl ?_
                        refine x_istore_n 2 (ls' := [(2, 7), (0, a1), (0, 1)]) dX5_next_187 rfl rfl rfl rfl ?_
                        refine x_aload_n 0 dX5_next_188 rfl rfl rfl rfl rfl ?_
                        refine x_iload_n 2 dX5_next_189 rfl rfl rfl ?_
                        refine x_if_eq (t := 197) 7 dX5_next_190 rfl rfl (b_ifF (by decide) ?_)
                        refine x_iload_n 1 dX5_next_193 rfl rfl rfl ?_
                        refine x_goto 4 (q := 198) dX5_next_194 rfl ?_
                        refine x_put 41 2 (c := 4) dX5_next_198 i7 rfl in_X5 tyX5_ok nmX5 q604 rfl rfl rfl (Or.inl rfl) (Or.inl ⟨rfl, rfl⟩) rfl ?_
                        refine x_aload_n 0 dX5_next_201 rfl rfl rfl rfl rfl ?_
                        refine x_aload_n 0 dX5_next_202 rfl rfl rfl rfl rfl ?_
                        refine y_get 38 3 (c := 4) (z := w6 7 3) dX5_next_203 i7 rfl in_X5 q606 rfl rfl rfl rfl rfl ?_
                        refine x_iconst 1 (z := 1) dX5_next_206 rfl (by decide) rfl ?_
                        refine x_iadd dX5_next_207 rfl ?_
                        refine x_put 19 4 (c := 4) dX5_next_208 i7 rfl in_X5 tyX5_ok nmX5 q607 rfl rfl rfl (Or.inl rfl) (Or.inl ⟨rfl, rfl⟩) rfl ?_
                        exact y_vret dX5_next_211 rfl h
            · refine x_aload_n 0 dX5_next_145 rfl rfl rfl rfl rfl ?_
              refine y_Vv 62 (M := mX5_mark) (As := []) (st := []) dX5_next_146 i7 rfl q1727 q1729 qs10 q372 q1730 rfl hmX5_mark rfl rfl rfl rfl rfl rfl rfl (k_mono h (fun r7 w8 h => ?_))
              refine x_goto 62 (q := 211) dX5_next_149 rfl ?_
              exact y_vret dX5_next_211 rfl h
          · refine x_aload_n 0 dX5_next_107 rfl rfl rfl rfl rfl ?_
            refine x_iconst 5 (z := 5) dX5_next_108 rfl (by decide) rfl ?_
            refine x_put 41 2 (c := 4) dX5_next_109 i7 rfl in_X5 tyX5_ok nmX5 q604 rfl rfl rfl (Or.inl rfl) (Or.inl ⟨rfl, rfl⟩) rfl ?_
            exact x_fg (fgk (fgd (fgk (fg0)))) h
      · refine x_aload_n 0 dX5_next_87 rfl rfl rfl rfl rfl ?_
        refine y_Vv 53 (M := mX5_string) (As := []) (st := []) dX5_next_88 i7 rfl q1713 q1715 qs9 q372 q1716 rfl hmX5_string rfl rfl rfl rfl rfl rfl rfl (k_mono h (fun r9 w10 h => ?_))
        refine x_goto 120 (q := 211) dX5_next_91 rfl ?_
        exact y_vret dX5_next_211 rfl h
    · refine x_aload_n 0 dX5_next_74 rfl rfl rfl rfl rfl ?_
      refine y_Vv 50 (M := mX5_number) (As := []) (st := []) dX5_next_75 i7 rfl q1709 q1711 qs8 q372 q1712 rfl hmX5_number rfl rfl rfl rfl rfl rfl rfl (k_mono h (fun r11 w12 h => ?_))
      refine x_goto 133 (q := 211) dX5_next_78 rfl ?_
      exact y_vret dX5_next_211 rfl h
theorem sX5_next_112 {d n : Nat} {w : bW} {Q : Int → bW → Prop} {X : String → bW → Prop} (hn : 8 ≤ n) (h : b_K d mX5_at [(2, 7), (0, w 7 4)] n w (fun r1 w2 => b_K d mX30_isPart [(0, r1)] n w2 (fun r3 w4 => if r3 = 0 then (Q 0 w4) else (LX5_next_112 d n Q X (b_up w4 7 4 (b_i ((w4 7 4) + 1))))) X) X) : LX5_next_112 d n Q X w := by
  have i7 := iz7 (Nat.le_trans (Nat.le_of_ble_eq_true rfl) hn)
  refine x_aload_n 0 dX5_next_112 rfl rfl rfl rfl rfl ?_
  refine x_aload_n 0 dX5_next_113 rfl rfl rfl rfl rfl ?_
  refine y_get 19 4 (c := 4) (z := w 7 4) dX5_next_114 i7 rfl in_X5 q607 rfl rfl rfl rfl rfl ?_
  refine y_Vi 25 (M := mX5_at) (As := [(0, w 7 4)]) (st := []) dX5_next_117 i7 rfl q1691 q1693 qs6 q372 q1694 rfl hmX5_at rfl rfl rfl rfl rfl rfl rfl rfl (k_mono h (fun r1 w2 h => ?_))
  refine y_Si 59 (M := mX30_isPart) (As := [(0, r1)]) (st := []) dX5_next_120 q1723 q1724 q398 q1725 hmX30_isPart rfl rfl rfl rfl rfl rfl rfl rfl (k_mono h (fun r3 w4 h => ?_))
  refine x_if_eq (t := 211) 88 dX5_next_123 rfl rfl (b_ite h (fun hc h => ?_) (fun hc h => ?_))
  · exact y_vret dX5_next_211 rfl h
  · refine x_aload_n 0 dX5_next_126 rfl rfl rfl rfl rfl ?_
    refine x_dup dX5_next_127 rfl rfl ?_
    refine y_get 19 4 (c := 4) (z := w4 7 4) dX5_next_128 i7 rfl in_X5 q607 rfl rfl rfl rfl rfl ?_
    refine x_iconst 1 (z := 1) dX5_next_131 rfl (by decide) rfl ?_
    refine x_iadd dX5_next_132 rfl ?_
    refine x_put 19 4 (c := 4) dX5_next_133 i7 rfl in_X5 tyX5_ok nmX5 q607 rfl rfl rfl (Or.inl rfl) (Or.inl ⟨rfl, rfl⟩) rfl ?_
    refine x_goto (-24) (q := 112) dX5_next_136 rfl ?_
    exact x_fg (fgk (fgk (fgk (fg0)))) h
abbrev LX5_skip_2 (d n : Nat) (Q : Int → bW → Prop) (X : String → bW → Prop) (a1 : Int) (w : bW) : Prop := b_Y (d + 1) mX5_skip n Q X 2 [(2, 7), (0, a1)] [] w
abbrev LX5_skip_6 (d n : Nat) (Q : Int → bW → Prop) (X : String → bW → Prop) (w : bW) : Prop := b_Y (d + 1) mX5_skip n Q X 6 [(2, 7), (9, 0)] [] w
abbrev LX5_skip_52 (d n : Nat) (Q : Int → bW → Prop) (X : String → bW → Prop) (a1 : Int) (w : bW) : Prop := b_Y (d + 1) mX5_skip n Q X 52 [(2, 7), (0, a1)] [] w
theorem rX5_skip {d n : Nat} {w : bW} {Q : Int → bW → Prop} {X : String → bW → Prop} (hn : 8 ≤ n) (h : LX5_skip_2 d n Q X 1 w) : b_K (d + 1) mX5_skip [(2, 7)] n w Q X := by
  refine k_of (by decide) rfl rfl rfl (ls := [(2, 7), (9, 0)]) rfl ?_
  refine x_iconst 1 (z := 1) dX5_skip_0 rfl (by decide) rfl ?_
  refine x_istore_n 1 (ls' := [(2, 7), (0, 1)]) dX5_skip_1 rfl rfl rfl rfl ?_
  exact x_fg (fgk (fgk (fg0))) h
theorem sX5_skip_2 {d n : Nat} {w : bW} {Q : Int → bW → Prop} {X : String → bW → Prop} (hn : 8 ≤ n) (a1 : Int) (h : if a1 = 0 then (Q 0 w) else (LX5_skip_6 d n Q X w)) : LX5_skip_2 d n Q X a1 w := by
  refine x_iload_n 1 dX5_skip_2 rfl rfl rfl ?_
  refine x_if_eq (t := 93) 90 dX5_skip_3 rfl rfl (b_ite h (fun hc h => ?_) (fun hc h => ?_))
  · exact y_vret dX5_skip_93 rfl h
  · exact x_fg (fgk (fgd (fg0))) h
theorem sX5_skip_6 {d n : Nat} {w : bW} {Q : Int → bW → Prop} {X : String → bW → Prop} (hn : 8 ≤ n) (h : b_K d mX5_at [(2, 7), (0, w 7 4)] n w (fun r1 w2 => b_K d mX30_isBlank [(0, r1)] n w2 (fun r3 w4 => if r3 = 0 then (b_K d mX5_at [(2, 7), (0, w4 7 4)] n w4 (fun r5 w6 => if r5 ≠ 35 then (LX5_skip_52 d n Q X 0 w6) else (LX5_skip_52 d n Q X 1 w6)) X) else (LX5_skip_6 d n Q X (b_up w4 7 4 (b_i ((w4 7 4) + 1))))) X) X) : LX5_skip_6 d n Q X w := by
  have i7 := iz7 (Nat.le_trans (Nat.le_of_ble_eq_true rfl) hn)
  refine x_aload_n 0 dX5_skip_6 rfl rfl rfl rfl rfl ?_
  refine x_aload_n 0 dX5_skip_7 rfl rfl rfl rfl rfl ?_
  refine y_get 19 4 (c := 4) (z := w 7 4) dX5_skip_8 i7 rfl in_X5 q607 rfl rfl rfl rfl rfl ?_
  refine y_Vi 25 (M := mX5_at) (As := [(0, w 7 4)]) (st := []) dX5_skip_11 i7 rfl q1691 q1693 qs6 q372 q1694 rfl hmX5_at rfl rfl rfl rfl rfl rfl rfl rfl (k_mono h (fun r1 w2 h => ?_))
  refine y_Si 29 (M := mX30_isBlank) (As := [(0, r1)]) (st := []) dX5_skip_14 q1695 q1696 q398 q1697 hmX30_isBlank rfl rfl rfl rfl rfl rfl rfl rfl (k_mono h (fun r3 w4 h => ?_))
  refine x_if_eq (t := 33) 16 dX5_skip_17 rfl rfl (b_ite h (fun hc h => ?_) (fun hc h => ?_))
  · refine x_aload_n 0 dX5_skip_33 rfl rfl rfl rfl rfl ?_
    refine x_aload_n 0 dX5_skip_34 rfl rfl rfl rfl rfl ?_
    refine y_get 19 4 (c := 4) (z := w4 7 4) dX5_skip_35 i7 rfl in_X5 q607 rfl rfl rfl rfl rfl ?_
    refine y_Vi 25 (M := mX5_at) (As := [(0, w4 7 4)]) (st := []) dX5_skip_38 i7 rfl q1691 q1693 qs6 q372 q1694 rfl hmX5_at rfl rfl rfl rfl rfl rfl rfl rfl (k_mono h (fun r5 w6 h => ?_))
    refine x_bipush 35 (z := 35) dX5_skip_41 rfl (by decide) rfl ?_
    refine x_icmp_ne (t := 50) 7 dX5_skip_43 rfl rfl (b_ite h (fun hc h => ?_) (fun hc h => ?_))
    · refine x_iconst 0 (z := 0) dX5_skip_50 rfl (by decide) rfl ?_
      refine x_istore_n 1 (ls' := [(2, 7), (0, 0)]) dX5_skip_51 rfl rfl rfl rfl ?_
      exact x_fg (fgk (fgk (fg0))) h
    · refine x_iconst 1 (z := 1) dX5_skip_46 rfl (by decide) rfl ?_
      refine x_goto 4 (q := 51) dX5_skip_47 rfl ?_
      refine x_istore_n 1 (ls' := [(2, 7), (0, 1)]) dX5_skip_51 rfl rfl rfl rfl ?_
      exact x_fg (fgk (fgk (fg0))) h
  · refine x_aload_n 0 dX5_skip_20 rfl rfl rfl rfl rfl ?_
    refine x_dup dX5_skip_21 rfl rfl ?_
    refine y_get 19 4 (c := 4) (z := w4 7 4) dX5_skip_22 i7 rfl in_X5 q607 rfl rfl rfl rfl rfl ?_
    refine x_iconst 1 (z := 1) dX5_skip_25 rfl (by decide) rfl ?_
    refine x_iadd dX5_skip_26 rfl ?_
    refine x_put 19 4 (c := 4) dX5_skip_27 i7 rfl in_X5 tyX5_ok nmX5 q607 rfl rfl rfl (Or.inl rfl) (Or.inl ⟨rfl, rfl⟩) rfl ?_
    refine x_goto (-24) (q := 6) dX5_skip_30 rfl ?_
    exact x_fg (fgk (fgk (fg0))) h
theorem sX5_skip_52 {d n : Nat} {w : bW} {Q : Int → bW → Prop} {X : String → bW → Prop} (hn : 8 ≤ n) (a1 : Int) (h : if a1 = 0 then (LX5_skip_2 d n Q X a1 w) else (b_K d mX5_at [(2, 7), (0, w 7 4)] n w (fun r1 w2 => if r1 = 10 then (LX5_skip_2 d n Q X a1 w2) else (b_K d mX5_at [(2, 7), (0, w2 7 4)] n w2 (fun r3 w4 => if r3 < 0 then (LX5_skip_2 d n Q X a1 w4) else (LX5_skip_52 d n Q X a1 (b_up w4 7 4 (b_i ((w4 7 4) + 1))))) X)) X)) : LX5_skip_52 d n Q X a1 w := by
  have i7 := iz7 (Nat.le_trans (Nat.le_of_ble_eq_true rfl) hn)
  refine x_iload_n 1 dX5_skip_52 rfl rfl rfl ?_
  refine x_if_eq (t := 2) (-51) dX5_skip_53 rfl rfl (b_ite h (fun hc h => ?_) (fun hc h => ?_))
  · exact x_fg (fgk (fgk (fg0))) h
  · refine x_aload_n 0 dX5_skip_56 rfl rfl rfl rfl rfl ?_
    refine x_aload_n 0 dX5_skip_57 rfl rfl rfl rfl rfl ?_
    refine y_get 19 4 (c := 4) (z := w 7 4) dX5_skip_58 i7 rfl in_X5 q607 rfl rfl rfl rfl rfl ?_
    refine y_Vi 25 (M := mX5_at) (As := [(0, w 7 4)]) (st := []) dX5_skip_61 i7 rfl q1691 q1693 qs6 q372 q1694 rfl hmX5_at rfl rfl rfl rfl rfl rfl rfl rfl (k_mono h (fun r1 w2 h => ?_))
    refine x_bipush 10 (z := 10) dX5_skip_64 rfl (by decide) rfl ?_
    refine x_icmp_eq (t := 2) (-64) dX5_skip_66 rfl rfl (b_ite h (fun hc h => ?_) (fun hc h => ?_))
    · exact x_fg (fgk (fgk (fg0))) h
    · refine x_aload_n 0 dX5_skip_69 rfl rfl rfl rfl rfl ?_
      refine x_aload_n 0 dX5_skip_70 rfl rfl rfl rfl rfl ?_
      refine y_get 19 4 (c := 4) (z := w2 7 4) dX5_skip_71 i7 rfl in_X5 q607 rfl rfl rfl rfl rfl ?_
      refine y_Vi 25 (M := mX5_at) (As := [(0, w2 7 4)]) (st := []) dX5_skip_74 i7 rfl q1691 q1693 qs6 q372 q1694 rfl hmX5_at rfl rfl rfl rfl rfl rfl rfl rfl (k_mono h (fun r3 w4 h => ?_))
      refine x_if_lt (t := 2) (-75) dX5_skip_77 rfl rfl (b_ite h (fun hc h => ?_) (fun hc h => ?_))
      · exact x_fg (fgk (fgk (fg0))) h
      · refine x_aload_n 0 dX5_skip_80 rfl rfl rfl rfl rfl ?_
        refine x_dup dX5_skip_81 rfl rfl ?_
        refine y_get 19 4 (c := 4) (z := w4 7 4) dX5_skip_82 i7 rfl in_X5 q607 rfl rfl rfl rfl rfl ?_
        refine x_iconst 1 (z := 1) dX5_skip_85 rfl (by decide) rfl ?_
        refine x_iadd dX5_skip_86 rfl ?_
        refine x_put 19 4 (c := 4) dX5_skip_87 i7 rfl in_X5 tyX5_ok nmX5 q607 rfl rfl rfl (Or.inl rfl) (Or.inl ⟨rfl, rfl⟩) rfl ?_
        refine x_goto (-38) (q := 52) dX5_skip_90 rfl ?_
        exact x_fg (fgk (fgk (fg0))) h
theorem rX5_at {d n : Nat} {w : bW} {Q : Int → bW → Prop} {X : String → bW → Prop} (hn : 8 ≤ n) (a1 : Int) (h : if w 7 1 ≤ a1 then (Q (-1) w) else (b_ai n (w 7 0) 1 1 a1 ∧ (Q (b_and (w (w 7 0) a1) 255) w))) : b_K (d + 1) mX5_at [(2, 7), (0, a1)] n w Q X := by
  have i7 := iz7 (Nat.le_trans (Nat.le_of_ble_eq_true rfl) hn)
  refine k_of (by decide) rfl rfl rfl (ls := [(2, 7), (0, a1)]) rfl ?_
  refine x_iload_n 1 dX5_at_0 rfl rfl rfl ?_
  refine x_aload_n 0 dX5_at_1 rfl rfl rfl rfl rfl ?_
  refine y_get 15 1 (c := 4) (z := w 7 1) dX5_at_2 i7 rfl in_X5 q602 rfl rfl rfl rfl rfl ?_
  refine x_icmp_ge (t := 21) 16 dX5_at_5 rfl rfl (b_ite h (fun hc h => ?_) (fun hc h => ?_))
  · refine x_iconst (-1) (z := (-1)) dX5_at_21 rfl (by decide) rfl ?_
    exact y_iret dX5_at_22 rfl h
  · refine x_aload_n 0 dX5_at_8 rfl rfl rfl rfl rfl ?_
    refine y_get 9 0 (c := 4) (z := w 7 0) dX5_at_9 i7 rfl in_X5 q600 rfl rfl rfl rfl rfl ?_
    refine x_iload_n 1 dX5_at_12 rfl rfl rfl ?_
    obtain ⟨e1, h⟩ := h
    refine y_bald (z := w (w 7 0) a1) dX5_at_13 e1 rfl rfl ?_
    refine x_sipush 255 (z := 255) dX5_at_14 rfl (by decide) rfl ?_
    refine x_iand dX5_at_17 rfl ?_
    refine x_goto 4 (q := 22) dX5_at_18 rfl ?_
    exact y_iret dX5_at_22 rfl h
abbrev LX5_bytes_10 (d n : Nat) (Q : Int → bW → Prop) (X : String → bW → Prop) (w : bW) : Prop := b_Y (d + 1) mX5_bytes n Q X 10 [(2, 7)] [] w
theorem rX5_bytes {d n : Nat} {w : bW} {Q : Int → bW → Prop} {X : String → bW → Prop} (hn : 8 ≤ n) (h : LX5_bytes_10 d n Q X (b_up w 7 4 (b_i ((w 7 3) + 2)))) : b_K (d + 1) mX5_bytes [(2, 7)] n w Q X := by
  have i7 := iz7 (Nat.le_trans (Nat.le_of_ble_eq_true rfl) hn)
  refine k_of (by decide) rfl rfl rfl (ls := [(2, 7)]) rfl ?_
  refine x_aload_n 0 dX5_bytes_0 rfl rfl rfl rfl rfl ?_
  refine x_aload_n 0 dX5_bytes_1 rfl rfl rfl rfl rfl ?_
  refine y_get 38 3 (c := 4) (z := w 7 3) dX5_bytes_2 i7 rfl in_X5 q606 rfl rfl rfl rfl rfl ?_
  refine x_iconst 2 (z := 2) dX5_bytes_5 rfl (by decide) rfl ?_
  refine x_iadd dX5_bytes_6 rfl ?_
  refine x_put 19 4 (c := 4) dX5_bytes_7 i7 rfl in_X5 tyX5_ok nmX5 q607 rfl rfl rfl (Or.inl rfl) (Or.inl ⟨rfl, rfl⟩) rfl ?_
  exact x_fg (fgk (fg0)) h
theorem sX5_bytes_10 {d n : Nat} {w : bW} {Q : Int → bW → Prop} {X : String → bW → Prop} (hn : 8 ≤ n) (h : b_K d mX5_at [(2, 7), (0, w 7 4)] n w (fun r1 w2 => b_K d mX30_hex [(0, r1)] n w2 (fun r3 w4 => if r3 < 0 then (if b_rem (b_i ((w4 7 4) - (w4 7 3))) 2 ≠ 0 then (Q 0 (b_up w4 7 2 1)) else (Q 0 (b_up w4 7 2 4))) else (LX5_bytes_10 d n Q X (b_up w4 7 4 (b_i ((w4 7 4) + 1))))) X) X) : LX5_bytes_10 d n Q X w := by
  have i7 := iz7 (Nat.le_trans (Nat.le_of_ble_eq_true rfl) hn)
  refine x_aload_n 0 dX5_bytes_10 rfl rfl rfl rfl rfl ?_
  refine x_aload_n 0 dX5_bytes_11 rfl rfl rfl rfl rfl ?_
  refine y_get 19 4 (c := 4) (z := w 7 4) dX5_bytes_12 i7 rfl in_X5 q607 rfl rfl rfl rfl rfl ?_
  refine y_Vi 25 (M := mX5_at) (As := [(0, w 7 4)]) (st := []) dX5_bytes_15 i7 rfl q1691 q1693 qs6 q372 q1694 rfl hmX5_at rfl rfl rfl rfl rfl rfl rfl rfl (k_mono h (fun r1 w2 h => ?_))
  refine y_Si 65 (M := mX30_hex) (As := [(0, r1)]) (st := []) dX5_bytes_18 q1702 q1703 q398 q1704 hmX30_hex rfl rfl rfl rfl rfl rfl rfl rfl (k_mono h (fun r3 w4 h => ?_))
  refine x_if_lt (t := 37) 16 dX5_bytes_21 rfl rfl (b_ite h (fun hc h => ?_) (fun hc h => ?_))
  · refine x_aload_n 0 dX5_bytes_37 rfl rfl rfl rfl rfl ?_
    refine x_aload_n 0 dX5_bytes_38 rfl rfl rfl rfl rfl ?_
    refine y_get 19 4 (c := 4) (z := w4 7 4) dX5_bytes_39 i7 rfl in_X5 q607 rfl rfl rfl rfl rfl ?_
    refine x_aload_n 0 dX5_bytes_42 rfl rfl rfl rfl rfl ?_
    refine y_get 38 3 (c := 4) (z := w4 7 3) dX5_bytes_43 i7 rfl in_X5 q606 rfl rfl rfl rfl rfl ?_
    refine x_isub dX5_bytes_46 rfl ?_
    refine x_iconst 2 (z := 2) dX5_bytes_47 rfl (by decide) rfl ?_
    refine x_irem dX5_bytes_48 (by decide) rfl ?_
    refine x_if_ne (t := 56) 7 dX5_bytes_49 rfl rfl (b_ite h (fun hc h => ?_) (fun hc h => ?_))
    · refine x_iconst 1 (z := 1) dX5_bytes_56 rfl (by decide) rfl ?_
      refine x_put 41 2 (c := 4) dX5_bytes_57 i7 rfl in_X5 tyX5_ok nmX5 q604 rfl rfl rfl (Or.inl rfl) (Or.inl ⟨rfl, rfl⟩) rfl ?_
      exact y_vret dX5_bytes_60 rfl h
    · refine x_iconst 4 (z := 4) dX5_bytes_52 rfl (by decide) rfl ?_
      refine x_goto 4 (q := 57) dX5_bytes_53 rfl ?_
      refine x_put 41 2 (c := 4) dX5_bytes_57 i7 rfl in_X5 tyX5_ok nmX5 q604 rfl rfl rfl (Or.inl rfl) (Or.inl ⟨rfl, rfl⟩) rfl ?_
      exact y_vret dX5_bytes_60 rfl h
  · refine x_aload_n 0 dX5_bytes_24 rfl rfl rfl rfl rfl ?_
    refine x_dup dX5_bytes_25 rfl rfl ?_
    refine y_get 19 4 (c := 4) (z := w4 7 4) dX5_bytes_26 i7 rfl in_X5 q607 rfl rfl rfl rfl rfl ?_
    refine x_iconst 1 (z := 1) dX5_bytes_29 rfl (by decide) rfl ?_
    refine x_iadd dX5_bytes_30 rfl ?_
    refine x_put 19 4 (c := 4) dX5_bytes_31 i7 rfl in_X5 tyX5_ok nmX5 q607 rfl rfl rfl (Or.inl rfl) (Or.inl ⟨rfl, rfl⟩) rfl ?_
    refine x_goto (-24) (q := 10) dX5_bytes_34 rfl ?_
    exact x_fg (fgk (fg0)) h
abbrev LX5_number_50 (d n : Nat) (Q : Int → bW → Prop) (X : String → bW → Prop) (w : bW) : Prop := b_Y (d + 1) mX5_number n Q X 50 [(2, 7)] [] w
theorem rX5_number {d n : Nat} {w : bW} {Q : Int → bW → Prop} {X : String → bW → Prop} (hn : 8 ≤ n) (h : b_K d mX5_at [(2, 7), (0, w 7 3)] n w (fun r1 w2 => if r1 ≠ 45 then (b_K d mX5_at [(2, 7), (0, b_i ((w 7 3) + 0))] n (b_up w2 7 4 (b_i ((w 7 3) + 0))) (fun r3 w4 => b_K d mX30_isDigit [(0, r3)] n w4 (fun r5 w6 => if r5 = 0 then (LX5_number_50 d n Q X (b_up w6 7 2 1)) else (LX5_number_50 d n Q X (b_up w6 7 2 2))) X) X) else (b_K d mX5_at [(2, 7), (0, b_i ((w 7 3) + 1))] n (b_up w2 7 4 (b_i ((w 7 3) + 1))) (fun r7 w8 => b_K d mX30_isDigit [(0, r7)] n w8 (fun r9 w10 => if r9 = 0 then (LX5_number_50 d n Q X (b_up w10 7 2 1)) else (LX5_number_50 d n Q X (b_up w10 7 2 2))) X) X)) X) : b_K (d + 1) mX5_number [(2, 7)] n w Q X := by
  have i7 := iz7 (Nat.le_trans (Nat.le_of_ble_eq_true rfl) hn)
  refine k_of (by decide) rfl rfl rfl (ls := [(2, 7)]) rfl ?_
  refine x_aload_n 0 dX5_number_0 rfl rfl rfl rfl rfl ?_
  refine x_aload_n 0 dX5_number_1 rfl rfl rfl rfl rfl ?_
  refine y_get 38 3 (c := 4) (z := w 7 3) dX5_number_2 i7 rfl in_X5 q606 rfl rfl rfl rfl rfl ?_
  refine x_aload_n 0 dX5_number_5 rfl rfl rfl rfl rfl ?_
  refine x_aload_n 0 dX5_number_6 rfl rfl rfl rfl rfl ?_
  refine y_get 38 3 (c := 4) (z := w 7 3) dX5_number_7 i7 rfl in_X5 q606 rfl rfl rfl rfl rfl ?_
  refine y_Vi 25 (M := mX5_at) (As := [(0, w 7 3)]) (st := [(0, w 7 3), (2, 7)]) dX5_number_10 i7 rfl q1691 q1693 qs6 q372 q1694 rfl hmX5_at rfl rfl rfl rfl rfl rfl rfl rfl (k_mono h (fun r1 w2 h => ?_))
  refine x_bipush 45 (z := 45) dX5_number_13 rfl (by decide) rfl ?_
  refine x_icmp_ne (t := 22) 7 dX5_number_15 rfl rfl (b_ite h (fun hc h => ?_) (fun hc h => ?_))
  · refine x_iconst 0 (z := 0) dX5_number_22 rfl (by decide) rfl ?_
    refine x_iadd dX5_number_23 rfl ?_
    refine x_put 19 4 (c := 4) dX5_number_24 i7 rfl in_X5 tyX5_ok nmX5 q607 rfl rfl rfl (Or.inl rfl) (Or.inl ⟨rfl, rfl⟩) rfl ?_
    refine x_aload_n 0 dX5_number_27 rfl rfl rfl rfl rfl ?_
    refine x_aload_n 0 dX5_number_28 rfl rfl rfl rfl rfl ?_
    refine x_aload_n 0 dX5_number_29 rfl rfl rfl rfl rfl ?_
    refine y_get 19 4 (c := 4) (z := b_i ((w 7 3) + 0)) dX5_number_30 i7 rfl in_X5 q607 rfl rfl rfl rfl rfl ?_
    refine y_Vi 25 (M := mX5_at) (As := [(0, b_i ((w 7 3) + 0))]) (st := [(2, 7)]) dX5_number_33 i7 rfl q1691 q1693 qs6 q372 q1694 rfl hmX5_at rfl rfl rfl rfl rfl rfl rfl rfl (k_mono h (fun r3 w4 h => ?_))
    refine y_Si 47 (M := mX30_isDigit) (As := [(0, r3)]) (st := [(2, 7)]) dX5_number_36 q1708 q1706 q398 q1707 hmX30_isDigit rfl rfl rfl rfl rfl rfl rfl rfl (k_mono h (fun r5 w6 h => ?_))
    refine x_if_eq (t := 46) 7 dX5_number_39 rfl rfl (b_ite h (fun hc h => ?_) (fun hc h => ?_))
    · refine x_iconst 1 (z := 1) dX5_number_46 rfl (by decide) rfl ?_
      refine x_put 41 2 (c := 4) dX5_number_47 i7 rfl in_X5 tyX5_ok nmX5 q604 rfl rfl rfl (Or.inl rfl) (Or.inl ⟨rfl, rfl⟩) rfl ?_
      exact x_fg (fgk (fg0)) h
    · refine x_iconst 2 (z := 2) dX5_number_42 rfl (by decide) rfl ?_
      refine x_goto 4 (q := 47) dX5_number_43 rfl ?_
      refine x_put 41 2 (c := 4) dX5_number_47 i7 rfl in_X5 tyX5_ok nmX5 q604 rfl rfl rfl (Or.inl rfl) (Or.inl ⟨rfl, rfl⟩) rfl ?_
      exact x_fg (fgk (fg0)) h
  · refine x_iconst 1 (z := 1) dX5_number_18 rfl (by decide) rfl ?_
    refine x_goto 4 (q := 23) dX5_number_19 rfl ?_
    refine x_iadd dX5_number_23 rfl ?_
    refine x_put 19 4 (c := 4) dX5_number_24 i7 rfl in_X5 tyX5_ok nmX5 q607 rfl rfl rfl (Or.inl rfl) (Or.inl ⟨rfl, rfl⟩) rfl ?_
    refine x_aload_n 0 dX5_number_27 rfl rfl rfl rfl rfl ?_
    refine x_aload_n 0 dX5_number_28 rfl rfl rfl rfl rfl ?_
    refine x_aload_n 0 dX5_number_29 rfl rfl rfl rfl rfl ?_
    refine y_get 19 4 (c := 4) (z := b_i ((w 7 3) + 1)) dX5_number_30 i7 rfl in_X5 q607 rfl rfl rfl rfl rfl ?_
    refine y_Vi 25 (M := mX5_at) (As := [(0, b_i ((w 7 3) + 1))]) (st := [(2, 7)]) dX5_number_33 i7 rfl q1691 q1693 qs6 q372 q1694 rfl hmX5_at rfl rfl rfl rfl rfl rfl rfl rfl (k_mono h (fun r7 w8 h => ?_))
    refine y_Si 47 (M := mX30_isDigit) (As := [(0, r7)]) (st := [(2, 7)]) dX5_number_36 q1708 q1706 q398 q1707 hmX30_isDigit rfl rfl rfl rfl rfl rfl rfl rfl (k_mono h (fun r9 w10 h => ?_))
    refine x_if_eq (t := 46) 7 dX5_number_39 rfl rfl (b_ite h (fun hc h => ?_) (fun hc h => ?_))
    · refine x_iconst 1 (z := 1) dX5_number_46 rfl (by decide) rfl ?_
      refine x_put 41 2 (c := 4) dX5_number_47 i7 rfl in_X5 tyX5_ok nmX5 q604 rfl rfl rfl (Or.inl rfl) (Or.inl ⟨rfl, rfl⟩) rfl ?_
      exact x_fg (fgk (fg0)) h
    · refine x_iconst 2 (z := 2) dX5_number_42 rfl (by decide) rfl ?_
      refine x_goto 4 (q := 47) dX5_number_43 rfl ?_
      refine x_put 41 2 (c := 4) dX5_number_47 i7 rfl in_X5 tyX5_ok nmX5 q604 rfl rfl rfl (Or.inl rfl) (Or.inl ⟨rfl, rfl⟩) rfl ?_
      exact x_fg (fgk (fg0)) h
theorem sX5_number_50 {d n : Nat} {w : bW} {Q : Int → bW → Prop} {X : String → bW → Prop} (hn : 8 ≤ n) (h : b_K d mX5_at [(2, 7), (0, w 7 4)] n w (fun r1 w2 => b_K d mX30_isDigit [(0, r1)] n w2 (fun r3 w4 => if r3 = 0 then (Q 0 w4) else (LX5_number_50 d n Q X (b_up w4 7 4 (b_i ((w4 7 4) + 1))))) X) X) : LX5_number_50 d n Q X w := by
  have i7 := iz7 (Nat.le_trans (Nat.le_of_ble_eq_true rfl) hn)
  refine x_aload_n 0 dX5_number_50 rfl rfl rfl rfl rfl ?_
  refine x_aload_n 0 dX5_number_51 rfl rfl rfl rfl rfl ?_
  refine y_get 19 4 (c := 4) (z := w 7 4) dX5_number_52 i7 rfl in_X5 q607 rfl rfl rfl rfl rfl ?_
  refine y_Vi 25 (M := mX5_at) (As := [(0, w 7 4)]) (st := []) dX5_number_55 i7 rfl q1691 q1693 qs6 q372 q1694 rfl hmX5_at rfl rfl rfl rfl rfl rfl rfl rfl (k_mono h (fun r1 w2 h => ?_))
  refine y_Si 47 (M := mX30_isDigit) (As := [(0, r1)]) (st := []) dX5_number_58 q1708 q1706 q398 q1707 hmX30_isDigit rfl rfl rfl rfl rfl rfl rfl rfl (k_mono h (fun r3 w4 h => ?_))
  refine x_if_eq (t := 77) 16 dX5_number_61 rfl rfl (b_ite h (fun hc h => ?_) (fun hc h => ?_))
  · exact y_vret dX5_number_77 rfl h
  · refine x_aload_n 0 dX5_number_64 rfl rfl rfl rfl rfl ?_
    refine x_dup dX5_number_65 rfl rfl ?_
    refine y_get 19 4 (c := 4) (z := w4 7 4) dX5_number_66 i7 rfl in_X5 q607 rfl rfl rfl rfl rfl ?_
    refine x_iconst 1 (z := 1) dX5_number_69 rfl (by decide) rfl ?_
    refine x_iadd dX5_number_70 rfl ?_
    refine x_put 19 4 (c := 4) dX5_number_71 i7 rfl in_X5 tyX5_ok nmX5 q607 rfl rfl rfl (Or.inl rfl) (Or.inl ⟨rfl, rfl⟩) rfl ?_
    refine x_goto (-24) (q := 50) dX5_number_74 rfl ?_
    exact x_fg (fgk (fg0)) h
abbrev LX5_string_15 (d n : Nat) (Q : Int → bW → Prop) (X : String → bW → Prop) (w : bW) : Prop := b_Y (d + 1) mX5_string n Q X 15 [(2, 7), (9, 0)] [] w
theorem rX5_string {d n : Nat} {w : bW} {Q : Int → bW → Prop} {X : String → bW → Prop} (hn : 8 ≤ n) (h : LX5_string_15 d n Q X (b_up (b_up w 7 2 3) 7 4 (b_i ((w 7 3) + 1)))) : b_K (d + 1) mX5_string [(2, 7)] n w Q X := by
  have i7 := iz7 (Nat.le_trans (Nat.le_of_ble_eq_true rfl) hn)
  refine k_of (by decide) rfl rfl rfl (ls := [(2, 7), (9, 0)]) rfl ?_
  refine x_aload_n 0 dX5_string_0 rfl rfl rfl rfl rfl ?_
  refine x_iconst 3 (z := 3) dX5_string_1 rfl (by decide) rfl ?_
  refine x_put 41 2 (c := 4) dX5_string_2 i7 rfl in_X5 tyX5_ok nmX5 q604 rfl rfl rfl (Or.inl rfl) (Or.inl ⟨rfl, rfl⟩) rfl ?_
  refine x_aload_n 0 dX5_string_5 rfl rfl rfl rfl rfl ?_
  refine x_aload_n 0 dX5_string_6 rfl rfl rfl rfl rfl ?_
  refine y_get 38 3 (c := 4) (z := w 7 3) dX5_string_7 i7 rfl in_X5 q606 rfl rfl rfl rfl rfl ?_
  refine x_iconst 1 (z := 1) dX5_string_10 rfl (by decide) rfl ?_
  refine x_iadd dX5_string_11 rfl ?_
  refine x_put 19 4 (c := 4) dX5_string_12 i7 rfl in_X5 tyX5_ok nmX5 q607 rfl rfl rfl (Or.inl rfl) (Or.inl ⟨rfl, rfl⟩) rfl ?_
  exact x_fg (fgk (fgk (fg0))) h
theorem sX5_string_15 {d n : Nat} {w : bW} {Q : Int → bW → Prop} {X : String → bW → Prop} (hn : 8 ≤ n) (h : if w 7 2 ≠ 3 then (Q 0 (b_up w 7 4 (b_i ((w 7 4) + 1)))) else (b_K d mX5_at [(2, 7), (0, w 7 4)] n w (fun r1 w2 => if r1 = 34 then (Q 0 (b_up w2 7 4 (b_i ((w2 7 4) + 1)))) else (b_K d mX5_at [(2, 7), (0, w2 7 4)] n w2 (fun r3 w4 => if r3 ≠ 92 then (b_K d mX5_at [(2, 7), (0, w4 7 4)] n w4 (fun r5 w6 => b_K d mX30_isPlain [(0, r5)] n w6 (fun r7 w8 => if r7 = 0 then (LX5_string_15 d n Q X (b_up (b_up w8 7 2 1) 7 4 (b_i ((w8 7 4) + 1)))) else (LX5_string_15 d n Q X (b_up (b_up w8 7 2 3) 7 4 (b_i ((w8 7 4) + 1))))) X) X) else (b_K d mX5_at [(2, 7), (0, b_i ((w4 7 4) + 1))] n w4 (fun r9 w10 => if r9 = 92 then (LX5_string_15 d n Q X (b_up (b_up w10 7 2 3) 7 4 (b_i ((w10 7 4) + 2)))) else (if r9 = 34 then (LX5_string_15 d n Q X (b_up (b_up w10 7 2 3) 7 4 (b_i ((w10 7 4) + 2)))) else (if r9 ≠ 110 then (LX5_string_15 d n Q X (b_up (b_up w10 7 2 1) 7 4 (b_i ((w10 7 4) + 2)))) else (LX5_string_15 d n Q X (b_up (b_up w10 7 2 3) 7 4 (b_i ((w10 7 4) + 2))))))) X)) X)) X)) : LX5_string_15 d n Q X w := by
  have i7 := iz7 (Nat.le_trans (Nat.le_of_ble_eq_true rfl) hn)
  refine x_aload_n 0 dX5_string_15 rfl rfl rfl rfl rfl ?_
  refine y_get 41 2 (c := 4) (z := w 7 2) dX5_string_16 i7 rfl in_X5 q604 rfl rfl rfl rfl rfl ?_
  refine x_iconst 3 (z := 3) dX5_string_19 rfl (by decide) rfl ?_
  refine x_icmp_ne (t := 136) 116 dX5_string_20 rfl rfl (b_ite h (fun hc h => ?_) (fun hc h => ?_))
  · refine x_aload_n 0 dX5_string_136 rfl rfl rfl rfl rfl ?_
    refine x_dup dX5_string_137 rfl rfl ?_
    refine y_get 19 4 (c := 4) (z := w 7 4) dX5_string_138 i7 rfl in_X5 q607 rfl rfl rfl rfl rfl ?_
    refine x_iconst 1 (z := 1) dX5_string_141 rfl (by decide) rfl ?_
    refine x_iadd dX5_string_142 rfl ?_
    refine x_put 19 4 (c := 4) dX5_string_143 i7 rfl in_X5 tyX5_ok nmX5 q607 rfl rfl rfl (Or.inl rfl) (Or.inl ⟨rfl, rfl⟩) rfl ?_
    exact y_vret dX5_string_146 rfl h
  · refine x_aload_n 0 dX5_string_23 rfl rfl rfl rfl rfl ?_
    refine x_aload_n 0 dX5_string_24 rfl rfl rfl rfl rfl ?_
    refine y_get 19 4 (c := 4) (z := w 7 4) dX5_string_25 i7 rfl in_X5 q607 rfl rfl rfl rfl rfl ?_
    refine y_Vi 25 (M := mX5_at) (As := [(0, w 7 4)]) (st := []) dX5_string_28 i7 rfl q1691 q1693 qs6 q372 q1694 rfl hmX5_at rfl rfl rfl rfl rfl rfl rfl rfl (k_mono h (fun r1 w2 h => ?_))
    refine x_bipush 34 (z := 34) dX5_string_31 rfl (by decide) rfl ?_
    refine x_icmp_eq (t := 136) 103 dX5_string_33 rfl rfl (b_ite h (fun hc h => ?_) (fun hc h => ?_))
    · refine x_aload_n 0 dX5_string_136 rfl rfl rfl rfl rfl ?_
      refine x_dup dX5_string_137 rfl rfl ?_
      refine y_get 19 4 (c := 4) (z := w2 7 4) dX5_string_138 i7 rfl in_X5 q607 rfl rfl rfl rfl rfl ?_
      refine x_iconst 1 (z := 1) dX5_string_141 rfl (by decide) rfl ?_
      refine x_iadd dX5_string_142 rfl ?_
      refine x_put 19 4 (c := 4) dX5_string_143 i7 rfl in_X5 tyX5_ok nmX5 q607 rfl rfl rfl (Or.inl rfl) (Or.inl ⟨rfl, rfl⟩) rfl ?_
      exact y_vret dX5_string_146 rfl h
    · refine x_aload_n 0 dX5_string_36 rfl rfl rfl rfl rfl ?_
      refine x_aload_n 0 dX5_string_37 rfl rfl rfl rfl rfl ?_
      refine y_get 19 4 (c := 4) (z := w2 7 4) dX5_string_38 i7 rfl in_X5 q607 rfl rfl rfl rfl rfl ?_
      refine y_Vi 25 (M := mX5_at) (As := [(0, w2 7 4)]) (st := []) dX5_string_41 i7 rfl q1691 q1693 qs6 q372 q1694 rfl hmX5_at rfl rfl rfl rfl rfl rfl rfl rfl (k_mono h (fun r3 w4 h => ?_))
      refine x_bipush 92 (z := 92) dX5_string_44 rfl (by decide) rfl ?_
      refine x_icmp_ne (t := 100) 54 dX5_string_46 rfl rfl (b_ite h (fun hc h => ?_) (fun hc h => ?_))
      · refine x_aload_n 0 dX5_string_100 rfl rfl rfl rfl rfl ?_
        refine x_aload_n 0 dX5_string_101 rfl rfl rfl rfl rfl ?_
        refine x_aload_n 0 dX5_string_102 rfl rfl rfl rfl rfl ?_
        refine y_get 19 4 (c := 4) (z := w4 7 4) dX5_string_103 i7 rfl in_X5 q607 rfl rfl rfl rfl rfl ?_
        refine y_Vi 25 (M := mX5_at) (As := [(0, w4 7 4)]) (st := [(2, 7)]) dX5_string_106 i7 rfl q1691 q1693 qs6 q372 q1694 rfl hmX5_at rfl rfl rfl rfl rfl rfl rfl rfl (k_mono h (fun r5 w6 h => ?_))
        refine y_Si 68 (M := mX30_isPlain) (As := [(0, r5)]) (st := [(2, 7)]) dX5_string_109 q1717 q1718 q398 q1719 hmX30_isPlain rfl rfl rfl rfl rfl rfl rfl rfl (k_mono h (fun r7 w8 h => ?_))
        refine x_if_eq (t := 119) 7 dX5_string_112 rfl rfl (b_ite h (fun hc h => ?_) (fun hc h => ?_))
        · refine x_iconst 1 (z := 1) dX5_string_119 rfl (by decide) rfl ?_
          refine x_put 41 2 (c := 4) dX5_string_120 i7 rfl in_X5 tyX5_ok nmX5 q604 rfl rfl rfl (Or.inl rfl) (Or.inl ⟨rfl, rfl⟩) rfl ?_
          refine x_aload_n 0 dX5_string_123 rfl rfl rfl rfl rfl ?_
          refine x_dup dX5_string_124 rfl rfl ?_
          refine y_get 19 4 (c := 4) (z := w8 7 4) dX5_string_125 i7 rfl in_X5 q607 rfl rfl rfl rfl rfl ?_
          refine x_iconst 1 (z := 1) dX5_string_128 rfl (by decide) rfl ?_
          refine x_iadd dX5_string_129 rfl ?_
          refine x_put 19 4 (c := 4) dX5_string_130 i7 rfl in_X5 tyX5_ok nmX5 q607 rfl rfl rfl (Or.inl rfl) (Or.inl ⟨rfl, rfl⟩) rfl ?_
          refine x_goto (-118) (q := 15) dX5_string_133 rfl ?_
          exact x_fg (fgk (fgk (fg0))) h
        · refine x_iconst 3 (z := 3) dX5_string_115 rfl (by decide) rfl ?_
          refine x_goto 4 (q := 120) dX5_string_116 rfl ?_
          refine x_put 41 2 (c := 4) dX5_string_120 i7 rfl in_X5 tyX5_ok nmX5 q604 rfl rfl rfl (Or.inl rfl) (Or.inl ⟨rfl, rfl⟩) rfl ?_
          refine x_aload_n 0 dX5_string_123 rfl rfl rfl rfl rfl ?_
          refine x_dup dX5_string_124 rfl rfl ?_
          refine y_get 19 4 (c := 4) (z := w8 7 4) dX5_string_125 i7 rfl in_X5 q607 rfl rfl rfl rfl rfl ?_
          refine x_iconst 1 (z := 1) dX5_string_128 rfl (by decide) rfl ?_
          refine x_iadd dX5_string_129 rfl ?_
          refine x_put 19 4 (c := 4) dX5_string_130 i7 rfl in_X5 tyX5_ok nmX5 q607 rfl rfl rfl (Or.inl rfl) (Or.inl ⟨rfl, rfl⟩) rfl ?_
          refine x_goto (-118) (q := 15) dX5_string_133 rfl ?_
          exact x_fg (fgk (fgk (fg0))) h
      · refine x_aload_n 0 dX5_string_49 rfl rfl rfl rfl rfl ?_
        refine x_aload_n 0 dX5_string_50 rfl rfl rfl rfl rfl ?_
        refine y_get 19 4 (c := 4) (z := w4 7 4) dX5_string_51 i7 rfl in_X5 q607 rfl rfl rfl rfl rfl ?_
        refine x_iconst 1 (z := 1) dX5_string_54 rfl (by decide) rfl ?_
        refine x_iadd dX5_string_55 rfl ?_
        refine y_Vi 25 (M := mX5_at) (As := [(0, b_i ((w4 7 4) + 1))]) (st := []) dX5_string_56 i7 rfl q1691 q1693 qs6 q372 q1694 rfl hmX5_at rfl rfl rfl rfl rfl rfl rfl rfl (k_mono h (fun r9 w10 h => ?_))
        refine x_istore_n 1 (ls' := [(2, 7), (0, r9)]) dX5_string_59 rfl rfl rfl rfl ?_
        refine x_aload_n 0 dX5_string_60 rfl rfl rfl rfl rfl ?_
        refine x_iload_n 1 dX5_string_61 rfl rfl rfl ?_
        refine x_bipush 92 (z := 92) dX5_string_62 rfl (by decide) rfl ?_
        refine x_icmp_eq (t := 79) 15 dX5_string_64 rfl rfl (b_ite h (fun hc h => ?_) (fun hc h => ?_))
        · refine x_iconst 3 (z := 3) dX5_string_79 rfl (by decide) rfl ?_
          refine x_goto 4 (q := 84) dX5_string_80 rfl ?_
          refine x_put 41 2 (c := 4) dX5_string_84 i7 rfl in_X5 tyX5_ok nmX5 q604 rfl rfl rfl (Or.inl rfl) (Or.inl ⟨rfl, rfl⟩) rfl ?_
          refine x_aload_n 0 dX5_string_87 rfl rfl rfl rfl rfl ?_
          refine x_dup dX5_string_88 rfl rfl ?_
          refine y_get 19 4 (c := 4) (z := w10 7 4) dX5_string_89 i7 rfl in_X5 q607 rfl rfl rfl rfl rfl ?_
          refine x_iconst 2 (z := 2) dX5_string_92 rfl (by decide) rfl ?_
          refine x_iadd dX5_string_93 rfl ?_
          refine x_put 19 4 (c := 4) dX5_string_94 i7 rfl in_X5 tyX5_ok nmX5 q607 rfl rfl rfl (Or.inl rfl) (Or.inl ⟨rfl, rfl⟩) rfl ?_
          refine x_goto (-82) (q := 15) dX5_string_97 rfl ?_
          exact x_fg (fgk (fgd (fg0))) h
        · refine x_iload_n 1 dX5_string_67 rfl rfl rfl ?_
          refine x_bipush 34 (z := 34) dX5_string_68 rfl (by decide) rfl ?_
          refine x_icmp_eq (t := 79) 9 dX5_string_70 rfl rfl (b_ite h (fun hc h => ?_) (fun hc h => ?_))
          · refine x_iconst 3 (z := 3) dX5_string_79 rfl (by decide) rfl ?_
            refine x_goto 4 (q := 84) dX5_string_80 rfl ?_
            refine x_put 41 2 (c := 4) dX5_string_84 i7 rfl in_X5 tyX5_ok nmX5 q604 rfl rfl rfl (Or.inl rfl) (Or.inl ⟨rfl, rfl⟩) rfl ?_
            refine x_aload_n 0 dX5_string_87 rfl rfl rfl rfl rfl ?_
            refine x_dup dX5_string_88 rfl rfl ?_
            refine y_get 19 4 (c := 4) (z := w10 7 4) dX5_string_89 i7 rfl in_X5 q607 rfl rfl rfl rfl rfl ?_
            refine x_iconst 2 (z := 2) dX5_string_92 rfl (by decide) rfl ?_
            refine x_iadd dX5_string_93 rfl ?_
            refine x_put 19 4 (c := 4) dX5_string_94 i7 rfl in_X5 tyX5_ok nmX5 q607 rfl rfl rfl (Or.inl rfl) (Or.inl ⟨rfl, rfl⟩) rfl ?_
            refine x_goto (-82) (q := 15) dX5_string_97 rfl ?_
            exact x_fg (fgk (fgd (fg0))) h
          · refine x_iload_n 1 dX5_string_73 rfl rfl rfl ?_
            refine x_bipush 110 (z := 110) dX5_string_74 rfl (by decide) rfl ?_
            refine x_icmp_ne (t := 83) 7 dX5_string_76 rfl rfl (b_ite h (fun hc h => ?_) (fun hc h => ?_))
            · refine x_iconst 1 (z := 1) dX5_string_83 rfl (by decide) rfl ?_
              refine x_put 41 2 (c := 4) dX5_string_84 i7 rfl in_X5 tyX5_ok nmX5 q604 rfl rfl rfl (Or.inl rfl) (Or.inl ⟨rfl, rfl⟩) rfl ?_
              refine x_aload_n 0 dX5_string_87 rfl rfl rfl rfl rfl ?_
              refine x_dup dX5_string_88 rfl rfl ?_
              refine y_get 19 4 (c := 4) (z := w10 7 4) dX5_string_89 i7 rfl in_X5 q607 rfl rfl rfl rfl rfl ?_
              refine x_iconst 2 (z := 2) dX5_string_92 rfl (by decide) rfl ?_
              refine x_iadd dX5_string_93 rfl ?_
              refine x_put 19 4 (c := 4) dX5_string_94 i7 rfl in_X5 tyX5_ok nmX5 q607 rfl rfl rfl (Or.inl rfl) (Or.inl ⟨rfl, rfl⟩) rfl ?_
              refine x_goto (-82) (q := 15) dX5_string_97 rfl ?_
              exact x_fg (fgk (fgd (fg0))) h
            · refine x_iconst 3 (z := 3) dX5_string_79 rfl (by decide) rfl ?_
              refine x_goto 4 (q := 84) dX5_string_80 rfl ?_
              refine x_put 41 2 (c := 4) dX5_string_84 i7 rfl in_X5 tyX5_ok nmX5 q604 rfl rfl rfl (Or.inl rfl) (Or.inl ⟨rfl, rfl⟩) rfl ?_
              refine x_aload_n 0 dX5_string_87 rfl rfl rfl rfl rfl ?_
              refine x_dup dX5_string_88 rfl rfl ?_
              refine y_get 19 4 (c := 4) (z := w10 7 4) dX5_string_89 i7 rfl in_X5 q607 rfl rfl rfl rfl rfl ?_
              refine x_iconst 2 (z := 2) dX5_string_92 rfl (by decide) rfl ?_
              refine x_iadd dX5_string_93 rfl ?_
              refine x_put 19 4 (c := 4) dX5_string_94 i7 rfl in_X5 tyX5_ok nmX5 q607 rfl rfl rfl (Or.inl rfl) (Or.inl ⟨rfl, rfl⟩) rfl ?_
              refine x_goto (-82) (q := 15) dX5_string_97 rfl ?_
              exact x_fg (fgk (fgd (fg0))) h
abbrev LX5_mark_10 (d n : Nat) (Q : Int → bW → Prop) (X : String → bW → Prop) (w : bW) : Prop := b_Y (d + 1) mX5_mark n Q X 10 [(2, 7)] [] w
theorem rX5_mark {d n : Nat} {w : bW} {Q : Int → bW → Prop} {X : String → bW → Prop} (hn : 8 ≤ n) (h : LX5_mark_10 d n Q X (b_up w 7 4 (b_i ((w 7 3) + 1)))) : b_K (d + 1) mX5_mark [(2, 7)] n w Q X := by
  have i7 := iz7 (Nat.le_trans (Nat.le_of_ble_eq_true rfl) hn)
  refine k_of (by decide) rfl rfl rfl (ls := [(2, 7)]) rfl ?_
  refine x_aload_n 0 dX5_mark_0 rfl rfl rfl rfl rfl ?_
  refine x_aload_n 0 dX5_mark_1 rfl rfl rfl rfl rfl ?_
  refine y_get 38 3 (c := 4) (z := w 7 3) dX5_mark_2 i7 rfl in_X5 q606 rfl rfl rfl rfl rfl ?_
  refine x_iconst 1 (z := 1) dX5_mark_5 rfl (by decide) rfl ?_
  refine x_iadd dX5_mark_6 rfl ?_
  refine x_put 19 4 (c := 4) dX5_mark_7 i7 rfl in_X5 tyX5_ok nmX5 q607 rfl rfl rfl (Or.inl rfl) (Or.inl ⟨rfl, rfl⟩) rfl ?_
  exact x_fg (fgk (fg0)) h
theorem sX5_mark_10 {d n : Nat} {w : bW} {Q : Int → bW → Prop} {X : String → bW → Prop} (hn : 8 ≤ n) (h : b_K d mX5_at [(2, 7), (0, w 7 4)] n w (fun r1 w2 => b_K d mX30_isPart [(0, r1)] n w2 (fun r3 w4 => if r3 = 0 then (if w4 7 4 ≤ b_i ((w4 7 3) + 1) then (Q 0 (b_up w4 7 2 1)) else (Q 0 (b_up w4 7 2 6))) else (if 31 < b_i ((w4 7 4) - (w4 7 3)) then (if w4 7 4 ≤ b_i ((w4 7 3) + 1) then (Q 0 (b_up w4 7 2 1)) else (Q 0 (b_up w4 7 2 6))) else (LX5_mark_10 d n Q X (b_up w4 7 4 (b_i ((w4 7 4) + 1)))))) X) X) : LX5_mark_10 d n Q X w := by
  have i7 := iz7 (Nat.le_trans (Nat.le_of_ble_eq_true rfl) hn)
  refine x_aload_n 0 dX5_mark_10 rfl rfl rfl rfl rfl ?_
  refine x_aload_n 0 dX5_mark_11 rfl rfl rfl rfl rfl ?_
  refine y_get 19 4 (c := 4) (z := w 7 4) dX5_mark_12 i7 rfl in_X5 q607 rfl rfl rfl rfl rfl ?_
  refine y_Vi 25 (M := mX5_at) (As := [(0, w 7 4)]) (st := []) dX5_mark_15 i7 rfl q1691 q1693 qs6 q372 q1694 rfl hmX5_at rfl rfl rfl rfl rfl rfl rfl rfl (k_mono h (fun r1 w2 h => ?_))
  refine y_Si 59 (M := mX30_isPart) (As := [(0, r1)]) (st := []) dX5_mark_18 q1723 q1724 q398 q1725 hmX30_isPart rfl rfl rfl rfl rfl rfl rfl rfl (k_mono h (fun r3 w4 h => ?_))
  refine x_if_eq (t := 51) 30 dX5_mark_21 rfl rfl (b_ite h (fun hc h => ?_) (fun hc h => ?_))
  · refine x_aload_n 0 dX5_mark_51 rfl rfl rfl rfl rfl ?_
    refine x_aload_n 0 dX5_mark_52 rfl rfl rfl rfl rfl ?_
    refine y_get 19 4 (c := 4) (z := w4 7 4) dX5_mark_53 i7 rfl in_X5 q607 rfl rfl rfl rfl rfl ?_
    refine x_aload_n 0 dX5_mark_56 rfl rfl rfl rfl rfl ?_
    refine y_get 38 3 (c := 4) (z := w4 7 3) dX5_mark_57 i7 rfl in_X5 q606 rfl rfl rfl rfl rfl ?_
    refine x_iconst 1 (z := 1) dX5_mark_60 rfl (by decide) rfl ?_
    refine x_iadd dX5_mark_61 rfl ?_
    refine x_icmp_le (t := 70) 8 dX5_mark_62 rfl rfl (b_ite h (fun hc h => ?_) (fun hc h => ?_))
    · refine x_iconst 1 (z := 1) dX5_mark_70 rfl (by decide) rfl ?_
      refine x_put 41 2 (c := 4) dX5_mark_71 i7 rfl in_X5 tyX5_ok nmX5 q604 rfl rfl rfl (Or.inl rfl) (Or.inl ⟨rfl, rfl⟩) rfl ?_
      exact y_vret dX5_mark_74 rfl h
    · refine x_bipush 6 (z := 6) dX5_mark_65 rfl (by decide) rfl ?_
      refine x_goto 4 (q := 71) dX5_mark_67 rfl ?_
      refine x_put 41 2 (c := 4) dX5_mark_71 i7 rfl in_X5 tyX5_ok nmX5 q604 rfl rfl rfl (Or.inl rfl) (Or.inl ⟨rfl, rfl⟩) rfl ?_
      exact y_vret dX5_mark_74 rfl h
  · refine x_aload_n 0 dX5_mark_24 rfl rfl rfl rfl rfl ?_
    refine y_get 19 4 (c := 4) (z := w4 7 4) dX5_mark_25 i7 rfl in_X5 q607 rfl rfl rfl rfl rfl ?_
    refine x_aload_n 0 dX5_mark_28 rfl rfl rfl rfl rfl ?_
    refine y_get 38 3 (c := 4) (z := w4 7 3) dX5_mark_29 i7 rfl in_X5 q606 rfl rfl rfl rfl rfl ?_
    refine x_isub dX5_mark_32 rfl ?_
    refine x_bipush 31 (z := 31) dX5_mark_33 rfl (by decide) rfl ?_
    refine x_icmp_gt (t := 51) 16 dX5_mark_35 rfl rfl (b_ite h (fun hc h => ?_) (fun hc h => ?_))
    · refine x_aload_n 0 dX5_mark_51 rfl rfl rfl rfl rfl ?_
      refine x_aload_n 0 dX5_mark_52 rfl rfl rfl rfl rfl ?_
      refine y_get 19 4 (c := 4) (z := w4 7 4) dX5_mark_53 i7 rfl in_X5 q607 rfl rfl rfl rfl rfl ?_
      refine x_aload_n 0 dX5_mark_56 rfl rfl rfl rfl rfl ?_
      refine y_get 38 3 (c := 4) (z := w4 7 3) dX5_mark_57 i7 rfl in_X5 q606 rfl rfl rfl rfl rfl ?_
      refine x_iconst 1 (z := 1) dX5_mark_60 rfl (by decide) rfl ?_
      refine x_iadd dX5_mark_61 rfl ?_
      refine x_icmp_le (t := 70) 8 dX5_mark_62 rfl rfl (b_ite h (fun hc h => ?_) (fun hc h => ?_))
      · refine x_iconst 1 (z := 1) dX5_mark_70 rfl (by decide) rfl ?_
        refine x_put 41 2 (c := 4) dX5_mark_71 i7 rfl in_X5 tyX5_ok nmX5 q604 rfl rfl rfl (Or.inl rfl) (Or.inl ⟨rfl, rfl⟩) rfl ?_
        exact y_vret dX5_mark_74 rfl h
      · refine x_bipush 6 (z := 6) dX5_mark_65 rfl (by decide) rfl ?_
        refine x_goto 4 (q := 71) dX5_mark_67 rfl ?_
        refine x_put 41 2 (c := 4) dX5_mark_71 i7 rfl in_X5 tyX5_ok nmX5 q604 rfl rfl rfl (Or.inl rfl) (Or.inl ⟨rfl, rfl⟩) rfl ?_
        exact y_vret dX5_mark_74 rfl h
    · refine x_aload_n 0 dX5_mark_38 rfl rfl rfl rfl rfl ?_
      refine x_dup dX5_mark_39 rfl rfl ?_
      refine y_get 19 4 (c := 4) (z := w4 7 4) dX5_mark_40 i7 rfl in_X5 q607 rfl rfl rfl rfl rfl ?_
      refine x_iconst 1 (z := 1) dX5_mark_43 rfl (by decide) rfl ?_
      refine x_iadd dX5_mark_44 rfl ?_
      refine x_put 19 4 (c := 4) dX5_mark_45 i7 rfl in_X5 tyX5_ok nmX5 q607 rfl rfl rfl (Or.inl rfl) (Or.inl ⟨rfl, rfl⟩) rfl ?_
      refine x_goto (-38) (q := 10) dX5_mark_48 rfl ?_
      exact x_fg (fgk (fg0)) h
end RulesX5
