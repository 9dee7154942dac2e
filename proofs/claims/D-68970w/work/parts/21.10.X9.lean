section RulesX9
set_option maxRecDepth 100000
theorem rX9_compare {d n : Nat} {w : bW} {Q : Int → bW → Prop} {X : String → bW → Prop} (hn : 143 ≤ n) (a1 : Int) (a2 : Int) (a3 : Int) (h : (0 ≤ a3 ∧ a3 < 60000) ∧ (if w 20 a3 = 0 then (Q 0 w) else (if w 20 a3 = 1 then (b_K d mX9_sign [(0, b_i (a1 - a2))] n w (fun r2 w3 => Q r2 w3) X) else (if w 20 a3 = 5 ∨ w 20 a3 = 6 ∨ w 20 a3 = 7 then (b_K d mX9_bytes [(2, 33), (0, a1), (0, a2)] n w (fun r4 w5 => Q r4 w5) X) else (if w 20 a3 = 10 then (if a1 = 8 then (if a1 ≠ 8 then (if a2 ≠ 8 then (Q (b_i (1 - 1)) w) else (Q (b_i (1 - 0)) w)) else (if a2 ≠ 8 then (Q (b_i (0 - 1)) w) else (Q (b_i (0 - 0)) w))) else (if a2 ≠ 8 then (b_K d mX8_cell [(2, 27), (0, a1), (0, 2)] n w (fun r6 w7 => b_K d mX8_cell [(2, 27), (0, a2), (0, 2)] n w7 (fun r8 w9 => (0 ≤ a3 ∧ a3 < 60000) ∧ (b_K d mX9_compare [(2, 33), (0, r6), (0, r8), (0, w9 21 a3)] n w9 (fun r11 w12 => Q r11 w12) X)) X) X) else (if a1 ≠ 8 then (if a2 ≠ 8 then (Q (b_i (1 - 1)) w) else (Q (b_i (1 - 0)) w)) else (if a2 ≠ 8 then (Q (b_i (0 - 1)) w) else (Q (b_i (0 - 0)) w))))) else (if w 20 a3 = 14 then (b_K d mX8_kind [(2, 27), (0, a1)] n w (fun r13 w14 => b_K d mX8_kind [(2, 27), (0, a2)] n w14 (fun r15 w16 => if r13 = r15 then (b_K d mX8_cell [(2, 27), (0, a1), (0, 2)] n w16 (fun r17 w18 => b_K d mX8_cell [(2, 27), (0, a2), (0, 2)] n w18 (fun r19 w20 => b_K d mX8_kind [(2, 27), (0, a1)] n w20 (fun r21 w22 => if r21 ≠ 5 then ((0 ≤ a3 ∧ a3 < 60000) ∧ (b_K d mX9_compare [(2, 33), (0, r17), (0, r19), (0, w22 22 a3)] n w22 (fun r24 w25 => Q r24 w25) X)) else ((0 ≤ a3 ∧ a3 < 60000) ∧ (b_K d mX9_compare [(2, 33), (0, r17), (0, r19), (0, w22 21 a3)] n w22 (fun r27 w28 => Q r27 w28) X))) X) X) X) else (b_K d mX8_kind [(2, 27), (0, a1)] n w16 (fun r29 w30 => b_K d mX8_kind [(2, 27), (0, a2)] n w30 (fun r31 w32 => b_K d mX9_sign [(0, b_i (r29 - r31))] n w32 (fun r33 w34 => Q r33 w34) X) X) X)) X) X) else (if w 20 a3 = 18 then (b_K d mX8_cell [(2, 27), (0, a1), (0, 2)] n w (fun r35 w36 => b_K d mX8_cell [(2, 27), (0, a2), (0, 2)] n w36 (fun r37 w38 => (0 ≤ a3 ∧ a3 < 60000) ∧ (b_K d mX9_compare [(2, 33), (0, r35), (0, r37), (0, w38 21 a3)] n w38 (fun r40 w41 => if r40 = 0 then (b_K d mX8_cell [(2, 27), (0, a1), (0, 3)] n w41 (fun r42 w43 => b_K d mX8_cell [(2, 27), (0, a2), (0, 3)] n w43 (fun r44 w45 => (0 ≤ a3 ∧ a3 < 60000) ∧ (b_K d mX9_compare [(2, 33), (0, r42), (0, r44), (0, w45 22 a3)] n w45 (fun r47 w48 => Q r47 w48) X)) X) X) else (Q r40 w41)) X)) X) X) else ((b_K d mX9_numbers [(2, 33), (0, a1), (0, a2)] n w (fun r49 w50 => Q r49 w50) X))))))))) : b_K (d + 1) mX9_compare [(2, 33), (0, a1), (0, a2), (0, a3)] n w Q X := by
  have i19 := iz19 (Nat.le_trans (Nat.le_of_ble_eq_true rfl) hn)
  have i20 := iz20 (Nat.le_trans (Nat.le_of_ble_eq_true rfl) hn)
  have i21 := iz21 (Nat.le_trans (Nat.le_of_ble_eq_true rfl) hn)
  have i22 := iz22 (Nat.le_trans (Nat.le_of_ble_eq_true rfl) hn)
  have i27 := iz27 (Nat.le_trans (Nat.le_of_ble_eq_true rfl) hn)
  have i33 := iz33 (Nat.le_trans (Nat.le_of_ble_eq_true rfl) hn)
  refine k_of (by decide) rfl rfl rfl (ls := [(2, 33), (0, a1), (0, a2), (0, a3), (9, 0)]) rfl ?_
  refine x_aload_n 0 dX9_compare_0 rfl rfl rfl rfl rfl ?_
  refine y_getF 25 1 (c := 8) (z := 19) dX9_compare_1 i33 rfl in_X9 q839 rfl rfl rfl fn_33_1 (Nat.le_trans (Nat.le_of_ble_eq_true rfl) hn) rfl ?_
  refine y_getF 59 0 (c := 6) (z := 20) dX9_compare_4 i19 rfl in_X7 q753 rfl rfl rfl fn_19_0 (Nat.le_trans (Nat.le_of_ble_eq_true rfl) hn) rfl ?_
  refine x_iload_n 3 dX9_compare_7 rfl rfl rfl ?_
  obtain ⟨e1, h⟩ := h
  refine y_bald (z := w 20 a3) dX9_compare_8 ⟨60000, i20, e1⟩ rfl rfl ?_
  refine b_itc h (fun hc h => ?_) (fun hn0 h => ?_)
  · have key : b_Y (d + 1) mX9_compare n Q X 100 [(2, 33), (0, a1), (0, a2), (0, a3), (9, 0)] [] w := by
      refine x_iconst 0 (z := 0) dX9_compare_100 rfl (by decide) rfl ?_
      exact y_iret dX9_compare_101 rfl h
    have e := hc
    exact x_tsI (off := 91) (t := 100) dX9_compare_9 (by rw [e]; decide) (by rw [e]; decide) (by rw [e]; rfl) rfl key
  · refine b_itc h (fun hc h => ?_) (fun hn1 h => ?_)
    · have key : b_Y (d + 1) mX9_compare n Q X 102 [(2, 33), (0, a1), (0, a2), (0, a3), (9, 0)] [] w := by
        refine x_iload_n 1 dX9_compare_102 rfl rfl rfl ?_
        refine x_iload_n 2 dX9_compare_103 rfl rfl rfl ?_
        refine x_isub dX9_compare_104 rfl ?_
        refine y_Si 43 (M := mX9_sign) (As := [(0, b_i (a1 - a2))]) (st := []) dX9_compare_105 q2079 q2080 q376 q2081 hmX9_sign rfl rfl rfl rfl rfl rfl rfl rfl (k_mono h (fun r2 w3 h => ?_))
        exact y_iret dX9_compare_108 rfl h
      have e := hc
      exact x_tsI (off := 93) (t := 102) dX9_compare_9 (by rw [e]; decide) (by rw [e]; decide) (by rw [e]; rfl) rfl key
    · refine b_itc h (fun hc h => ?_) (fun hn2 h => ?_)
      · have key : b_Y (d + 1) mX9_compare n Q X 109 [(2, 33), (0, a1), (0, a2), (0, a3), (9, 0)] [] w := by
          refine x_aload_n 0 dX9_compare_109 rfl rfl rfl rfl rfl ?_
          refine x_iload_n 1 dX9_compare_110 rfl rfl rfl ?_
          refine x_iload_n 2 dX9_compare_111 rfl rfl rfl ?_
          refine y_Vi 65 (M := mX9_bytes) (As := [(0, a1), (0, a2)]) (st := []) dX9_compare_112 i33 rfl q2082 q2084 qs46 q376 q2085 rfl hmX9_bytes rfl rfl rfl rfl rfl rfl rfl rfl (k_mono h (fun r4 w5 h => ?_))
          exact y_iret dX9_compare_115 rfl h
        rcases hc with e | e | e
        · exact x_tsI (off := 100) (t := 109) dX9_compare_9 (by rw [e]; decide) (by rw [e]; decide) (by rw [e]; rfl) rfl key
        · exact x_tsI (off := 100) (t := 109) dX9_compare_9 (by rw [e]; decide) (by rw [e]; decide) (by rw [e]; rfl) rfl key
        · exact x_tsI (off := 100) (t := 109) dX9_compare_9 (by rw [e]; decide) (by rw [e]; decide) (by rw [e]; rfl) rfl key
      · refine b_itc h (fun hc h => ?_) (fun hn3 h => ?_)
        · have key : b_Y (d + 1) mX9_compare n Q X 116 [(2, 33), (0, a1), (0, a2), (0, a3), (9, 0)] [] w := by
            refine x_iload_n 1 dX9_compare_116 rfl rfl rfl ?_
            refine x_bipush 8 (z := 8) dX9_compare_117 rfl (by decide) rfl ?_
            refine x_icmp_eq (t := 128) 9 dX9_compare_119 rfl rfl (b_ite h (fun hc h => ?_) (fun hc h => ?_))
            · refine x_iload_n 1 dX9_compare_128 rfl rfl rfl ?_
              refine x_bipush 8 (z := 8) dX9_compare_129 rfl (by decide) rfl ?_
              refine x_icmp_ne (t := 138) 7 dX9_compare_131 rfl rfl (b_ite h (fun hc h => ?_) (fun hc h => ?_))
              · refine x_iconst 1 (z := 1) dX9_compare_138 rfl (by decide) rfl ?_
                refine x_iload_n 2 dX9_compare_139 rfl rfl rfl ?_
                refine x_bipush 8 (z := 8) dX9_compare_140 rfl (by decide) rfl ?_
                refine x_icmp_ne (t := 149) 7 dX9_compare_142 rfl rfl (b_ite h (fun hc h => ?_) (fun hc h => ?_))
                · refine x_iconst 1 (z := 1) dX9_compare_149 rfl (by decide) rfl ?_
                  refine x_isub dX9_compare_150 rfl ?_
                  exact y_iret dX9_compare_151 rfl h
                · refine x_iconst 0 (z := 0) dX9_compare_145 rfl (by decide) rfl ?_
                  refine x_goto 4 (q := 150) dX9_compare_146 rfl ?_
                  refine x_isub dX9_compare_150 rfl ?_
                  exact y_iret dX9_compare_151 rfl h
              · refine x_iconst 0 (z := 0) dX9_compare_134 rfl (by decide) rfl ?_
                refine x_goto 4 (q := 139) dX9_compare_135 rfl ?_
                refine x_iload_n 2 dX9_compare_139 rfl rfl rfl ?_
                refine x_bipush 8 (z := 8) dX9_compare_140 rfl (by decide) rfl ?_
                refine x_icmp_ne (t := 149) 7 dX9_compare_142 rfl rfl (b_ite h (fun hc h => ?_) (fun hc h => ?_))
                · refine x_iconst 1 (z := 1) dX9_compare_149 rfl (by decide) rfl ?_
                  refine x_isub dX9_compare_150 rfl ?_
                  exact y_iret dX9_compare_151 rfl h
                · refine x_iconst 0 (z := 0) dX9_compare_145 rfl (by decide) rfl ?_
                  refine x_goto 4 (q := 150) dX9_compare_146 rfl ?_
                  refine x_isub dX9_compare_150 rfl ?_
                  exact y_iret dX9_compare_151 rfl h
            · refine x_iload_n 2 dX9_compare_122 rfl rfl rfl ?_
              refine x_bipush 8 (z := 8) dX9_compare_123 rfl (by decide) rfl ?_
              refine x_icmp_ne (t := 152) 27 dX9_compare_125 rfl rfl (b_ite h (fun hc h => ?_) (fun hc h => ?_))
              · refine x_aload_n 0 dX9_compare_152 rfl rfl rfl rfl rfl ?_
                refine x_aload_n 0 dX9_compare_153 rfl rfl rfl rfl rfl ?_
                refine y_getF 21 0 (c := 8) (z := 27) dX9_compare_154 i33 rfl in_X9 q838 rfl rfl rfl fn_33_0 (Nat.le_trans (Nat.le_of_ble_eq_true rfl) hn) rfl ?_
                refine x_iload_n 1 dX9_compare_157 rfl rfl rfl ?_
                refine x_iconst 2 (z := 2) dX9_compare_158 rfl (by decide) rfl ?_
                refine y_Vi 68 (M := mX8_cell) (As := [(0, a1), (0, 2)]) (st := [(2, 33)]) dX9_compare_159 i27 rfl q2095 q2010 q2011 q375 q2012 rfl hmX8_cell rfl rfl rfl rfl rfl rfl rfl rfl (k_mono h (fun r6 w7 h => ?_))
                refine x_aload_n 0 dX9_compare_162 rfl rfl rfl rfl rfl ?_
                refine y_getF 21 0 (c := 8) (z := 27) dX9_compare_163 i33 rfl in_X9 q838 rfl rfl rfl fn_33_0 (Nat.le_trans (Nat.le_of_ble_eq_true rfl) hn) rfl ?_
                refine x_iload_n 2 dX9_compare_166 rfl rfl rfl ?_
                refine x_iconst 2 (z := 2) dX9_compare_167 rfl (by decide) rfl ?_
                refine y_Vi 68 (M := mX8_cell) (As := [(0, a2), (0, 2)]) (st := [(0, r6), (2, 33)]) dX9_compare_168 i27 rfl q2095 q2010 q2011 q375 q2012 rfl hmX8_cell rfl rfl rfl rfl rfl rfl rfl rfl (k_mono h (fun r8 w9 h => ?_))
                refine x_aload_n 0 dX9_compare_171 rfl rfl rfl rfl rfl ?_
                refine y_getF 25 1 (c := 8) (z := 19) dX9_compare_172 i33 rfl in_X9 q839 rfl rfl rfl fn_33_1 (Nat.le_trans (Nat.le_of_ble_eq_true rfl) hn) rfl ?_
                refine y_getF 71 1 (c := 6) (z := 21) dX9_compare_175 i19 rfl in_X7 q760 rfl rfl rfl fn_19_1 (Nat.le_trans (Nat.le_of_ble_eq_true rfl) hn) rfl ?_
                refine x_iload_n 3 dX9_compare_178 rfl rfl rfl ?_
                obtain ⟨e10, h⟩ := h
                refine y_iald (z := w9 21 a3) dX9_compare_179 ⟨60000, i21, e10⟩ rfl rfl ?_
                refine y_Vi 75 (M := mX9_compare) (As := [(0, r6), (0, r8), (0, w9 21 a3)]) (st := []) dX9_compare_180 i33 rfl q2096 q2076 q2077 q376 q2078 rfl hmX9_compare rfl rfl rfl rfl rfl rfl rfl rfl (k_mono h (fun r11 w12 h => ?_))
                exact y_iret dX9_compare_183 rfl h
              · refine x_iload_n 1 dX9_compare_128 rfl rfl rfl ?_
                refine x_bipush 8 (z := 8) dX9_compare_129 rfl (by decide) rfl ?_
                refine x_icmp_ne (t := 138) 7 dX9_compare_131 rfl rfl (b_ite h (fun hc h => ?_) (fun hc h => ?_))
                · refine x_iconst 1 (z := 1) dX9_compare_138 rfl (by decide) rfl ?_
                  refine x_iload_n 2 dX9_compare_139 rfl rfl rfl ?_
                  refine x_bipush 8 (z := 8) dX9_compare_140 rfl (by decide) rfl ?_
                  refine x_icmp_ne (t := 149) 7 dX9_compare_142 rfl rfl (b_ite h (fun hc h => ?_) (fun hc h => ?_))
                  · refine x_iconst 1 (z := 1) dX9_compare_149 rfl (by decide) rfl ?_
                    refine x_isub dX9_compare_150 rfl ?_
                    exact y_iret dX9_compare_151 rfl h
                  · refine x_iconst 0 (z := 0) dX9_compare_145 rfl (by decide) rfl ?_
                    refine x_goto 4 (q := 150) dX9_compare_146 rfl ?_
                    refine x_isub dX9_compare_150 rfl ?_
                    exact y_iret dX9_compare_151 rfl h
                · refine x_iconst 0 (z := 0) dX9_compare_134 rfl (by decide) rfl ?_
                  refine x_goto 4 (q := 139) dX9_compare_135 rfl ?_
                  refine x_iload_n 2 dX9_compare_139 rfl rfl rfl ?_
                  refine x_bipush 8 (z := 8) dX9_compare_140 rfl (by decide) rfl ?_
                  refine x_icmp_ne (t := 149) 7 dX9_compare_142 rfl rfl (b_ite h (fun hc h => ?_) (fun hc h => ?_))
                  · refine x_iconst 1 (z := 1) dX9_compare_149 rfl (by decide) rfl ?_
                    refine x_isub dX9_compare_150 rfl ?_
                    exact y_iret dX9_compare_151 rfl h
                  · refine x_iconst 0 (z := 0) dX9_compare_145 rfl (by decide) rfl ?_
                    refine x_goto 4 (q := 150) dX9_compare_146 rfl ?_
                    refine x_isub dX9_compare_150 rfl ?_
                    exact y_iret dX9_compare_151 rfl h
          have e := hc
          exact x_tsI (off := 107) (t := 116) dX9_compare_9 (by rw [e]; decide) (by rw [e]; decide) (by rw [e]; rfl) rfl key
        · refine b_itc h (fun hc h => ?_) (fun hn4 h => ?_)
          · have key : b_Y (d + 1) mX9_compare n Q X 184 [(2, 33), (0, a1), (0, a2), (0, a3), (9, 0)] [] w := by
              refine x_aload_n 0 dX9_compare_184 rfl rfl rfl rfl rfl ?_
              refine y_getF 21 0 (c := 8) (z := 27) dX9_compare_185 i33 rfl in_X9 q838 rfl rfl rfl fn_33_0 (Nat.le_trans (Nat.le_of_ble_eq_true rfl) hn) rfl ?_
              refine x_iload_n 1 dX9_compare_188 rfl rfl rfl ?_
              refine y_Vi 78 (M := mX8_kind) (As := [(0, a1)]) (st := []) dX9_compare_189 i27 rfl q2097 q2042 q2043 q375 q2044 rfl hmX8_kind rfl rfl rfl rfl rfl rfl rfl rfl (k_mono h (fun r13 w14 h => ?_))
              refine x_aload_n 0 dX9_compare_192 rfl rfl rfl rfl rfl ?_
              refine y_getF 21 0 (c := 8) (z := 27) dX9_compare_193 i33 rfl in_X9 q838 rfl rfl rfl fn_33_0 (Nat.le_trans (Nat.le_of_ble_eq_true rfl) hn) rfl ?_
              refine x_iload_n 2 dX9_compare_196 rfl rfl rfl ?_
              refine y_Vi 78 (M := mX8_kind) (As := [(0, a2)]) (st := [(0, r13)]) dX9_compare_197 i27 rfl q2097 q2042 q2043 q375 q2044 rfl hmX8_kind rfl rfl rfl rfl rfl rfl rfl rfl (k_mono h (fun r15 w16 h => ?_))
              refine x_icmp_eq (t := 224) 24 dX9_compare_200 rfl rfl (b_ite h (fun hc h => ?_) (fun hc h => ?_))
              · refine x_aload_n 0 dX9_compare_224 rfl rfl rfl rfl rfl ?_
                refine x_aload_n 0 dX9_compare_225 rfl rfl rfl rfl rfl ?_
                refine y_getF 21 0 (c := 8) (z := 27) dX9_compare_226 i33 rfl in_X9 q838 rfl rfl rfl fn_33_0 (Nat.le_trans (Nat.le_of_ble_eq_true rfl) hn) rfl ?_
                refine x_iload_n 1 dX9_compare_229 rfl rfl rfl ?_
                refine x_iconst 2 (z := 2) dX9_compare_230 rfl (by decide) rfl ?_
                refine y_Vi 68 (M := mX8_cell) (As := [(0, a1), (0, 2)]) (st := [(2, 33)]) dX9_compare_231 i27 rfl q2095 q2010 q2011 q375 q2012 rfl hmX8_cell rfl rfl rfl rfl rfl rfl rfl rfl (k_mono h (fun r17 w18 h => ?_))
                refine x_aload_n 0 dX9_compare_234 rfl rfl rfl rfl rfl ?_
                refine y_getF 21 0 (c := 8) (z := 27) dX9_compare_235 i33 rfl in_X9 q838 rfl rfl rfl fn_33_0 (Nat.le_trans (Nat.le_of_ble_eq_true rfl) hn) rfl ?_
                refine x_iload_n 2 dX9_compare_238 rfl rfl rfl ?_
                refine x_iconst 2 (z := 2) dX9_compare_239 rfl (by decide) rfl ?_
                refine y_Vi 68 (M := mX8_cell) (As := [(0, a2), (0, 2)]) (st := [(0, r17), (2, 33)]) dX9_compare_240 i27 rfl q2095 q2010 q2011 q375 q2012 rfl hmX8_cell rfl rfl rfl rfl rfl rfl rfl rfl (k_mono h (fun r19 w20 h => ?_))
                refine x_aload_n 0 dX9_compare_243 rfl rfl rfl rfl rfl ?_
                refine y_getF 21 0 (c := 8) (z := 27) dX9_compare_244 i33 rfl in_X9 q838 rfl rfl rfl fn_33_0 (Nat.le_trans (Nat.le_of_ble_eq_true rfl) hn) rfl ?_
                refine x_iload_n 1 dX9_compare_247 rfl rfl rfl ?_
                refine y_Vi 78 (M := mX8_kind) (As := [(0, a1)]) (st := [(0, r19), (0, r17), (2, 33)]) dX9_compare_248 i27 rfl q2097 q2042 q2043 q375 q2044 rfl hmX8_kind rfl rfl rfl rfl rfl rfl rfl rfl (k_mono h (fun r21 w22 h => ?_))
                refine x_iconst 5 (z := 5) dX9_compare_251 rfl (by decide) rfl ?_
                refine x_icmp_ne (t := 267) 15 dX9_compare_252 rfl rfl (b_ite h (fun hc h => ?_) (fun hc h => ?_))
                · refine x_aload_n 0 dX9_compare_267 rfl rfl rfl rfl rfl ?_
                  refine y_getF 25 1 (c := 8) (z := 19) dX9_compare_268 i33 rfl in_X9 q839 rfl rfl rfl fn_33_1 (Nat.le_trans (Nat.le_of_ble_eq_true rfl) hn) rfl ?_
                  refine y_getF 81 2 (c := 6) (z := 22) dX9_compare_271 i19 rfl in_X7 q766 rfl rfl rfl fn_19_2 (Nat.le_trans (Nat.le_of_ble_eq_true rfl) hn) rfl ?_
                  refine x_iload_n 3 dX9_compare_274 rfl rfl rfl ?_
                  obtain ⟨e23, h⟩ := h
                  refine y_iald (z := w22 22 a3) dX9_compare_275 ⟨60000, i22, e23⟩ rfl rfl ?_
                  refine y_Vi 75 (M := mX9_compare) (As := [(0, r17), (0, r19), (0, w22 22 a3)]) (st := []) dX9_compare_276 i33 rfl q2096 q2076 q2077 q376 q2078 rfl hmX9_compare rfl rfl rfl rfl rfl rfl rfl rfl (k_mono h (fun r24 w25 h => ?_))
                  exact y_iret dX9_compare_279 rfl h
                · refine x_aload_n 0 dX9_compare_255 rfl rfl rfl rfl rfl ?_
                  refine y_getF 25 1 (c := 8) (z := 19) dX9_compare_256 i33 rfl in_X9 q839 rfl rfl rfl fn_33_1 (Nat.le_trans (Nat.le_of_ble_eq_true rfl) hn) rfl ?_
                  refine y_getF 71 1 (c := 6) (z := 21) dX9_compare_259 i19 rfl in_X7 q760 rfl rfl rfl fn_19_1 (Nat.le_trans (Nat.le_of_ble_eq_true rfl) hn) rfl ?_
                  refine x_iload_n 3 dX9_compare_262 rfl rfl rfl ?_
                  obtain ⟨e26, h⟩ := h
                  refine y_iald (z := w22 21 a3) dX9_compare_263 ⟨60000, i21, e26⟩ rfl rfl ?_
                  refine x_goto 12 (q := 276) dX9_compare_264 rfl ?_
                  refine y_Vi 75 (M := mX9_compare) (As := [(0, r17), (0, r19), (0, w22 21 a3)]) (st := []) dX9_compare_276 i33 rfl q2096 q2076 q2077 q376 q2078 rfl hmX9_compare rfl rfl rfl rfl rfl rfl rfl rfl (k_mono h (fun r27 w28 h => ?_))
                  exact y_iret dX9_compare_279 rfl h
              · refine x_aload_n 0 dX9_compare_203 rfl rfl rfl rfl rfl ?_
                refine y_getF 21 0 (c := 8) (z := 27) dX9_compare_204 i33 rfl in_X9 q838 rfl rfl rfl fn_33_0 (Nat.le_trans (Nat.le_of_ble_eq_true rfl) hn) rfl ?_
                refine x_iload_n 1 dX9_compare_207 rfl rfl rfl ?_
                refine y_Vi 78 (M := mX8_kind) (As := [(0, a1)]) (st := []) dX9_compare_208 i27 rfl q2097 q2042 q2043 q375 q2044 rfl hmX8_kind rfl rfl rfl rfl rfl rfl rfl rfl (k_mono h (fun r29 w30 h => ?_))
                refine x_aload_n 0 dX9_compare_211 rfl rfl rfl rfl rfl ?_
                refine y_getF 21 0 (c := 8) (z := 27) dX9_compare_212 i33 rfl in_X9 q838 rfl rfl rfl fn_33_0 (Nat.le_trans (Nat.le_of_ble_eq_true rfl) hn) rfl ?_
                refine x_iload_n 2 dX9_compare_215 rfl rfl rfl ?_
                refine y_Vi 78 (M := mX8_kind) (As := [(0, a2)]) (st := [(0, r29)]) dX9_compare_216 i27 rfl q2097 q2042 q2043 q375 q2044 rfl hmX8_kind rfl rfl rfl rfl rfl rfl rfl rfl (k_mono h (fun r31 w32 h => ?_))
                refine x_isub dX9_compare_219 rfl ?_
                refine y_Si 43 (M := mX9_sign) (As := [(0, b_i (r29 - r31))]) (st := []) dX9_compare_220 q2079 q2080 q376 q2081 hmX9_sign rfl rfl rfl rfl rfl rfl rfl rfl (k_mono h (fun r33 w34 h => ?_))
                exact y_iret dX9_compare_223 rfl h
            have e := hc
            exact x_tsI (off := 175) (t := 184) dX9_compare_9 (by rw [e]; decide) (by rw [e]; decide) (by rw [e]; rfl) rfl key
          · refine b_itc h (fun hc h => ?_) (fun hn5 h => ?_)
            · have key : b_Y (d + 1) mX9_compare n Q X 280 [(2, 33), (0, a1), (0, a2), (0, a3), (9, 0)] [] w := by
                refine x_aload_n 0 dX9_compare_280 rfl rfl rfl rfl rfl ?_
                refine x_aload_n 0 dX9_compare_281 rfl rfl rfl rfl rfl ?_
                refine y_getF 21 0 (c := 8) (z := 27) dX9_compare_282 i33 rfl in_X9 q838 rfl rfl rfl fn_33_0 (Nat.le_trans (Nat.le_of_ble_eq_true rfl) hn) rfl ?_
                refine x_iload_n 1 dX9_compare_285 rfl rfl rfl ?_
                refine x_iconst 2 (z := 2) dX9_compare_286 rfl (by decide) rfl ?_
                refine y_Vi 68 (M := mX8_cell) (As := [(0, a1), (0, 2)]) (st := [(2, 33)]) dX9_compare_287 i27 rfl q2095 q2010 q2011 q375 q2012 rfl hmX8_cell rfl rfl rfl rfl rfl rfl rfl rfl (k_mono h (fun r35 w36 h => ?_))
                refine x_aload_n 0 dX9_compare_290 rfl rfl rfl rfl rfl ?_
                refine y_getF 21 0 (c := 8) (z := 27) dX9_compare_291 i33 rfl in_X9 q838 rfl rfl rfl fn_33_0 (Nat.le_trans (Nat.le_of_ble_eq_true rfl) hn) rfl ?_
                refine x_iload_n 2 dX9_compare_294 rfl rfl rfl ?_
                refine x_iconst 2 (z := 2) dX9_compare_295 rfl (by decide) rfl ?_
                refine y_Vi 68 (M := mX8_cell) (As := [(0, a2), (0, 2)]) (st := [(0, r35), (2, 33)]) dX9_compare_296 i27 rfl q2095 q2010 q2011 q375 q2012 rfl hmX8_cell rfl rfl rfl rfl rfl rfl rfl rfl (k_mono h (fun r37 w38 h => ?_))
                refine x_aload_n 0 dX9_compare_299 rfl rfl rfl rfl rfl ?_
                refine y_getF 25 1 (c := 8) (z := 19) dX9_compare_300 i33 rfl in_X9 q839 rfl rfl rfl fn_33_1 (Nat.le_trans (Nat.le_of_ble_eq_true rfl) hn) rfl ?_
                refine y_getF 71 1 (c := 6) (z := 21) dX9_compare_303 i19 rfl in_X7 q760 rfl rfl rfl fn_19_1 (Nat.le_trans (Nat.le_of_ble_eq_true rfl) hn) rfl ?_
                refine x_iload_n 3 dX9_compare_306 rfl rfl rfl ?_
                obtain ⟨e39, h⟩ := h
                refine y_iald (z := w38 21 a3) dX9_compare_307 ⟨60000, i21, e39⟩ rfl rfl ?_
                refine y_Vi 75 (M := mX9_compare) (As := [(0, r35), (0, r37), (0, w38 21 a3)]) (st := []) dX9_compare_308 i33 rfl q2096 q2076 q2077 q376 q2078 rfl hmX9_compare rfl rfl rfl rfl rfl rfl rfl rfl (k_mono h (fun r40 w41 h => ?_))
                refine x_istore 4 (ls' := [(2, 33), (0, a1), (0, a2), (0, a3), (0, r40)]) dX9_compare_311 rfl rfl rfl ?_
                refine x_iload 4 dX9_compare_313 rfl rfl ?_
                refine x_if_eq (t := 323) 8 dX9_compare_315 rfl rfl (b_ite h (fun hc h => ?_) (fun hc h => ?_))
                · refine x_aload_n 0 dX9_compare_323 rfl rfl rfl rfl rfl ?_
                  refine x_aload_n 0 dX9_compare_324 rfl rfl rfl rfl rfl ?_
                  refine y_getF 21 0 (c := 8) (z := 27) dX9_compare_325 i33 rfl in_X9 q838 rfl rfl rfl fn_33_0 (Nat.le_trans (Nat.le_of_ble_eq_true rfl) hn) rfl ?_
                  refine x_iload_n 1 dX9_compare_328 rfl rfl rfl ?_
                  refine x_iconst 3 (z := 3) dX9_compare_329 rfl (by decide) rfl ?_
                  refine y_Vi 68 (M := mX8_cell) (As := [(0, a1), (0, 3)]) (st := [(2, 33)]) dX9_compare_330 i27 rfl q2095 q2010 q2011 q375 q2012 rfl hmX8_cell rfl rfl rfl rfl rfl rfl rfl rfl (k_mono h (fun r42 w43 h => ?_))
                  refine x_aload_n 0 dX9_compare_333 rfl rfl rfl rfl rfl ?_
                  refine y_getF 21 0 (c := 8) (z := 27) dX9_compare_334 i33 rfl in_X9 q838 rfl rfl rfl fn_33_0 (Nat.le_trans (Nat.le_of_ble_eq_true rfl) hn) rfl ?_
                  refine x_iload_n 2 dX9_compare_337 rfl rfl rfl ?_
                  refine x_iconst 3 (z := 3) dX9_compare_338 rfl (by decide) rfl ?_
                  refine y_Vi 68 (M := mX8_cell) (As := [(0, a2), (0, 3)]) (st := [(0, r42), (2, 33)]) dX9_compare_339 i27 rfl q2095 q2010 q2011 q375 q2012 rfl hmX8_cell rfl rfl rfl rfl rfl rfl rfl rfl (k_mono h (fun r44 w45 h => ?_))
                  refine x_aload_n 0 dX9_compare_342 rfl rfl rfl rfl rfl ?_
                  refine y_getF 25 1 (c := 8) (z := 19) dX9_compare_343 i33 rfl in_X9 q839 rfl rfl rfl fn_33_1 (Nat.le_trans (Nat.le_of_ble_eq_true rfl) hn) rfl ?_
                  refine y_getF 81 2 (c := 6) (z := 22) dX9_compare_346 i19 rfl in_X7 q766 rfl rfl rfl fn_19_2 (Nat.le_trans (Nat.le_of_ble_eq_true rfl) hn) rfl ?_
                  refine x_iload_n 3 dX9_compare_349 rfl rfl rfl ?_
                  obtain ⟨e46, h⟩ := h
                  refine y_iald (z := w45 22 a3) dX9_compare_350 ⟨60000, i22, e46⟩ rfl rfl ?_
                  refine y_Vi 75 (M := mX9_compare) (As := [(0, r42), (0, r44), (0, w45 22 a3)]) (st := []) dX9_compare_351 i33 rfl q2096 q2076 q2077 q376 q2078 rfl hmX9_compare rfl rfl rfl rfl rfl rfl rfl rfl (k_mono h (fun r47 w48 h => ?_))
                  exact y_iret dX9_compare_354 rfl h
                · refine x_iload 4 dX9_compare_318 rfl rfl ?_
                  refine x_goto 34 (q := 354) dX9_compare_320 rfl ?_
                  exact y_iret dX9_compare_354 rfl h
              have e := hc
              exact x_tsI (off := 271) (t := 280) dX9_compare_9 (by rw [e]; decide) (by rw [e]; decide) (by rw [e]; rfl) rfl key
            · have key : b_Y (d + 1) mX9_compare n Q X 355 [(2, 33), (0, a1), (0, a2), (0, a3), (9, 0)] [] w := by
                refine x_aload_n 0 dX9_compare_355 rfl rfl rfl rfl rfl ?_
                refine x_iload_n 1 dX9_compare_356 rfl rfl rfl ?_
                refine x_iload_n 2 dX9_compare_357 rfl rfl rfl ?_
                refine y_Vi 84 (M := mX9_numbers) (As := [(0, a1), (0, a2)]) (st := []) dX9_compare_358 i33 rfl q2098 q2100 qs47 q376 q2101 rfl hmX9_numbers rfl rfl rfl rfl rfl rfl rfl rfl (k_mono h (fun r49 w50 h => ?_))
                exact y_iret dX9_compare_361 rfl h
              by_cases e : w 20 a3 = 2
              · exact x_tsI (off := 346) (t := 355) dX9_compare_9 (by rw [e]; decide) (by rw [e]; decide) (by rw [e]; rfl) rfl key
              have hx2 := e
              by_cases e : w 20 a3 = 3
              · exact x_tsI (off := 346) (t := 355) dX9_compare_9 (by rw [e]; decide) (by rw [e]; decide) (by rw [e]; rfl) rfl key
              have hx3 := e
              by_cases e : w 20 a3 = 4
              · exact x_tsI (off := 346) (t := 355) dX9_compare_9 (by rw [e]; decide) (by rw [e]; decide) (by rw [e]; rfl) rfl key
              have hx4 := e
              by_cases e : w 20 a3 = 8
              · exact x_tsI (off := 346) (t := 355) dX9_compare_9 (by rw [e]; decide) (by rw [e]; decide) (by rw [e]; rfl) rfl key
              have hx8 := e
              by_cases e : w 20 a3 = 9
              · exact x_tsI (off := 346) (t := 355) dX9_compare_9 (by rw [e]; decide) (by rw [e]; decide) (by rw [e]; rfl) rfl key
              have hx9 := e
              by_cases e : w 20 a3 = 11
              · exact x_tsI (off := 346) (t := 355) dX9_compare_9 (by rw [e]; decide) (by rw [e]; decide) (by rw [e]; rfl) rfl key
              have hx11 := e
              by_cases e : w 20 a3 = 12
              · exact x_tsI (off := 346) (t := 355) dX9_compare_9 (by rw [e]; decide) (by rw [e]; decide) (by rw [e]; rfl) rfl key
              have hx12 := e
              by_cases e : w 20 a3 = 13
              · exact x_tsI (off := 346) (t := 355) dX9_compare_9 (by rw [e]; decide) (by rw [e]; decide) (by rw [e]; rfl) rfl key
              have hx13 := e
              by_cases e : w 20 a3 = 15
              · exact x_tsI (off := 346) (t := 355) dX9_compare_9 (by rw [e]; decide) (by rw [e]; decide) (by rw [e]; rfl) rfl key
              have hx15 := e
              by_cases e : w 20 a3 = 16
              · exact x_tsI (off := 346) (t := 355) dX9_compare_9 (by rw [e]; decide) (by rw [e]; decide) (by rw [e]; rfl) rfl key
              have hx16 := e
              by_cases e : w 20 a3 = 17
              · exact x_tsI (off := 346) (t := 355) dX9_compare_9 (by rw [e]; decide) (by rw [e]; decide) (by rw [e]; rfl) rfl key
              have hx17 := e
              exact x_tsO (t := 355) dX9_compare_9 (by omega) rfl key
theorem rX9_sign {d n : Nat} {w : bW} {Q : Int → bW → Prop} {X : String → bW → Prop} (a0 : Int) (h : if 0 ≤ a0 then (if a0 ≤ 0 then (Q 0 w) else (Q 1 w)) else (Q (-1) w)) : b_K (d + 1) mX9_sign [(0, a0)] n w Q X := by
  refine k_of (by decide) rfl rfl rfl (ls := [(0, a0)]) rfl ?_
  refine x_iload_n 0 dX9_sign_0 rfl rfl rfl ?_
  refine x_if_ge (t := 8) 7 dX9_sign_1 rfl rfl (b_ite h (fun hc h => ?_) (fun hc h => ?_))
  · refine x_iload_n 0 dX9_sign_8 rfl rfl rfl ?_
    refine x_if_le (t := 16) 7 dX9_sign_9 rfl rfl (b_ite h (fun hc h => ?_) (fun hc h => ?_))
    · refine x_iconst 0 (z := 0) dX9_sign_16 rfl (by decide) rfl ?_
      exact y_iret dX9_sign_17 rfl h
    · refine x_iconst 1 (z := 1) dX9_sign_12 rfl (by decide) rfl ?_
      refine x_goto 4 (q := 17) dX9_sign_13 rfl ?_
      exact y_iret dX9_sign_17 rfl h
  · refine x_iconst (-1) (z := (-1)) dX9_sign_4 rfl (by decide) rfl ?_
    refine x_goto 12 (q := 17) dX9_sign_5 rfl ?_
    exact y_iret dX9_sign_17 rfl h
abbrev LX9_bytes_23 (d n : Nat) (Q : Int → bW → Prop) (X : String → bW → Prop) (a1 : Int) (a2 : Int) (a3 : Int) (a4 : Int) (w : bW) : Prop := b_Y (d + 1) mX9_bytes n Q X 23 [(2, 33), (0, a1), (0, a2), (0, a3), (0, a4)] [] w
theorem rX9_bytes {d n : Nat} {w : bW} {Q : Int → bW → Prop} {X : String → bW → Prop} (hn : 143 ≤ n) (a1 : Int) (a2 : Int) (h : b_K d mX8_count [(2, 27), (0, a1)] n w (fun r1 w2 => b_K d mX8_count [(2, 27), (0, a2)] n w2 (fun r3 w4 => LX9_bytes_23 d n Q X a1 a2 (min r1 r3) 0 w4) X) X) : b_K (d + 1) mX9_bytes [(2, 33), (0, a1), (0, a2)] n w Q X := by
  have i27 := iz27 (Nat.le_trans (Nat.le_of_ble_eq_true rfl) hn)
  have i33 := iz33 (Nat.le_trans (Nat.le_of_ble_eq_true rfl) hn)
  refine k_of (by decide) rfl rfl rfl (ls := [(2, 33), (0, a1), (0, a2), (9, 0), (9, 0)]) rfl ?_
  refine x_aload_n 0 dX9_bytes_0 rfl rfl rfl rfl rfl ?_
  refine y_getF 21 0 (c := 8) (z := 27) dX9_bytes_1 i33 rfl in_X9 q838 rfl rfl rfl fn_33_0 (Nat.le_trans (Nat.le_of_ble_eq_true rfl) hn) rfl ?_
  refine x_iload_n 1 dX9_bytes_4 rfl rfl rfl ?_
  refine y_Vi 47 (M := mX8_count) (As := [(0, a1)]) (st := []) dX9_bytes_5 i27 rfl q2086 q2087 q2088 q375 q2089 rfl hmX8_count rfl rfl rfl rfl rfl rfl rfl rfl (k_mono h (fun r1 w2 h => ?_))
  refine x_aload_n 0 dX9_bytes_8 rfl rfl rfl rfl rfl ?_
  refine y_getF 21 0 (c := 8) (z := 27) dX9_bytes_9 i33 rfl in_X9 q838 rfl rfl rfl fn_33_0 (Nat.le_trans (Nat.le_of_ble_eq_true rfl) hn) rfl ?_
  refine x_iload_n 2 dX9_bytes_12 rfl rfl rfl ?_
  refine y_Vi 47 (M := mX8_count) (As := [(0, a2)]) (st := [(0, r1)]) dX9_bytes_13 i27 rfl q2086 q2087 q2088 q375 q2089 rfl hmX8_count rfl rfl rfl rfl rfl rfl rfl rfl (k_mono h (fun r3 w4 h => ?_))
  refine y_mmin 50 dX9_bytes_16 q2090 q526 q367 q527 rfl rfl ?_
  refine x_istore_n 3 (ls' := [(2, 33), (0, a1), (0, a2), (0, (min r1 r3)), (9, 0)]) dX9_bytes_19 rfl rfl rfl rfl ?_
  refine x_iconst 0 (z := 0) dX9_bytes_20 rfl (by decide) rfl ?_
  refine x_istore 4 (ls' := [(2, 33), (0, a1), (0, a2), (0, (min r1 r3)), (0, 0)]) dX9_bytes_21 rfl rfl rfl ?_
  exact x_fg (fgk (fgk (fgk (fgk (fgk (fg0)))))) h
theorem sX9_bytes_23 {d n : Nat} {w : bW} {Q : Int → bW → Prop} {X : String → bW → Prop} (hn : 143 ≤ n) (a1 : Int) (a2 : Int) (a3 : Int) (a4 : Int) (h : if a3 ≤ a4 then (if a3 ≤ a4 then (b_K d mX8_count [(2, 27), (0, a1)] n w (fun r1 w2 => b_K d mX8_count [(2, 27), (0, a2)] n w2 (fun r3 w4 => b_K d mX9_sign [(0, b_i (r1 - r3))] n w4 (fun r5 w6 => Q r5 w6) X) X) X) else (b_K d mX8_byteAt [(2, 27), (0, a1), (0, a4)] n w (fun r7 w8 => b_K d mX8_byteAt [(2, 27), (0, a2), (0, a4)] n w8 (fun r9 w10 => b_K d mX9_sign [(0, b_i (r7 - r9))] n w10 (fun r11 w12 => Q r11 w12) X) X) X)) else (b_K d mX8_byteAt [(2, 27), (0, a1), (0, a4)] n w (fun r13 w14 => b_K d mX8_byteAt [(2, 27), (0, a2), (0, a4)] n w14 (fun r15 w16 => if r13 ≠ r15 then (if a3 ≤ a4 then (b_K d mX8_count [(2, 27), (0, a1)] n w16 (fun r17 w18 => b_K d mX8_count [(2, 27), (0, a2)] n w18 (fun r19 w20 => b_K d mX9_sign [(0, b_i (r17 - r19))] n w20 (fun r21 w22 => Q r21 w22) X) X) X) else (b_K d mX8_byteAt [(2, 27), (0, a1), (0, a4)] n w16 (fun r23 w24 => b_K d mX8_byteAt [(2, 27), (0, a2), (0, a4)] n w24 (fun r25 w26 => b_K d mX9_sign [(0, b_i (r23 - r25))] n w26 (fun r27 w28 => Q r27 w28) X) X) X)) else (LX9_bytes_23 d n Q X a1 a2 a3 (b_i (a4 + 1)) w16)) X) X)) : LX9_bytes_23 d n Q X a1 a2 a3 a4 w := by
  have i27 := iz27 (Nat.le_trans (Nat.le_of_ble_eq_true rfl) hn)
  have i33 := iz33 (Nat.le_trans (Nat.le_of_ble_eq_true rfl) hn)
  refine x_iload 4 dX9_bytes_23 rfl rfl ?_
  refine x_iload_n 3 dX9_bytes_25 rfl rfl rfl ?_
  refine x_icmp_ge (t := 58) 32 dX9_bytes_26 rfl rfl (b_ite h (fun hc h => ?_) (fun hc h => ?_))
  · refine x_iload 4 dX9_bytes_58 rfl rfl ?_
    refine x_iload_n 3 dX9_bytes_60 rfl rfl rfl ?_
    refine x_icmp_ge (t := 88) 27 dX9_bytes_61 rfl rfl (b_ite h (fun hc h => ?_) (fun hc h => ?_))
    · refine x_aload_n 0 dX9_bytes_88 rfl rfl rfl rfl rfl ?_
      refine y_getF 21 0 (c := 8) (z := 27) dX9_bytes_89 i33 rfl in_X9 q838 rfl rfl rfl fn_33_0 (Nat.le_trans (Nat.le_of_ble_eq_true rfl) hn) rfl ?_
      refine x_iload_n 1 dX9_bytes_92 rfl rfl rfl ?_
      refine y_Vi 47 (M := mX8_count) (As := [(0, a1)]) (st := []) dX9_bytes_93 i27 rfl q2086 q2087 q2088 q375 q2089 rfl hmX8_count rfl rfl rfl rfl rfl rfl rfl rfl (k_mono h (fun r1 w2 h => ?_))
      refine x_aload_n 0 dX9_bytes_96 rfl rfl rfl rfl rfl ?_
      refine y_getF 21 0 (c := 8) (z := 27) dX9_bytes_97 i33 rfl in_X9 q838 rfl rfl rfl fn_33_0 (Nat.le_trans (Nat.le_of_ble_eq_true rfl) hn) rfl ?_
      refine x_iload_n 2 dX9_bytes_100 rfl rfl rfl ?_
      refine y_Vi 47 (M := mX8_count) (As := [(0, a2)]) (st := [(0, r1)]) dX9_bytes_101 i27 rfl q2086 q2087 q2088 q375 q2089 rfl hmX8_count rfl rfl rfl rfl rfl rfl rfl rfl (k_mono h (fun r3 w4 h => ?_))
      refine x_isub dX9_bytes_104 rfl ?_
      refine y_Si 43 (M := mX9_sign) (As := [(0, b_i (r1 - r3))]) (st := []) dX9_bytes_105 q2079 q2080 q376 q2081 hmX9_sign rfl rfl rfl rfl rfl rfl rfl rfl (k_mono h (fun r5 w6 h => ?_))
      exact y_iret dX9_bytes_108 rfl h
    · refine x_aload_n 0 dX9_bytes_64 rfl rfl rfl rfl rfl ?_
      refine y_getF 21 0 (c := 8) (z := 27) dX9_bytes_65 i33 rfl in_X9 q838 rfl rfl rfl fn_33_0 (Nat.le_trans (Nat.le_of_ble_eq_true rfl) hn) rfl ?_
      refine x_iload_n 1 dX9_bytes_68 rfl rfl rfl ?_
      refine x_iload 4 dX9_bytes_69 rfl rfl ?_
      refine y_Vi 56 (M := mX8_byteAt) (As := [(0, a1), (0, a4)]) (st := []) dX9_bytes_71 i27 rfl q2091 q2092 q2093 q375 q2094 rfl hmX8_byteAt rfl rfl rfl rfl rfl rfl rfl rfl (k_mono h (fun r7 w8 h => ?_))
      refine x_aload_n 0 dX9_bytes_74 rfl rfl rfl rfl rfl ?_
      refine y_getF 21 0 (c := 8) (z := 27) dX9_bytes_75 i33 rfl in_X9 q838 rfl rfl rfl fn_33_0 (Nat.le_trans (Nat.le_of_ble_eq_true rfl) hn) rfl ?_
      refine x_iload_n 2 dX9_bytes_78 rfl rfl rfl ?_
      refine x_iload 4 dX9_bytes_79 rfl rfl ?_
      refine y_Vi 56 (M := mX8_byteAt) (As := [(0, a2), (0, a4)]) (st := [(0, r7)]) dX9_bytes_81 i27 rfl q2091 q2092 q2093 q375 q2094 rfl hmX8_byteAt rfl rfl rfl rfl rfl rfl rfl rfl (k_mono h (fun r9 w10 h => ?_))
      refine x_isub dX9_bytes_84 rfl ?_
      refine x_goto 20 (q := 105) dX9_bytes_85 rfl ?_
      refine y_Si 43 (M := mX9_sign) (As := [(0, b_i (r7 - r9))]) (st := []) dX9_bytes_105 q2079 q2080 q376 q2081 hmX9_sign rfl rfl rfl rfl rfl rfl rfl rfl (k_mono h (fun r11 w12 h => ?_))
      exact y_iret dX9_bytes_108 rfl h
  · refine x_aload_n 0 dX9_bytes_29 rfl rfl rfl rfl rfl ?_
    refine y_getF 21 0 (c := 8) (z := 27) dX9_bytes_30 i33 rfl in_X9 q838 rfl rfl rfl fn_33_0 (Nat.le_trans (Nat.le_of_ble_eq_true rfl) hn) rfl ?_
    refine x_iload_n 1 dX9_bytes_33 rfl rfl rfl ?_
    refine x_iload 4 dX9_bytes_34 rfl rfl ?_
    refine y_Vi 56 (M := mX8_byteAt) (As := [(0, a1), (0, a4)]) (st := []) dX9_bytes_36 i27 rfl q2091 q2092 q2093 q375 q2094 rfl hmX8_byteAt rfl rfl rfl rfl rfl rfl rfl rfl (k_mono h (fun r13 w14 h => ?_))
    refine x_aload_n 0 dX9_bytes_39 rfl rfl rfl rfl rfl ?_
    refine y_getF 21 0 (c := 8) (z := 27) dX9_bytes_40 i33 rfl in_X9 q838 rfl rfl rfl fn_33_0 (Nat.le_trans (Nat.le_of_ble_eq_true rfl) hn) rfl ?_
    refine x_iload_n 2 dX9_bytes_43 rfl rfl rfl ?_
    refine x_iload 4 dX9_bytes_44 rfl rfl ?_
    refine y_Vi 56 (M := mX8_byteAt) (As := [(0, a2), (0, a4)]) (st := [(0, r13)]) dX9_bytes_46 i27 rfl q2091 q2092 q2093 q375 q2094 rfl hmX8_byteAt rfl rfl rfl rfl rfl rfl rfl rfl (k_mono h (fun r15 w16 h => ?_))
    refine x_icmp_ne (t := 58) 9 dX9_bytes_49 rfl rfl (b_ite h (fun hc h => ?_) (fun hc h => ?_))
    · refine x_iload 4 dX9_bytes_58 rfl rfl ?_
      refine x_iload_n 3 dX9_bytes_60 rfl rfl rfl ?_
      refine x_icmp_ge (t := 88) 27 dX9_bytes_61 rfl rfl (b_ite h (fun hc h => ?_) (fun hc h => ?_))
      · refine x_aload_n 0 dX9_bytes_88 rfl rfl rfl rfl rfl ?_
        refine y_getF 21 0 (c := 8) (z := 27) dX9_bytes_89 i33 rfl in_X9 q838 rfl rfl rfl fn_33_0 (Nat.le_trans (Nat.le_of_ble_eq_true rfl) hn) rfl ?_
        refine x_iload_n 1 dX9_bytes_92 rfl rfl rfl ?_
        refine y_Vi 47 (M := mX8_count) (As := [(0, a1)]) (st := []) dX9_bytes_93 i27 rfl q2086 q2087 q2088 q375 q2089 rfl hmX8_count rfl rfl rfl rfl rfl rfl rfl rfl (k_mono h (fun r17 w18 h => ?_))
        refine x_aload_n 0 dX9_bytes_96 rfl rfl rfl rfl rfl ?_
        refine y_getF 21 0 (c := 8) (z := 27) dX9_bytes_97 i33 rfl in_X9 q838 rfl rfl rfl fn_33_0 (Nat.le_trans (Nat.le_of_ble_eq_true rfl) hn) rfl ?_
        refine x_iload_n 2 dX9_bytes_100 rfl rfl rfl ?_
        refine y_Vi 47 (M := mX8_count) (As := [(0, a2)]) (st := [(0, r17)]) dX9_bytes_101 i27 rfl q2086 q2087 q2088 q375 q2089 rfl hmX8_count rfl rfl rfl rfl rfl rfl rfl rfl (k_mono h (fun r19 w20 h => ?_))
        refine x_isub dX9_bytes_104 rfl ?_
        refine y_Si 43 (M := mX9_sign) (As := [(0, b_i (r17 - r19))]) (st := []) dX9_bytes_105 q2079 q2080 q376 q2081 hmX9_sign rfl rfl rfl rfl rfl rfl rfl rfl (k_mono h (fun r21 w22 h => ?_))
        exact y_iret dX9_bytes_108 rfl h
      · refine x_aload_n 0 dX9_bytes_64 rfl rfl rfl rfl rfl ?_
        refine y_getF 21 0 (c := 8) (z := 27) dX9_bytes_65 i33 rfl in_X9 q838 rfl rfl rfl fn_33_0 (Nat.le_trans (Nat.le_of_ble_eq_true rfl) hn) rfl ?_
        refine x_iload_n 1 dX9_bytes_68 rfl rfl rfl ?_
        refine x_iload 4 dX9_bytes_69 rfl rfl ?_
        refine y_Vi 56 (M := mX8_byteAt) (As := [(0, a1), (0, a4)]) (st := []) dX9_bytes_71 i27 rfl q2091 q2092 q2093 q375 q2094 rfl hmX8_byteAt rfl rfl rfl rfl rfl rfl rfl rfl (k_mono h (fun r23 w24 h => ?_))
        refine x_aload_n 0 dX9_bytes_74 rfl rfl rfl rfl rfl ?_
        refine y_getF 21 0 (c := 8) (z := 27) dX9_bytes_75 i33 rfl in_X9 q838 rfl rfl rfl fn_33_0 (Nat.le_trans (Nat.le_of_ble_eq_true rfl) hn) rfl ?_
        refine x_iload_n 2 dX9_bytes_78 rfl rfl rfl ?_
        refine x_iload 4 dX9_bytes_79 rfl rfl ?_
        refine y_Vi 56 (M := mX8_byteAt) (As := [(0, a2), (0, a4)]) (st := [(0, r23)]) dX9_bytes_81 i27 rfl q2091 q2092 q2093 q375 q2094 rfl hmX8_byteAt rfl rfl rfl rfl rfl rfl rfl rfl (k_mono h (fun r25 w26 h => ?_))
        refine x_isub dX9_bytes_84 rfl ?_
        refine x_goto 20 (q := 105) dX9_bytes_85 rfl ?_
        refine y_Si 43 (M := mX9_sign) (As := [(0, b_i (r23 - r25))]) (st := []) dX9_bytes_105 q2079 q2080 q376 q2081 hmX9_sign rfl rfl rfl rfl rfl rfl rfl rfl (k_mono h (fun r27 w28 h => ?_))
        exact y_iret dX9_bytes_108 rfl h
    · refine x_iinc 4 1 (ls' := [(2, 33), (0, a1), (0, a2), (0, a3), (0, b_i (a4 + 1))]) dX9_bytes_52 rfl rfl rfl rfl ?_
      refine x_goto (-32) (q := 23) dX9_bytes_55 rfl ?_
      exact x_fg (fgk (fgk (fgk (fgk (fgk (fg0)))))) h
theorem rX9_numbers {d n : Nat} {w : bW} {Q : Int → bW → Prop} {X : String → bW → Prop} (hn : 143 ≤ n) (a1 : Int) (a2 : Int) (h : b_K d mX8_isSmall [(0, a1)] n w (fun r1 w2 => if r1 = 0 then (b_K d mX8_load [(2, 27), (0, a1), (2, 34)] n w2 (fun r3 w4 => b_K d mX8_load [(2, 27), (0, a2), (2, 36)] n w4 (fun r5 w6 => b_K d mX6_compare [(2, 34), (2, 36)] n w6 (fun r7 w8 => b_K d mX9_sign [(0, r7)] n w8 (fun r9 w10 => Q r9 w10) X) X) X) X) else (b_K d mX8_isSmall [(0, a2)] n w2 (fun r11 w12 => if r11 = 0 then (b_K d mX8_load [(2, 27), (0, a1), (2, 34)] n w12 (fun r13 w14 => b_K d mX8_load [(2, 27), (0, a2), (2, 36)] n w14 (fun r15 w16 => b_K d mX6_compare [(2, 34), (2, 36)] n w16 (fun r17 w18 => b_K d mX9_sign [(0, r17)] n w18 (fun r19 w20 => Q r19 w20) X) X) X) X) else (if a2 ≤ a1 then (if a1 ≤ a2 then (Q 0 w12) else (Q 1 w12)) else (Q (-1) w12))) X)) X) : b_K (d + 1) mX9_numbers [(2, 33), (0, a1), (0, a2)] n w Q X := by
  have i27 := iz27 (Nat.le_trans (Nat.le_of_ble_eq_true rfl) hn)
  have i33 := iz33 (Nat.le_trans (Nat.le_of_ble_eq_true rfl) hn)
  have i34 := iz34 (Nat.le_trans (Nat.le_of_ble_eq_true rfl) hn)
  refine k_of (by decide) rfl rfl rfl (ls := [(2, 33), (0, a1), (0, a2)]) rfl ?_
  refine x_iload_n 1 dX9_numbers_0 rfl rfl rfl ?_
  refine y_Si 29 (M := mX8_isSmall) (As := [(0, a1)]) (st := []) dX9_numbers_1 q2102 q2032 q375 q2033 hmX8_isSmall rfl rfl rfl rfl rfl rfl rfl rfl (k_mono h (fun r1 w2 h => ?_))
  refine x_if_eq (t := 34) 30 dX9_numbers_4 rfl rfl (b_ite h (fun hc h => ?_) (fun hc h => ?_))
  · refine x_aload_n 0 dX9_numbers_34 rfl rfl rfl rfl rfl ?_
    refine y_getF 21 0 (c := 8) (z := 27) dX9_numbers_35 i33 rfl in_X9 q838 rfl rfl rfl fn_33_0 (Nat.le_trans (Nat.le_of_ble_eq_true rfl) hn) rfl ?_
    refine x_iload_n 1 dX9_numbers_38 rfl rfl rfl ?_
    refine x_aload_n 0 dX9_numbers_39 rfl rfl rfl rfl rfl ?_
    refine y_getF 12 2 (c := 8) (z := 34) dX9_numbers_40 i33 rfl in_X9 q840 rfl rfl rfl fn_33_2 (Nat.le_trans (Nat.le_of_ble_eq_true rfl) hn) rfl ?_
    refine y_Vv 35 (M := mX8_load) (As := [(0, a1), (2, 34)]) (st := []) dX9_numbers_43 i27 rfl q2103 q2104 q2105 q375 q2106 rfl hmX8_load rfl rfl rfl rfl rfl rfl rfl (k_mono h (fun r3 w4 h => ?_))
    refine x_aload_n 0 dX9_numbers_46 rfl rfl rfl rfl rfl ?_
    refine y_getF 21 0 (c := 8) (z := 27) dX9_numbers_47 i33 rfl in_X9 q838 rfl rfl rfl fn_33_0 (Nat.le_trans (Nat.le_of_ble_eq_true rfl) hn) rfl ?_
    refine x_iload_n 2 dX9_numbers_50 rfl rfl rfl ?_
    refine x_aload_n 0 dX9_numbers_51 rfl rfl rfl rfl rfl ?_
    refine y_getF 18 3 (c := 8) (z := 36) dX9_numbers_52 i33 rfl in_X9 q841 rfl rfl rfl fn_33_3 (Nat.le_trans (Nat.le_of_ble_eq_true rfl) hn) rfl ?_
    refine y_Vv 35 (M := mX8_load) (As := [(0, a2), (2, 36)]) (st := []) dX9_numbers_55 i27 rfl q2103 q2104 q2105 q375 q2106 rfl hmX8_load rfl rfl rfl rfl rfl rfl rfl (k_mono h (fun r5 w6 h => ?_))
    refine x_aload_n 0 dX9_numbers_58 rfl rfl rfl rfl rfl ?_
    refine y_getF 12 2 (c := 8) (z := 34) dX9_numbers_59 i33 rfl in_X9 q840 rfl rfl rfl fn_33_2 (Nat.le_trans (Nat.le_of_ble_eq_true rfl) hn) rfl ?_
    refine x_aload_n 0 dX9_numbers_62 rfl rfl rfl rfl rfl ?_
    refine y_getF 18 3 (c := 8) (z := 36) dX9_numbers_63 i33 rfl in_X9 q841 rfl rfl rfl fn_33_3 (Nat.le_trans (Nat.le_of_ble_eq_true rfl) hn) rfl ?_
    refine y_Vi 39 (M := mX6_compare) (As := [(2, 36)]) (st := []) dX9_numbers_66 i34 rfl q2113 q2114 q2115 q373 q2116 rfl hmX6_compare rfl rfl rfl rfl rfl rfl rfl rfl (k_mono h (fun r7 w8 h => ?_))
    refine y_Si 43 (M := mX9_sign) (As := [(0, r7)]) (st := []) dX9_numbers_69 q2079 q2080 q376 q2081 hmX9_sign rfl rfl rfl rfl rfl rfl rfl rfl (k_mono h (fun r9 w10 h => ?_))
    exact y_iret dX9_numbers_72 rfl h
  · refine x_iload_n 2 dX9_numbers_7 rfl rfl rfl ?_
    refine y_Si 29 (M := mX8_isSmall) (As := [(0, a2)]) (st := []) dX9_numbers_8 q2102 q2032 q375 q2033 hmX8_isSmall rfl rfl rfl rfl rfl rfl rfl rfl (k_mono h (fun r11 w12 h => ?_))
    refine x_if_eq (t := 34) 23 dX9_numbers_11 rfl rfl (b_ite h (fun hc h => ?_) (fun hc h => ?_))
    · refine x_aload_n 0 dX9_numbers_34 rfl rfl rfl rfl rfl ?_
      refine y_getF 21 0 (c := 8) (z := 27) dX9_numbers_35 i33 rfl in_X9 q838 rfl rfl rfl fn_33_0 (Nat.le_trans (Nat.le_of_ble_eq_true rfl) hn) rfl ?_
      refine x_iload_n 1 dX9_numbers_38 rfl rfl rfl ?_
      refine x_aload_n 0 dX9_numbers_39 rfl rfl rfl rfl rfl ?_
      refine y_getF 12 2 (c := 8) (z := 34) dX9_numbers_40 i33 rfl in_X9 q840 rfl rfl rfl fn_33_2 (Nat.le_trans (Nat.le_of_ble_eq_true rfl) hn) rfl ?_
      refine y_Vv 35 (M := mX8_load) (As := [(0, a1), (2, 34)]) (st := []) dX9_numbers_43 i27 rfl q2103 q2104 q2105 q375 q2106 rfl hmX8_load rfl rfl rfl rfl rfl rfl rfl (k_mono h (fun r13 w14 h => ?_))
      refine x_aload_n 0 dX9_numbers_46 rfl rfl rfl rfl rfl ?_
      refine y_getF 21 0 (c := 8) (z := 27) dX9_numbers_47 i33 rfl in_X9 q838 rfl rfl rfl fn_33_0 (Nat.le_trans (Nat.le_of_ble_eq_true rfl) hn) rfl ?_
      refine x_iload_n 2 dX9_numbers_50 rfl rfl rfl ?_
      refine x_aload_n 0 dX9_numbers_51 rfl rfl rfl rfl rfl ?_
      refine y_getF 18 3 (c := 8) (z := 36) dX9_numbers_52 i33 rfl in_X9 q841 rfl rfl rfl fn_33_3 (Nat.le_trans (Nat.le_of_ble_eq_true rfl) hn) rfl ?_
      refine y_Vv 35 (M := mX8_load) (As := [(0, a2), (2, 36)]) (st := []) dX9_numbers_55 i27 rfl q2103 q2104 q2105 q375 q2106 rfl hmX8_load rfl rfl rfl rfl rfl rfl rfl (k_mono h (fun r15 w16 h => ?_))
      refine x_aload_n 0 dX9_numbers_58 rfl rfl rfl rfl rfl ?_
      refine y_getF 12 2 (c := 8) (z := 34) dX9_numbers_59 i33 rfl in_X9 q840 rfl rfl rfl fn_33_2 (Nat.le_trans (Nat.le_of_ble_eq_true rfl) hn) rfl ?_
      refine x_aload_n 0 dX9_numbers_62 rfl rfl rfl rfl rfl ?_
      refine y_getF 18 3 (c := 8) (z := 36) dX9_numbers_63 i33 rfl in_X9 q841 rfl rfl rfl fn_33_3 (Nat.le_trans (Nat.le_of_ble_eq_true rfl) hn) rfl ?_
      refine y_Vi 39 (M := mX6_compare) (As := [(2, 36)]) (st := []) dX9_numbers_66 i34 rfl q2113 q2114 q2115 q373 q2116 rfl hmX6_compare rfl rfl rfl rfl rfl rfl rfl rfl (k_mono h (fun r17 w18 h => ?_))
      refine y_Si 43 (M := mX9_sign) (As := [(0, r17)]) (st := []) dX9_numbers_69 q2079 q2080 q376 q2081 hmX9_sign rfl rfl rfl rfl rfl rfl rfl rfl (k_mono h (fun r19 w20 h => ?_))
      exact y_iret dX9_numbers_72 rfl h
    · refine x_iload_n 1 dX9_numbers_14 rfl rfl rfl ?_
      refine x_iload_n 2 dX9_numbers_15 rfl rfl rfl ?_
      refine x_icmp_ge (t := 23) 7 dX9_numbers_16 rfl rfl (b_ite h (fun hc h => ?_) (fun hc h => ?_))
      · refine x_iload_n 1 dX9_numbers_23 rfl rfl rfl ?_
        refine x_iload_n 2 dX9_numbers_24 rfl rfl rfl ?_
        refine x_icmp_le (t := 32) 7 dX9_numbers_25 rfl rfl (b_ite h (fun hc h => ?_) (fun hc h => ?_))
        · refine x_iconst 0 (z := 0) dX9_numbers_32 rfl (by decide) rfl ?_
          exact y_iret dX9_numbers_33 rfl h
        · refine x_iconst 1 (z := 1) dX9_numbers_28 rfl (by decide) rfl ?_
          refine x_goto 4 (q := 33) dX9_numbers_29 rfl ?_
          exact y_iret dX9_numbers_33 rfl h
      · refine x_iconst (-1) (z := (-1)) dX9_numbers_19 rfl (by decide) rfl ?_
        refine x_goto 13 (q := 33) dX9_numbers_20 rfl ?_
        exact y_iret dX9_numbers_33 rfl h
end RulesX9
