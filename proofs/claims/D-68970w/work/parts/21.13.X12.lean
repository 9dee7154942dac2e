section RulesX12
set_option maxRecDepth 100000
theorem rX12_read {d n : Nat} {w : bW} {Q : Int → bW → Prop} {X : String → bW → Prop} (hn : 143 ≤ n) (a1 : Int) (a2 : Int) (h : (0 ≤ a1 ∧ a1 < 4096) ∧ (if w 14 a1 = 0 then ((0 ≤ a2 ∧ a2 < 60000) ∧ (if w 20 a2 = 0 then (b_K d mX4_is [(2, 6), (0, a1), (0, 19), (0, 0)] n w (fun r3 w4 => if r3 = 0 then (Q 0 w4) else (Q 2 w4)) X) else (if w 20 a2 = 1 then (b_K d mX4_is [(2, 6), (0, a1), (0, 20), (0, 0)] n w (fun r5 w6 => if r5 = 0 then (b_K d mX4_is [(2, 6), (0, a1), (0, 21), (0, 0)] n w6 (fun r7 w8 => if r7 = 0 then (Q 0 w8) else (Q 4 w8)) X) else (Q 6 w6)) X) else (if w 20 a2 = 2 ∨ w 20 a2 = 3 ∨ w 20 a2 = 4 ∨ w 20 a2 = 8 then (b_K d mX12_readNumber [(2, 41), (0, a1), (0, w 20 a2)] n w (fun r9 w10 => Q r9 w10) X) else (if w 20 a2 = 5 ∨ w 20 a2 = 7 then (if w 20 a2 ≠ 7 then (b_K d mX12_readString [(2, 41), (0, a1), (0, 0)] n w (fun r11 w12 => Q r11 w12) X) else (b_K d mX12_readString [(2, 41), (0, a1), (0, 1)] n w (fun r13 w14 => Q r13 w14) X)) else (if w 20 a2 = 6 then (b_K d mX12_readBytes [(2, 41), (0, a1)] n w (fun r15 w16 => Q r15 w16) X) else (if w 20 a2 = 10 then (b_K d mX4_is [(2, 6), (0, a1), (0, 22), (0, 0)] n w (fun r17 w18 => if r17 = 0 then ((0 ≤ a2 ∧ a2 < 60000) ∧ (b_K d mX12_readWrapped [(2, 41), (0, a1), (0, 23), (0, 4), (0, w18 21 a2)] n w18 (fun r20 w21 => Q r20 w21) X)) else (Q 8 w18)) X) else (if w 20 a2 = 11 then (b_K d mX4_isSequence [(2, 6), (0, a1)] n w (fun r22 w23 => if r22 = 0 then (Q 0 w23) else ((0 ≤ a2 ∧ a2 < 60000) ∧ (b_K d mX12_readList [(2, 41), (0, a1), (0, w23 21 a2)] n w23 (fun r25 w26 => Q r25 w26) X))) X) else (if w 20 a2 = 12 ∨ w 20 a2 = 15 ∨ w 20 a2 = 16 then (b_K d mX4_isSequence [(2, 6), (0, a1)] n w (fun r27 w28 => if r27 = 0 then (Q 0 w28) else ((0 ≤ a2 ∧ a2 < 60000) ∧ (if w28 20 a2 ≠ 12 then ((0 ≤ a2 ∧ a2 < 60000) ∧ (b_K d mX12_readTree [(2, 41), (0, a1), (0, w28 21 a2), (0, w28 22 a2)] n w28 (fun r31 w32 => Q r31 w32) X)) else (b_K d mX12_readTree [(2, 41), (0, a1), (0, w28 21 a2), (0, (-1))] n w28 (fun r33 w34 => Q r33 w34) X)))) X) else (if w 20 a2 = 14 then (b_K d mX4_is [(2, 6), (0, a1), (0, 24), (0, 1)] n w (fun r35 w36 => if r35 = 0 then ((0 ≤ a2 ∧ a2 < 60000) ∧ (b_K d mX12_readWrapped [(2, 41), (0, a1), (0, 25), (0, 6), (0, w36 22 a2)] n w36 (fun r38 w39 => Q r38 w39) X)) else ((0 ≤ a2 ∧ a2 < 60000) ∧ (b_K d mX12_readWrapped [(2, 41), (0, a1), (0, 24), (0, 5), (0, w36 21 a2)] n w36 (fun r41 w42 => Q r41 w42) X))) X) else (if w 20 a2 = 18 then ((0 ≤ a1 ∧ a1 < 4096) ∧ (if w 10 a1 ≠ 8 then (Q 0 w) else ((0 ≤ a1 ∧ a1 < 4096) ∧ (if w 11 a1 ≠ 26 then (Q 0 w) else ((0 ≤ a1 ∧ a1 < 4096) ∧ (if w 18 a1 ≤ 1 then (Q 0 w) else ((0 ≤ a1 ∧ a1 < 4096) ∧ (b_K d mX12_readComb [(2, 41), (0, w 16 a1), (0, a2)] n w (fun r47 w48 => Q r47 w48) X)))))))) else ((Q 0 w))))))))))))) else (Q 0 w))) : b_K (d + 1) mX12_read [(2, 41), (0, a1), (0, a2)] n w Q X := by
  have i6 := iz6 (Nat.le_trans (Nat.le_of_ble_eq_true rfl) hn)
  have i10 := iz10 (Nat.le_trans (Nat.le_of_ble_eq_true rfl) hn)
  have i11 := iz11 (Nat.le_trans (Nat.le_of_ble_eq_true rfl) hn)
  have i14 := iz14 (Nat.le_trans (Nat.le_of_ble_eq_true rfl) hn)
  have i16 := iz16 (Nat.le_trans (Nat.le_of_ble_eq_true rfl) hn)
  have i18 := iz18 (Nat.le_trans (Nat.le_of_ble_eq_true rfl) hn)
  have i19 := iz19 (Nat.le_trans (Nat.le_of_ble_eq_true rfl) hn)
  have i20 := iz20 (Nat.le_trans (Nat.le_of_ble_eq_true rfl) hn)
  have i21 := iz21 (Nat.le_trans (Nat.le_of_ble_eq_true rfl) hn)
  have i22 := iz22 (Nat.le_trans (Nat.le_of_ble_eq_true rfl) hn)
  have i41 := iz41 (Nat.le_trans (Nat.le_of_ble_eq_true rfl) hn)
  refine k_of (by decide) rfl rfl rfl (ls := [(2, 41), (0, a1), (0, a2), (9, 0)]) rfl ?_
  refine x_aload_n 0 dX12_read_0 rfl rfl rfl rfl rfl ?_
  refine y_getF 28 0 (c := 11) (z := 6) dX12_read_1 i41 rfl in_X12 q887 rfl rfl rfl fn_41_0 (Nat.le_trans (Nat.le_of_ble_eq_true rfl) hn) rfl ?_
  refine y_getF 52 7 (c := 3) (z := 14) dX12_read_4 i6 rfl in_X4 q668 rfl rfl rfl fn_6_7 (Nat.le_trans (Nat.le_of_ble_eq_true rfl) hn) rfl ?_
  refine x_iload_n 1 dX12_read_7 rfl rfl rfl ?_
  obtain ⟨e1, h⟩ := h
  refine y_iald (z := w 14 a1) dX12_read_8 ⟨4096, i14, e1⟩ rfl rfl ?_
  refine x_if_eq (t := 14) 5 dX12_read_9 rfl rfl (b_ite h (fun hc h => ?_) (fun hc h => ?_))
  · refine x_aload_n 0 dX12_read_14 rfl rfl rfl rfl rfl ?_
    refine y_getF 32 1 (c := 11) (z := 19) dX12_read_15 i41 rfl in_X12 q888 rfl rfl rfl fn_41_1 (Nat.le_trans (Nat.le_of_ble_eq_true rfl) hn) rfl ?_
    refine y_getF 57 0 (c := 6) (z := 20) dX12_read_18 i19 rfl in_X7 q752 rfl rfl rfl fn_19_0 (Nat.le_trans (Nat.le_of_ble_eq_true rfl) hn) rfl ?_
    refine x_iload_n 2 dX12_read_21 rfl rfl rfl ?_
    obtain ⟨e2, h⟩ := h
    refine y_bald (z := w 20 a2) dX12_read_22 ⟨60000, i20, e2⟩ rfl rfl ?_
    refine b_itc h (fun hc h => ?_) (fun hn0 h => ?_)
    · have key : b_Y (d + 1) mX12_read n Q X 112 [(2, 41), (0, a1), (0, a2), (9, 0)] [] w := by
        refine x_aload_n 0 dX12_read_112 rfl rfl rfl rfl rfl ?_
        refine y_getF 28 0 (c := 11) (z := 6) dX12_read_113 i41 rfl in_X12 q887 rfl rfl rfl fn_41_0 (Nat.le_trans (Nat.le_of_ble_eq_true rfl) hn) rfl ?_
        refine x_iload_n 1 dX12_read_116 rfl rfl rfl ?_
        refine x_bipush 19 (z := 19) dX12_read_117 rfl (by decide) rfl ?_
        refine x_iconst 0 (z := 0) dX12_read_119 rfl (by decide) rfl ?_
        refine y_Vi 64 (M := mX4_is) (As := [(0, a1), (0, 19), (0, 0)]) (st := []) dX12_read_120 i6 rfl q1940 q1842 q1843 q371 q1844 rfl hmX4_is rfl rfl rfl rfl rfl rfl rfl rfl (k_mono h (fun r3 w4 h => ?_))
        refine x_if_eq (t := 130) 7 dX12_read_123 rfl rfl (b_ite h (fun hc h => ?_) (fun hc h => ?_))
        · refine x_iconst 0 (z := 0) dX12_read_130 rfl (by decide) rfl ?_
          exact y_iret dX12_read_131 rfl h
        · refine x_iconst 2 (z := 2) dX12_read_126 rfl (by decide) rfl ?_
          refine x_goto 4 (q := 131) dX12_read_127 rfl ?_
          exact y_iret dX12_read_131 rfl h
      have e := hc
      exact x_tsI (off := 89) (t := 112) dX12_read_23 (by rw [e]; decide) (by rw [e]; decide) (by rw [e]; rfl) rfl key
    · refine b_itc h (fun hc h => ?_) (fun hn1 h => ?_)
      · have key : b_Y (d + 1) mX12_read n Q X 132 [(2, 41), (0, a1), (0, a2), (9, 0)] [] w := by
          refine x_aload_n 0 dX12_read_132 rfl rfl rfl rfl rfl ?_
          refine y_getF 28 0 (c := 11) (z := 6) dX12_read_133 i41 rfl in_X12 q887 rfl rfl rfl fn_41_0 (Nat.le_trans (Nat.le_of_ble_eq_true rfl) hn) rfl ?_
          refine x_iload_n 1 dX12_read_136 rfl rfl rfl ?_
          refine x_bipush 20 (z := 20) dX12_read_137 rfl (by decide) rfl ?_
          refine x_iconst 0 (z := 0) dX12_read_139 rfl (by decide) rfl ?_
          refine y_Vi 64 (M := mX4_is) (As := [(0, a1), (0, 20), (0, 0)]) (st := []) dX12_read_140 i6 rfl q1940 q1842 q1843 q371 q1844 rfl hmX4_is rfl rfl rfl rfl rfl rfl rfl rfl (k_mono h (fun r5 w6 h => ?_))
          refine x_if_eq (t := 151) 8 dX12_read_143 rfl rfl (b_ite h (fun hc h => ?_) (fun hc h => ?_))
          · refine x_aload_n 0 dX12_read_151 rfl rfl rfl rfl rfl ?_
            refine y_getF 28 0 (c := 11) (z := 6) dX12_read_152 i41 rfl in_X12 q887 rfl rfl rfl fn_41_0 (Nat.le_trans (Nat.le_of_ble_eq_true rfl) hn) rfl ?_
            refine x_iload_n 1 dX12_read_155 rfl rfl rfl ?_
            refine x_bipush 21 (z := 21) dX12_read_156 rfl (by decide) rfl ?_
            refine x_iconst 0 (z := 0) dX12_read_158 rfl (by decide) rfl ?_
            refine y_Vi 64 (M := mX4_is) (As := [(0, a1), (0, 21), (0, 0)]) (st := []) dX12_read_159 i6 rfl q1940 q1842 q1843 q371 q1844 rfl hmX4_is rfl rfl rfl rfl rfl rfl rfl rfl (k_mono h (fun r7 w8 h => ?_))
            refine x_if_eq (t := 169) 7 dX12_read_162 rfl rfl (b_ite h (fun hc h => ?_) (fun hc h => ?_))
            · refine x_iconst 0 (z := 0) dX12_read_169 rfl (by decide) rfl ?_
              exact y_iret dX12_read_170 rfl h
            · refine x_iconst 4 (z := 4) dX12_read_165 rfl (by decide) rfl ?_
              refine x_goto 4 (q := 170) dX12_read_166 rfl ?_
              exact y_iret dX12_read_170 rfl h
          · refine x_bipush 6 (z := 6) dX12_read_146 rfl (by decide) rfl ?_
            refine x_goto 22 (q := 170) dX12_read_148 rfl ?_
            exact y_iret dX12_read_170 rfl h
        have e := hc
        exact x_tsI (off := 109) (t := 132) dX12_read_23 (by rw [e]; decide) (by rw [e]; decide) (by rw [e]; rfl) rfl key
      · refine b_itc h (fun hc h => ?_) (fun hn2 h => ?_)
        · have key : b_Y (d + 1) mX12_read n Q X 171 [(2, 41), (0, a1), (0, a2), (9, 0)] [] w := by
            refine x_aload_n 0 dX12_read_171 rfl rfl rfl rfl rfl ?_
            refine x_iload_n 1 dX12_read_172 rfl rfl rfl ?_
            refine x_aload_n 0 dX12_read_173 rfl rfl rfl rfl rfl ?_
            refine y_getF 32 1 (c := 11) (z := 19) dX12_read_174 i41 rfl in_X12 q888 rfl rfl rfl fn_41_1 (Nat.le_trans (Nat.le_of_ble_eq_true rfl) hn) rfl ?_
            refine y_getF 57 0 (c := 6) (z := 20) dX12_read_177 i19 rfl in_X7 q752 rfl rfl rfl fn_19_0 (Nat.le_trans (Nat.le_of_ble_eq_true rfl) hn) rfl ?_
            refine x_iload_n 2 dX12_read_180 rfl rfl rfl ?_
            refine y_bald (z := w 20 a2) dX12_read_181 ⟨60000, i20, e2⟩ rfl rfl ?_
            refine y_Vi 70 (M := mX12_readNumber) (As := [(0, a1), (0, w 20 a2)]) (st := []) dX12_read_182 i41 rfl q1941 q1943 qs36 q379 q1944 rfl hmX12_readNumber rfl rfl rfl rfl rfl rfl rfl rfl (k_mono h (fun r9 w10 h => ?_))
            exact y_iret dX12_read_185 rfl h
          rcases hc with e | e | e | e
          · exact x_tsI (off := 148) (t := 171) dX12_read_23 (by rw [e]; decide) (by rw [e]; decide) (by rw [e]; rfl) rfl key
          · exact x_tsI (off := 148) (t := 171) dX12_read_23 (by rw [e]; decide) (by rw [e]; decide) (by rw [e]; rfl) rfl key
          · exact x_tsI (off := 148) (t := 171) dX12_read_23 (by rw [e]; decide) (by rw [e]; decide) (by rw [e]; rfl) rfl key
          · exact x_tsI (off := 148) (t := 171) dX12_read_23 (by rw [e]; decide) (by rw [e]; decide) (by rw [e]; rfl) rfl key
        · refine b_itc h (fun hc h => ?_) (fun hn3 h => ?_)
          · have key : b_Y (d + 1) mX12_read n Q X 186 [(2, 41), (0, a1), (0, a2), (9, 0)] [] w := by
              refine x_aload_n 0 dX12_read_186 rfl rfl rfl rfl rfl ?_
              refine x_iload_n 1 dX12_read_187 rfl rfl rfl ?_
              refine x_aload_n 0 dX12_read_188 rfl rfl rfl rfl rfl ?_
              refine y_getF 32 1 (c := 11) (z := 19) dX12_read_189 i41 rfl in_X12 q888 rfl rfl rfl fn_41_1 (Nat.le_trans (Nat.le_of_ble_eq_true rfl) hn) rfl ?_
              refine y_getF 57 0 (c := 6) (z := 20) dX12_read_192 i19 rfl in_X7 q752 rfl rfl rfl fn_19_0 (Nat.le_trans (Nat.le_of_ble_eq_true rfl) hn) rfl ?_
              refine x_iload_n 2 dX12_read_195 rfl rfl rfl ?_
              refine y_bald (z := w 20 a2) dX12_read_196 ⟨60000, i20, e2⟩ rfl rfl ?_
              refine x_bipush 7 (z := 7) dX12_read_197 rfl (by decide) rfl ?_
              refine x_icmp_ne (t := 206) 7 dX12_read_199 rfl rfl (b_ite h (fun hc h => ?_) (fun hc h => ?_))
              · refine x_iconst 0 (z := 0) dX12_read_206 rfl (by decide) rfl ?_
                refine y_Vi 74 (M := mX12_readString) (As := [(0, a1), (0, 0)]) (st := []) dX12_read_207 i41 rfl q1980 q1982 qs39 q379 q1983 rfl hmX12_readString rfl rfl rfl rfl rfl rfl rfl rfl (k_mono h (fun r11 w12 h => ?_))
                exact y_iret dX12_read_210 rfl h
              · refine x_iconst 1 (z := 1) dX12_read_202 rfl (by decide) rfl ?_
                refine x_goto 4 (q := 207) dX12_read_203 rfl ?_
                refine y_Vi 74 (M := mX12_readString) (As := [(0, a1), (0, 1)]) (st := []) dX12_read_207 i41 rfl q1980 q1982 qs39 q379 q1983 rfl hmX12_readString rfl rfl rfl rfl rfl rfl rfl rfl (k_mono h (fun r13 w14 h => ?_))
                exact y_iret dX12_read_210 rfl h
            rcases hc with e | e
            · exact x_tsI (off := 163) (t := 186) dX12_read_23 (by rw [e]; decide) (by rw [e]; decide) (by rw [e]; rfl) rfl key
            · exact x_tsI (off := 163) (t := 186) dX12_read_23 (by rw [e]; decide) (by rw [e]; decide) (by rw [e]; rfl) rfl key
          · refine b_itc h (fun hc h => ?_) (fun hn4 h => ?_)
            · have key : b_Y (d + 1) mX12_read n Q X 211 [(2, 41), (0, a1), (0, a2), (9, 0)] [] w := by
                refine x_aload_n 0 dX12_read_211 rfl rfl rfl rfl rfl ?_
                refine x_iload_n 1 dX12_read_212 rfl rfl rfl ?_
                refine y_Vi 78 (M := mX12_readBytes) (As := [(0, a1)]) (st := []) dX12_read_213 i41 rfl q2013 q2015 qs41 q379 q2016 rfl hmX12_readBytes rfl rfl rfl rfl rfl rfl rfl rfl (k_mono h (fun r15 w16 h => ?_))
                exact y_iret dX12_read_216 rfl h
              have e := hc
              exact x_tsI (off := 188) (t := 211) dX12_read_23 (by rw [e]; decide) (by rw [e]; decide) (by rw [e]; rfl) rfl key
            · refine b_itc h (fun hc h => ?_) (fun hn5 h => ?_)
              · have key : b_Y (d + 1) mX12_read n Q X 217 [(2, 41), (0, a1), (0, a2), (9, 0)] [] w := by
                  refine x_aload_n 0 dX12_read_217 rfl rfl rfl rfl rfl ?_
                  refine y_getF 28 0 (c := 11) (z := 6) dX12_read_218 i41 rfl in_X12 q887 rfl rfl rfl fn_41_0 (Nat.le_trans (Nat.le_of_ble_eq_true rfl) hn) rfl ?_
                  refine x_iload_n 1 dX12_read_221 rfl rfl rfl ?_
                  refine x_bipush 22 (z := 22) dX12_read_222 rfl (by decide) rfl ?_
                  refine x_iconst 0 (z := 0) dX12_read_224 rfl (by decide) rfl ?_
                  refine y_Vi 64 (M := mX4_is) (As := [(0, a1), (0, 22), (0, 0)]) (st := []) dX12_read_225 i6 rfl q1940 q1842 q1843 q371 q1844 rfl hmX4_is rfl rfl rfl rfl rfl rfl rfl rfl (k_mono h (fun r17 w18 h => ?_))
                  refine x_if_eq (t := 236) 8 dX12_read_228 rfl rfl (b_ite h (fun hc h => ?_) (fun hc h => ?_))
                  · refine x_aload_n 0 dX12_read_236 rfl rfl rfl rfl rfl ?_
                    refine x_iload_n 1 dX12_read_237 rfl rfl rfl ?_
                    refine x_bipush 23 (z := 23) dX12_read_238 rfl (by decide) rfl ?_
                    refine x_iconst 4 (z := 4) dX12_read_240 rfl (by decide) rfl ?_
                    refine x_aload_n 0 dX12_read_241 rfl rfl rfl rfl rfl ?_
                    refine y_getF 32 1 (c := 11) (z := 19) dX12_read_242 i41 rfl in_X12 q888 rfl rfl rfl fn_41_1 (Nat.le_trans (Nat.le_of_ble_eq_true rfl) hn) rfl ?_
                    refine y_getF 82 1 (c := 6) (z := 21) dX12_read_245 i19 rfl in_X7 q758 rfl rfl rfl fn_19_1 (Nat.le_trans (Nat.le_of_ble_eq_true rfl) hn) rfl ?_
                    refine x_iload_n 2 dX12_read_248 rfl rfl rfl ?_
                    obtain ⟨e19, h⟩ := h
                    refine y_iald (z := w18 21 a2) dX12_read_249 ⟨60000, i21, e19⟩ rfl rfl ?_
                    refine y_Vi 85 (M := mX12_readWrapped) (As := [(0, a1), (0, 23), (0, 4), (0, w18 21 a2)]) (st := []) dX12_read_250 i41 rfl q2018 q2020 qs42 q379 q2021 rfl hmX12_readWrapped rfl rfl rfl rfl rfl rfl rfl rfl (k_mono h (fun r20 w21 h => ?_))
                    exact y_iret dX12_read_253 rfl h
                  · refine x_bipush 8 (z := 8) dX12_read_231 rfl (by decide) rfl ?_
                    refine x_goto 20 (q := 253) dX12_read_233 rfl ?_
                    exact y_iret dX12_read_253 rfl h
                have e := hc
                exact x_tsI (off := 194) (t := 217) dX12_read_23 (by rw [e]; decide) (by rw [e]; decide) (by rw [e]; rfl) rfl key
              · refine b_itc h (fun hc h => ?_) (fun hn6 h => ?_)
                · have key : b_Y (d + 1) mX12_read n Q X 369 [(2, 41), (0, a1), (0, a2), (9, 0)] [] w := by
                    refine x_aload_n 0 dX12_read_369 rfl rfl rfl rfl rfl ?_
                    refine y_getF 28 0 (c := 11) (z := 6) dX12_read_370 i41 rfl in_X12 q887 rfl rfl rfl fn_41_0 (Nat.le_trans (Nat.le_of_ble_eq_true rfl) hn) rfl ?_
                    refine x_iload_n 1 dX12_read_373 rfl rfl rfl ?_
                    refine y_Vi 107 (M := mX4_isSequence) (As := [(0, a1)]) (st := []) dX12_read_374 i6 rfl q2057 q1826 q1827 q371 q1828 rfl hmX4_isSequence rfl rfl rfl rfl rfl rfl rfl rfl (k_mono h (fun r22 w23 h => ?_))
                    refine x_if_eq (t := 397) 20 dX12_read_377 rfl rfl (b_ite h (fun hc h => ?_) (fun hc h => ?_))
                    · refine x_iconst 0 (z := 0) dX12_read_397 rfl (by decide) rfl ?_
                      exact y_iret dX12_read_398 rfl h
                    · refine x_aload_n 0 dX12_read_380 rfl rfl rfl rfl rfl ?_
                      refine x_iload_n 1 dX12_read_381 rfl rfl rfl ?_
                      refine x_aload_n 0 dX12_read_382 rfl rfl rfl rfl rfl ?_
                      refine y_getF 32 1 (c := 11) (z := 19) dX12_read_383 i41 rfl in_X12 q888 rfl rfl rfl fn_41_1 (Nat.le_trans (Nat.le_of_ble_eq_true rfl) hn) rfl ?_
                      refine y_getF 82 1 (c := 6) (z := 21) dX12_read_386 i19 rfl in_X7 q758 rfl rfl rfl fn_19_1 (Nat.le_trans (Nat.le_of_ble_eq_true rfl) hn) rfl ?_
                      refine x_iload_n 2 dX12_read_389 rfl rfl rfl ?_
                      obtain ⟨e24, h⟩ := h
                      refine y_iald (z := w23 21 a2) dX12_read_390 ⟨60000, i21, e24⟩ rfl rfl ?_
                      refine y_Vi 111 (M := mX12_readList) (As := [(0, a1), (0, w23 21 a2)]) (st := []) dX12_read_391 i41 rfl q2058 q2060 qs44 q379 q2061 rfl hmX12_readList rfl rfl rfl rfl rfl rfl rfl rfl (k_mono h (fun r25 w26 h => ?_))
                      refine x_goto 4 (q := 398) dX12_read_394 rfl ?_
                      exact y_iret dX12_read_398 rfl h
                  have e := hc
                  exact x_tsI (off := 346) (t := 369) dX12_read_23 (by rw [e]; decide) (by rw [e]; decide) (by rw [e]; rfl) rfl key
                · refine b_itc h (fun hc h => ?_) (fun hn7 h => ?_)
                  · have key : b_Y (d + 1) mX12_read n Q X 399 [(2, 41), (0, a1), (0, a2), (9, 0)] [] w := by
                      refine x_aload_n 0 dX12_read_399 rfl rfl rfl rfl rfl ?_
                      refine y_getF 28 0 (c := 11) (z := 6) dX12_read_400 i41 rfl in_X12 q887 rfl rfl rfl fn_41_0 (Nat.le_trans (Nat.le_of_ble_eq_true rfl) hn) rfl ?_
                      refine x_iload_n 1 dX12_read_403 rfl rfl rfl ?_
                      refine y_Vi 107 (M := mX4_isSequence) (As := [(0, a1)]) (st := []) dX12_read_404 i6 rfl q2057 q1826 q1827 q371 q1828 rfl hmX4_isSequence rfl rfl rfl rfl rfl rfl rfl rfl (k_mono h (fun r27 w28 h => ?_))
                      refine x_if_eq (t := 454) 47 dX12_read_407 rfl rfl (b_ite h (fun hc h => ?_) (fun hc h => ?_))
                      · refine x_iconst 0 (z := 0) dX12_read_454 rfl (by decide) rfl ?_
                        exact y_iret dX12_read_455 rfl h
                      · refine x_aload_n 0 dX12_read_410 rfl rfl rfl rfl rfl ?_
                        refine x_iload_n 1 dX12_read_411 rfl rfl rfl ?_
                        refine x_aload_n 0 dX12_read_412 rfl rfl rfl rfl rfl ?_
                        refine y_getF 32 1 (c := 11) (z := 19) dX12_read_413 i41 rfl in_X12 q888 rfl rfl rfl fn_41_1 (Nat.le_trans (Nat.le_of_ble_eq_true rfl) hn) rfl ?_
                        refine y_getF 82 1 (c := 6) (z := 21) dX12_read_416 i19 rfl in_X7 q758 rfl rfl rfl fn_19_1 (Nat.le_trans (Nat.le_of_ble_eq_true rfl) hn) rfl ?_
                        refine x_iload_n 2 dX12_read_419 rfl rfl rfl ?_
                        obtain ⟨e29, h⟩ := h
                        refine y_iald (z := w28 21 a2) dX12_read_420 ⟨60000, i21, e29⟩ rfl rfl ?_
                        refine x_aload_n 0 dX12_read_421 rfl rfl rfl rfl rfl ?_
                        refine y_getF 32 1 (c := 11) (z := 19) dX12_read_422 i41 rfl in_X12 q888 rfl rfl rfl fn_41_1 (Nat.le_trans (Nat.le_of_ble_eq_true rfl) hn) rfl ?_
                        refine y_getF 57 0 (c := 6) (z := 20) dX12_read_425 i19 rfl in_X7 q752 rfl rfl rfl fn_19_0 (Nat.le_trans (Nat.le_of_ble_eq_true rfl) hn) rfl ?_
                        refine x_iload_n 2 dX12_read_428 rfl rfl rfl ?_
                        refine y_bald (z := w28 20 a2) dX12_read_429 ⟨60000, i20, e2⟩ rfl rfl ?_
                        refine x_bipush 12 (z := 12) dX12_read_430 rfl (by decide) rfl ?_
                        refine x_icmp_ne (t := 439) 7 dX12_read_432 rfl rfl (b_ite h (fun hc h => ?_) (fun hc h => ?_))
                        · refine x_aload_n 0 dX12_read_439 rfl rfl rfl rfl rfl ?_
                          refine y_getF 32 1 (c := 11) (z := 19) dX12_read_440 i41 rfl in_X12 q888 rfl rfl rfl fn_41_1 (Nat.le_trans (Nat.le_of_ble_eq_true rfl) hn) rfl ?_
                          refine y_getF 89 2 (c := 6) (z := 22) dX12_read_443 i19 rfl in_X7 q764 rfl rfl rfl fn_19_2 (Nat.le_trans (Nat.le_of_ble_eq_true rfl) hn) rfl ?_
                          refine x_iload_n 2 dX12_read_446 rfl rfl rfl ?_
                          obtain ⟨e30, h⟩ := h
                          refine y_iald (z := w28 22 a2) dX12_read_447 ⟨60000, i22, e30⟩ rfl rfl ?_
                          refine y_Vi 114 (M := mX12_readTree) (As := [(0, a1), (0, w28 21 a2), (0, w28 22 a2)]) (st := []) dX12_read_448 i41 rfl q2070 q2072 qs45 q379 q2073 rfl hmX12_readTree rfl rfl rfl rfl rfl rfl rfl rfl (k_mono h (fun r31 w32 h => ?_))
                          refine x_goto 4 (q := 455) dX12_read_451 rfl ?_
                          exact y_iret dX12_read_455 rfl h
                        · refine x_iconst (-1) (z := (-1)) dX12_read_435 rfl (by decide) rfl ?_
                          refine x_goto 12 (q := 448) dX12_read_436 rfl ?_
                          refine y_Vi 114 (M := mX12_readTree) (As := [(0, a1), (0, w28 21 a2), (0, (-1))]) (st := []) dX12_read_448 i41 rfl q2070 q2072 qs45 q379 q2073 rfl hmX12_readTree rfl rfl rfl rfl rfl rfl rfl rfl (k_mono h (fun r33 w34 h => ?_))
                          refine x_goto 4 (q := 455) dX12_read_451 rfl ?_
                          exact y_iret dX12_read_455 rfl h
                    rcases hc with e | e | e
                    · exact x_tsI (off := 376) (t := 399) dX12_read_23 (by rw [e]; decide) (by rw [e]; decide) (by rw [e]; rfl) rfl key
                    · exact x_tsI (off := 376) (t := 399) dX12_read_23 (by rw [e]; decide) (by rw [e]; decide) (by rw [e]; rfl) rfl key
                    · exact x_tsI (off := 376) (t := 399) dX12_read_23 (by rw [e]; decide) (by rw [e]; decide) (by rw [e]; rfl) rfl key
                  · refine b_itc h (fun hc h => ?_) (fun hn8 h => ?_)
                    · have key : b_Y (d + 1) mX12_read n Q X 254 [(2, 41), (0, a1), (0, a2), (9, 0)] [] w := by
                        refine x_aload_n 0 dX12_read_254 rfl rfl rfl rfl rfl ?_
                        refine y_getF 28 0 (c := 11) (z := 6) dX12_read_255 i41 rfl in_X12 q887 rfl rfl rfl fn_41_0 (Nat.le_trans (Nat.le_of_ble_eq_true rfl) hn) rfl ?_
                        refine x_iload_n 1 dX12_read_258 rfl rfl rfl ?_
                        refine x_bipush 24 (z := 24) dX12_read_259 rfl (by decide) rfl ?_
                        refine x_iconst 1 (z := 1) dX12_read_261 rfl (by decide) rfl ?_
                        refine y_Vi 64 (M := mX4_is) (As := [(0, a1), (0, 24), (0, 1)]) (st := []) dX12_read_262 i6 rfl q1940 q1842 q1843 q371 q1844 rfl hmX4_is rfl rfl rfl rfl rfl rfl rfl rfl (k_mono h (fun r35 w36 h => ?_))
                        refine x_istore_n 3 (ls' := [(2, 41), (0, a1), (0, a2), (0, r35)]) dX12_read_265 rfl rfl rfl rfl ?_
                        refine x_iload_n 3 dX12_read_266 rfl rfl rfl ?_
                        refine x_if_eq (t := 290) 23 dX12_read_267 rfl rfl (b_ite h (fun hc h => ?_) (fun hc h => ?_))
                        · refine x_aload_n 0 dX12_read_290 rfl rfl rfl rfl rfl ?_
                          refine x_iload_n 1 dX12_read_291 rfl rfl rfl ?_
                          refine x_bipush 25 (z := 25) dX12_read_292 rfl (by decide) rfl ?_
                          refine x_bipush 6 (z := 6) dX12_read_294 rfl (by decide) rfl ?_
                          refine x_aload_n 0 dX12_read_296 rfl rfl rfl rfl rfl ?_
                          refine y_getF 32 1 (c := 11) (z := 19) dX12_read_297 i41 rfl in_X12 q888 rfl rfl rfl fn_41_1 (Nat.le_trans (Nat.le_of_ble_eq_true rfl) hn) rfl ?_
                          refine y_getF 89 2 (c := 6) (z := 22) dX12_read_300 i19 rfl in_X7 q764 rfl rfl rfl fn_19_2 (Nat.le_trans (Nat.le_of_ble_eq_true rfl) hn) rfl ?_
                          refine x_iload_n 2 dX12_read_303 rfl rfl rfl ?_
                          obtain ⟨e37, h⟩ := h
                          refine y_iald (z := w36 22 a2) dX12_read_304 ⟨60000, i22, e37⟩ rfl rfl ?_
                          refine y_Vi 85 (M := mX12_readWrapped) (As := [(0, a1), (0, 25), (0, 6), (0, w36 22 a2)]) (st := []) dX12_read_305 i41 rfl q2018 q2020 qs42 q379 q2021 rfl hmX12_readWrapped rfl rfl rfl rfl rfl rfl rfl rfl (k_mono h (fun r38 w39 h => ?_))
                          exact y_iret dX12_read_308 rfl h
                        · refine x_aload_n 0 dX12_read_270 rfl rfl rfl rfl rfl ?_
                          refine x_iload_n 1 dX12_read_271 rfl rfl rfl ?_
                          refine x_bipush 24 (z := 24) dX12_read_272 rfl (by decide) rfl ?_
                          refine x_iconst 5 (z := 5) dX12_read_274 rfl (by decide) rfl ?_
                          refine x_aload_n 0 dX12_read_275 rfl rfl rfl rfl rfl ?_
                          refine y_getF 32 1 (c := 11) (z := 19) dX12_read_276 i41 rfl in_X12 q888 rfl rfl rfl fn_41_1 (Nat.le_trans (Nat.le_of_ble_eq_true rfl) hn) rfl ?_
                          refine y_getF 82 1 (c := 6) (z := 21) dX12_read_279 i19 rfl in_X7 q758 rfl rfl rfl fn_19_1 (Nat.le_trans (Nat.le_of_ble_eq_true rfl) hn) rfl ?_
                          refine x_iload_n 2 dX12_read_282 rfl rfl rfl ?_
                          obtain ⟨e40, h⟩ := h
                          refine y_iald (z := w36 21 a2) dX12_read_283 ⟨60000, i21, e40⟩ rfl rfl ?_
                          refine y_Vi 85 (M := mX12_readWrapped) (As := [(0, a1), (0, 24), (0, 5), (0, w36 21 a2)]) (st := []) dX12_read_284 i41 rfl q2018 q2020 qs42 q379 q2021 rfl hmX12_readWrapped rfl rfl rfl rfl rfl rfl rfl rfl (k_mono h (fun r41 w42 h => ?_))
                          refine x_goto 21 (q := 308) dX12_read_287 rfl ?_
                          exact y_iret dX12_read_308 rfl h
                      have e := hc
                      exact x_tsI (off := 231) (t := 254) dX12_read_23 (by rw [e]; decide) (by rw [e]; decide) (by rw [e]; rfl) rfl key
                    · refine b_itc h (fun hc h => ?_) (fun hn9 h => ?_)
                      · have key : b_Y (d + 1) mX12_read n Q X 309 [(2, 41), (0, a1), (0, a2), (9, 0)] [] w := by
                          refine x_aload_n 0 dX12_read_309 rfl rfl rfl rfl rfl ?_
                          refine y_getF 28 0 (c := 11) (z := 6) dX12_read_310 i41 rfl in_X12 q887 rfl rfl rfl fn_41_0 (Nat.le_trans (Nat.le_of_ble_eq_true rfl) hn) rfl ?_
                          refine y_getF 92 3 (c := 3) (z := 10) dX12_read_313 i6 rfl in_X4 q654 rfl rfl rfl fn_6_3 (Nat.le_trans (Nat.le_of_ble_eq_true rfl) hn) rfl ?_
                          refine x_iload_n 1 dX12_read_316 rfl rfl rfl ?_
                          obtain ⟨e43, h⟩ := h
                          refine y_bald (z := w 10 a1) dX12_read_317 ⟨4096, i10, e43⟩ rfl rfl ?_
                          refine x_bipush 8 (z := 8) dX12_read_318 rfl (by decide) rfl ?_
                          refine x_icmp_ne (t := 367) 47 dX12_read_320 rfl rfl (b_ite h (fun hc h => ?_) (fun hc h => ?_))
                          · refine x_iconst 0 (z := 0) dX12_read_367 rfl (by decide) rfl ?_
                            exact y_iret dX12_read_368 rfl h
                          · refine x_aload_n 0 dX12_read_323 rfl rfl rfl rfl rfl ?_
                            refine y_getF 28 0 (c := 11) (z := 6) dX12_read_324 i41 rfl in_X12 q887 rfl rfl rfl fn_41_0 (Nat.le_trans (Nat.le_of_ble_eq_true rfl) hn) rfl ?_
                            refine y_getF 95 4 (c := 3) (z := 11) dX12_read_327 i6 rfl in_X4 q658 rfl rfl rfl fn_6_4 (Nat.le_trans (Nat.le_of_ble_eq_true rfl) hn) rfl ?_
                            refine x_iload_n 1 dX12_read_330 rfl rfl rfl ?_
                            obtain ⟨e44, h⟩ := h
                            refine y_bald (z := w 11 a1) dX12_read_331 ⟨4096, i11, e44⟩ rfl rfl ?_
                            refine x_bipush 26 (z := 26) dX12_read_332 rfl (by decide) rfl ?_
                            refine x_icmp_ne (t := 367) 33 dX12_read_334 rfl rfl (b_ite h (fun hc h => ?_) (fun hc h => ?_))
                            · refine x_iconst 0 (z := 0) dX12_read_367 rfl (by decide) rfl ?_
                              exact y_iret dX12_read_368 rfl h
                            · refine x_aload_n 0 dX12_read_337 rfl rfl rfl rfl rfl ?_
                              refine y_getF 28 0 (c := 11) (z := 6) dX12_read_338 i41 rfl in_X12 q887 rfl rfl rfl fn_41_0 (Nat.le_trans (Nat.le_of_ble_eq_true rfl) hn) rfl ?_
                              refine y_getF 98 11 (c := 3) (z := 18) dX12_read_341 i6 rfl in_X4 q681 rfl rfl rfl fn_6_11 (Nat.le_trans (Nat.le_of_ble_eq_true rfl) hn) rfl ?_
                              refine x_iload_n 1 dX12_read_344 rfl rfl rfl ?_
                              obtain ⟨e45, h⟩ := h
                              refine y_iald (z := w 18 a1) dX12_read_345 ⟨4096, i18, e45⟩ rfl rfl ?_
                              refine x_iconst 1 (z := 1) dX12_read_346 rfl (by decide) rfl ?_
                              refine x_icmp_le (t := 367) 20 dX12_read_347 rfl rfl (b_ite h (fun hc h => ?_) (fun hc h => ?_))
                              · refine x_iconst 0 (z := 0) dX12_read_367 rfl (by decide) rfl ?_
                                exact y_iret dX12_read_368 rfl h
                              · refine x_aload_n 0 dX12_read_350 rfl rfl rfl rfl rfl ?_
                                refine x_aload_n 0 dX12_read_351 rfl rfl rfl rfl rfl ?_
                                refine y_getF 28 0 (c := 11) (z := 6) dX12_read_352 i41 rfl in_X12 q887 rfl rfl rfl fn_41_0 (Nat.le_trans (Nat.le_of_ble_eq_true rfl) hn) rfl ?_
                                refine y_getF 101 9 (c := 3) (z := 16) dX12_read_355 i6 rfl in_X4 q673 rfl rfl rfl fn_6_9 (Nat.le_trans (Nat.le_of_ble_eq_true rfl) hn) rfl ?_
                                refine x_iload_n 1 dX12_read_358 rfl rfl rfl ?_
                                obtain ⟨e46, h⟩ := h
                                refine y_iald (z := w 16 a1) dX12_read_359 ⟨4096, i16, e46⟩ rfl rfl ?_
                                refine x_iload_n 2 dX12_read_360 rfl rfl rfl ?_
                                refine y_Vi 104 (M := mX12_readComb) (As := [(0, w 16 a1), (0, a2)]) (st := []) dX12_read_361 i41 rfl q2049 q2051 qs43 q379 q2052 rfl hmX12_readComb rfl rfl rfl rfl rfl rfl rfl rfl (k_mono h (fun r47 w48 h => ?_))
                                refine x_goto 4 (q := 368) dX12_read_364 rfl ?_
                                exact y_iret dX12_read_368 rfl h
                        have e := hc
                        exact x_tsI (off := 286) (t := 309) dX12_read_23 (by rw [e]; decide) (by rw [e]; decide) (by rw [e]; rfl) rfl key
                      · have key : b_Y (d + 1) mX12_read n Q X 456 [(2, 41), (0, a1), (0, a2), (9, 0)] [] w := by
                          refine x_iconst 0 (z := 0) dX12_read_456 rfl (by decide) rfl ?_
                          exact y_iret dX12_read_457 rfl h
                        by_cases e : w 20 a2 = 9
                        · exact x_tsI (off := 433) (t := 456) dX12_read_23 (by rw [e]; decide) (by rw [e]; decide) (by rw [e]; rfl) rfl key
                        have hx9 := e
                        by_cases e : w 20 a2 = 13
                        · exact x_tsI (off := 433) (t := 456) dX12_read_23 (by rw [e]; decide) (by rw [e]; decide) (by rw [e]; rfl) rfl key
                        have hx13 := e
                        by_cases e : w 20 a2 = 17
                        · exact x_tsI (off := 433) (t := 456) dX12_read_23 (by rw [e]; decide) (by rw [e]; decide) (by rw [e]; rfl) rfl key
                        have hx17 := e
                        exact x_tsO (t := 456) dX12_read_23 (by omega) rfl key
  · refine x_iconst 0 (z := 0) dX12_read_12 rfl (by decide) rfl ?_
    exact y_iret dX12_read_13 rfl h
theorem rX12_readNumber {d n : Nat} {w : bW} {Q : Int → bW → Prop} {X : String → bW → Prop} (hn : 143 ≤ n) (a1 : Int) (a2 : Int) (h : (0 ≤ a1 ∧ a1 < 4096) ∧ (if w 10 a1 = 2 then (b_K d mX4_text [(2, 6)] n w (fun r2 w3 => (0 ≤ a1 ∧ a1 < 4096) ∧ ((0 ≤ a1 ∧ a1 < 4096) ∧ (b_K d mX4_number [(2, r2), (0, w3 12 a1), (0, w3 13 a1), (2, 42)] n w3 (fun r6 w7 => if a2 = 2 then (b_K d mX8_ofWhole [(2, 27), (2, 42)] n w7 (fun r8 w9 => Q r8 w9) X) else (if a2 = 8 then (b_K d mX8_ofWhole [(2, 27), (2, 42)] n w7 (fun r10 w11 => Q r10 w11) X) else (if w7 42 2 ≠ 0 then (Q 0 w7) else (if a2 = 3 then (b_K d mX8_ofWhole [(2, 27), (2, 42)] n w7 (fun r12 w13 => Q r12 w13) X) else (b_K d mX6_bits [(2, 42)] n w7 (fun r14 w15 => if 63 < r14 then (Q 0 w15) else (b_K d mX8_ofWhole [(2, 27), (2, 42)] n w15 (fun r16 w17 => Q r16 w17) X)) X))))) X))) X) else (Q 0 w))) : b_K (d + 1) mX12_readNumber [(2, 41), (0, a1), (0, a2)] n w Q X := by
  have i6 := iz6 (Nat.le_trans (Nat.le_of_ble_eq_true rfl) hn)
  have i10 := iz10 (Nat.le_trans (Nat.le_of_ble_eq_true rfl) hn)
  have i12 := iz12 (Nat.le_trans (Nat.le_of_ble_eq_true rfl) hn)
  have i13 := iz13 (Nat.le_trans (Nat.le_of_ble_eq_true rfl) hn)
  have i27 := iz27 (Nat.le_trans (Nat.le_of_ble_eq_true rfl) hn)
  have i41 := iz41 (Nat.le_trans (Nat.le_of_ble_eq_true rfl) hn)
  have i42 := iz42 (Nat.le_trans (Nat.le_of_ble_eq_true rfl) hn)
  refine k_of (by decide) rfl rfl rfl (ls := [(2, 41), (0, a1), (0, a2), (9, 0)]) rfl ?_
  refine x_aload_n 0 dX12_readNumber_0 rfl rfl rfl rfl rfl ?_
  refine y_getF 28 0 (c := 11) (z := 6) dX12_readNumber_1 i41 rfl in_X12 q887 rfl rfl rfl fn_41_0 (Nat.le_trans (Nat.le_of_ble_eq_true rfl) hn) rfl ?_
  refine y_getF 92 3 (c := 3) (z := 10) dX12_readNumber_4 i6 rfl in_X4 q654 rfl rfl rfl fn_6_3 (Nat.le_trans (Nat.le_of_ble_eq_true rfl) hn) rfl ?_
  refine x_iload_n 1 dX12_readNumber_7 rfl rfl rfl ?_
  obtain ⟨e1, h⟩ := h
  refine y_bald (z := w 10 a1) dX12_readNumber_8 ⟨4096, i10, e1⟩ rfl rfl ?_
  refine x_iconst 2 (z := 2) dX12_readNumber_9 rfl (by decide) rfl ?_
  refine x_icmp_eq (t := 15) 5 dX12_readNumber_10 rfl rfl (b_ite h (fun hc h => ?_) (fun hc h => ?_))
  · refine x_aload_n 0 dX12_readNumber_15 rfl rfl rfl rfl rfl ?_
    refine y_getF 28 0 (c := 11) (z := 6) dX12_readNumber_16 i41 rfl in_X12 q887 rfl rfl rfl fn_41_0 (Nat.le_trans (Nat.le_of_ble_eq_true rfl) hn) rfl ?_
    refine y_Vr 132 (M := mX4_text) (As := []) (st := []) dX12_readNumber_19 i6 rfl q1945 q1872 q1873 q371 q1874 rfl hmX4_text rfl rfl rfl rfl rfl rfl rfl rfl (k_mono h (fun r2 w3 h => ?_))
    refine x_aload_n 0 dX12_readNumber_22 rfl rfl rfl rfl rfl ?_
    refine y_getF 28 0 (c := 11) (z := 6) dX12_readNumber_23 i41 rfl in_X12 q887 rfl rfl rfl fn_41_0 (Nat.le_trans (Nat.le_of_ble_eq_true rfl) hn) rfl ?_
    refine y_getF 136 5 (c := 3) (z := 12) dX12_readNumber_26 i6 rfl in_X4 q662 rfl rfl rfl fn_6_5 (Nat.le_trans (Nat.le_of_ble_eq_true rfl) hn) rfl ?_
    refine x_iload_n 1 dX12_readNumber_29 rfl rfl rfl ?_
    obtain ⟨e4, h⟩ := h
    refine y_iald (z := w3 12 a1) dX12_readNumber_30 ⟨4096, i12, e4⟩ rfl rfl ?_
    refine x_aload_n 0 dX12_readNumber_31 rfl rfl rfl rfl rfl ?_
    refine y_getF 28 0 (c := 11) (z := 6) dX12_readNumber_32 i41 rfl in_X12 q887 rfl rfl rfl fn_41_0 (Nat.le_trans (Nat.le_of_ble_eq_true rfl) hn) rfl ?_
    refine y_getF 139 6 (c := 3) (z := 13) dX12_readNumber_35 i6 rfl in_X4 q665 rfl rfl rfl fn_6_6 (Nat.le_trans (Nat.le_of_ble_eq_true rfl) hn) rfl ?_
    refine x_iload_n 1 dX12_readNumber_38 rfl rfl rfl ?_
    obtain ⟨e5, h⟩ := h
    refine y_iald (z := w3 13 a1) dX12_readNumber_39 ⟨4096, i13, e5⟩ rfl rfl ?_
    refine x_aload_n 0 dX12_readNumber_40 rfl rfl rfl rfl rfl ?_
    refine y_getF 14 6 (c := 11) (z := 42) dX12_readNumber_41 i41 rfl in_X12 q893 rfl rfl rfl fn_41_6 (Nat.le_trans (Nat.le_of_ble_eq_true rfl) hn) rfl ?_
    refine y_Sv 142 (M := mX4_number) (As := [(2, r2), (0, w3 12 a1), (0, w3 13 a1), (2, 42)]) (st := []) dX12_readNumber_44 q1946 q1740 q371 q1741 hmX4_number rfl rfl rfl rfl rfl rfl rfl (k_mono h (fun r6 w7 h => ?_))
    refine x_iload_n 2 dX12_readNumber_47 rfl rfl rfl ?_
    refine x_iconst 2 (z := 2) dX12_readNumber_48 rfl (by decide) rfl ?_
    refine x_icmp_eq (t := 85) 36 dX12_readNumber_49 rfl rfl (b_ite h (fun hc h => ?_) (fun hc h => ?_))
    · refine x_iconst 1 (z := 1) dX12_readNumber_85 rfl (by decide) rfl ?_
      refine x_goto 4 (q := 90) dX12_readNumber_86 rfl ?_
      refine x_istore_n 3 (ls' := [(2, 41), (0, a1), (0, a2), (0, 1)]) dX12_readNumber_90 rfl rfl rfl rfl ?_
      refine x_iload_n 3 dX12_readNumber_91 rfl rfl rfl ?_
      refine x_if_eq (t := 109) 17 dX12_readNumber_92 rfl rfl (b_ifF (by decide) ?_)
      refine x_aload_n 0 dX12_readNumber_95 rfl rfl rfl rfl rfl ?_
      refine y_getF 36 2 (c := 11) (z := 27) dX12_readNumber_96 i41 rfl in_X12 q889 rfl rfl rfl fn_41_2 (Nat.le_trans (Nat.le_of_ble_eq_true rfl) hn) rfl ?_
      refine x_aload_n 0 dX12_readNumber_99 rfl rfl rfl rfl rfl ?_
      refine y_getF 14 6 (c := 11) (z := 42) dX12_readNumber_100 i41 rfl in_X12 q893 rfl rfl rfl fn_41_6 (Nat.le_trans (Nat.le_of_ble_eq_true rfl) hn) rfl ?_
      refine y_Vi 153 (M := mX8_ofWhole) (As := [(2, 42)]) (st := []) dX12_readNumber_103 i27 rfl q1948 q1949 q1950 q375 q1951 rfl hmX8_ofWhole rfl rfl rfl rfl rfl rfl rfl rfl (k_mono h (fun r8 w9 h => ?_))
      refine x_goto 4 (q := 110) dX12_readNumber_106 rfl ?_
      exact y_iret dX12_readNumber_110 rfl h
    · refine x_iload_n 2 dX12_readNumber_52 rfl rfl rfl ?_
      refine x_bipush 8 (z := 8) dX12_readNumber_53 rfl (by decide) rfl ?_
      refine x_icmp_eq (t := 85) 30 dX12_readNumber_55 rfl rfl (b_ite h (fun hc h => ?_) (fun hc h => ?_))
      · refine x_iconst 1 (z := 1) dX12_readNumber_85 rfl (by decide) rfl ?_
        refine x_goto 4 (q := 90) dX12_readNumber_86 rfl ?_
        refine x_istore_n 3 (ls' := [(2, 41), (0, a1), (0, a2), (0, 1)]) dX12_readNumber_90 rfl rfl rfl rfl ?_
        refine x_iload_n 3 dX12_readNumber_91 rfl rfl rfl ?_
        refine x_if_eq (t := 109) 17 dX12_readNumber_92 rfl rfl (b_ifF (by decide) ?_)
        refine x_aload_n 0 dX12_readNumber_95 rfl rfl rfl rfl rfl ?_
        refine y_getF 36 2 (c := 11) (z := 27) dX12_readNumber_96 i41 rfl in_X12 q889 rfl rfl rfl fn_41_2 (Nat.le_trans (Nat.le_of_ble_eq_true rfl) hn) rfl ?_
        refine x_aload_n 0 dX12_readNumber_99 rfl rfl rfl rfl rfl ?_
        refine y_getF 14 6 (c := 11) (z := 42) dX12_readNumber_100 i41 rfl in_X12 q893 rfl rfl rfl fn_41_6 (Nat.le_trans (Nat.le_of_ble_eq_true rfl) hn) rfl ?_
        refine y_Vi 153 (M := mX8_ofWhole) (As := [(2, 42)]) (st := []) dX12_readNumber_103 i27 rfl q1948 q1949 q1950 q375 q1951 rfl hmX8_ofWhole rfl rfl rfl rfl rfl rfl rfl rfl (k_mono h (fun r10 w11 h => ?_))
        refine x_goto 4 (q := 110) dX12_readNumber_106 rfl ?_
        exact y_iret dX12_readNumber_110 rfl h
      · refine x_aload_n 0 dX12_readNumber_58 rfl rfl rfl rfl rfl ?_
        refine y_getF 14 6 (c := 11) (z := 42) dX12_readNumber_59 i41 rfl in_X12 q893 rfl rfl rfl fn_41_6 (Nat.le_trans (Nat.le_of_ble_eq_true rfl) hn) rfl ?_
        refine y_get 145 2 (c := 5) (z := w7 42 2) dX12_readNumber_62 i42 rfl in_X6 q637 rfl rfl rfl rfl rfl ?_
        refine x_if_ne (t := 89) 24 dX12_readNumber_65 rfl rfl (b_ite h (fun hc h => ?_) (fun hc h => ?_))
        · refine x_iconst 0 (z := 0) dX12_readNumber_89 rfl (by decide) rfl ?_
          refine x_istore_n 3 (ls' := [(2, 41), (0, a1), (0, a2), (0, 0)]) dX12_readNumber_90 rfl rfl rfl rfl ?_
          refine x_iload_n 3 dX12_readNumber_91 rfl rfl rfl ?_
          refine x_if_eq (t := 109) 17 dX12_readNumber_92 rfl rfl (b_ifT (by decide) ?_)
          refine x_iconst 0 (z := 0) dX12_readNumber_109 rfl (by decide) rfl ?_
          exact y_iret dX12_readNumber_110 rfl h
        · refine x_iload_n 2 dX12_readNumber_68 rfl rfl rfl ?_
          refine x_iconst 3 (z := 3) dX12_readNumber_69 rfl (by decide) rfl ?_
          refine x_icmp_eq (t := 85) 15 dX12_readNumber_70 rfl rfl (b_ite h (fun hc h => ?_) (fun hc h => ?_))
          · refine x_iconst 1 (z := 1) dX12_readNumber_85 rfl (by decide) rfl ?_
            refine x_goto 4 (q := 90) dX12_readNumber_86 rfl ?_
            refine x_istore_n 3 (ls' := [(2, 41), (0, a1), (0, a2), (0, 1)]) dX12_readNumber_90 rfl rfl rfl rfl ?_
            refine x_iload_n 3 dX12_readNumber_91 rfl rfl rfl ?_
            refine x_if_eq (t := 109) 17 dX12_readNumber_92 rfl rfl (b_ifF (by decide) ?_)
            refine x_aload_n 0 dX12_readNumber_95 rfl rfl rfl rfl rfl ?_
            refine y_getF 36 2 (c := 11) (z := 27) dX12_readNumber_96 i41 rfl in_X12 q889 rfl rfl rfl fn_41_2 (Nat.le_trans (Nat.le_of_ble_eq_true rfl) hn) rfl ?_
            refine x_aload_n 0 dX12_readNumber_99 rfl rfl rfl rfl rfl ?_
            refine y_getF 14 6 (c := 11) (z := 42) dX12_readNumber_100 i41 rfl in_X12 q893 rfl rfl rfl fn_41_6 (Nat.le_trans (Nat.le_of_ble_eq_true rfl) hn) rfl ?_
            refine y_Vi 153 (M := mX8_ofWhole) (As := [(2, 42)]) (st := []) dX12_readNumber_103 i27 rfl q1948 q1949 q1950 q375 q1951 rfl hmX8_ofWhole rfl rfl rfl rfl rfl rfl rfl rfl (k_mono h (fun r12 w13 h => ?_))
            refine x_goto 4 (q := 110) dX12_readNumber_106 rfl ?_
            exact y_iret dX12_readNumber_110 rfl h
          · refine x_aload_n 0 dX12_readNumber_73 rfl rfl rfl rfl rfl ?_
            refine y_getF 14 6 (c := 11) (z := 42) dX12_readNumber_74 i41 rfl in_X12 q893 rfl rfl rfl fn_41_6 (Nat.le_trans (Nat.le_of_ble_eq_true rfl) hn) rfl ?_
            refine y_Vi 149 (M := mX6_bits) (As := []) (st := []) dX12_readNumber_77 i42 rfl q1947 q1752 q1753 q373 q1754 rfl hmX6_bits rfl rfl rfl rfl rfl rfl rfl rfl (k_mono h (fun r14 w15 h => ?_))
            refine x_bipush 63 (z := 63) dX12_readNumber_80 rfl (by decide) rfl ?_
            refine x_icmp_gt (t := 89) 7 dX12_readNumber_82 rfl rfl (b_ite h (fun hc h => ?_) (fun hc h => ?_))
            · refine x_iconst 0 (z := 0) dX12_readNumber_89 rfl (by decide) rfl ?_
              refine x_istore_n 3 (ls' := [(2, 41), (0, a1), (0, a2), (0, 0)]) dX12_readNumber_90 rfl rfl rfl rfl ?_
              refine x_iload_n 3 dX12_readNumber_91 rfl rfl rfl ?_
              refine x_if_eq (t := 109) 17 dX12_readNumber_92 rfl rfl (b_ifT (by decide) ?_)
              refine x_iconst 0 (z := 0) dX12_readNumber_109 rfl (by decide) rfl ?_
              exact y_iret dX12_readNumber_110 rfl h
            · refine x_iconst 1 (z := 1) dX12_readNumber_85 rfl (by decide) rfl ?_
              refine x_goto 4 (q := 90) dX12_readNumber_86 rfl ?_
              refine x_istore_n 3 (ls' := [(2, 41), (0, a1), (0, a2), (0, 1)]) dX12_readNumber_90 rfl rfl rfl rfl ?_
              refine x_iload_n 3 dX12_readNumber_91 rfl rfl rfl ?_
              refine x_if_eq (t := 109) 17 dX12_readNumber_92 rfl rfl (b_ifF (by decide) ?_)
              refine x_aload_n 0 dX12_readNumber_95 rfl rfl rfl rfl rfl ?_
              refine y_getF 36 2 (c := 11) (z := 27) dX12_readNumber_96 i41 rfl in_X12 q889 rfl rfl rfl fn_41_2 (Nat.le_trans (Nat.le_of_ble_eq_true rfl) hn) rfl ?_
              refine x_aload_n 0 dX12_readNumber_99 rfl rfl rfl rfl rfl ?_
              refine y_getF 14 6 (c := 11) (z := 42) dX12_readNumber_100 i41 rfl in_X12 q893 rfl rfl rfl fn_41_6 (Nat.le_trans (Nat.le_of_ble_eq_true rfl) hn) rfl ?_
              refine y_Vi 153 (M := mX8_ofWhole) (As := [(2, 42)]) (st := []) dX12_readNumber_103 i27 rfl q1948 q1949 q1950 q375 q1951 rfl hmX8_ofWhole rfl rfl rfl rfl rfl rfl rfl rfl (k_mono h (fun r16 w17 h => ?_))
              refine x_goto 4 (q := 110) dX12_readNumber_106 rfl ?_
              exact y_iret dX12_readNumber_110 rfl h
  · refine x_iconst 0 (z := 0) dX12_readNumber_13 rfl (by decide) rfl ?_
    exact y_iret dX12_readNumber_14 rfl h
theorem rX12_readString {d n : Nat} {w : bW} {Q : Int → bW → Prop} {X : String → bW → Prop} (hn : 143 ≤ n) (a1 : Int) (a2 : Int) (h : (0 ≤ a1 ∧ a1 < 4096) ∧ (if w 10 a1 ≠ 3 then (Q 0 w) else (b_K d mX12_unescape [(2, 41), (0, a1)] n w (fun r2 w3 => if r2 ≠ 0 then (if a2 = 0 then (b_K d mX8_ofBytes [(2, 27), (2, 44), (0, 0), (0, w3 41 8)] n w3 (fun r4 w5 => Q r4 w5) X) else (b_K d mX11_read [(2, 39), (2, 44), (0, 0), (0, w3 41 8)] n w3 (fun r6 w7 => if 0 ≤ r6 then (b_K d mX8_ofBytes [(2, 27), (2, 44), (0, 0), (0, w7 41 8)] n w7 (fun r8 w9 => Q r8 w9) X) else (Q 0 w7)) X)) else (Q 0 w3)) X))) : b_K (d + 1) mX12_readString [(2, 41), (0, a1), (0, a2)] n w Q X := by
  have i6 := iz6 (Nat.le_trans (Nat.le_of_ble_eq_true rfl) hn)
  have i10 := iz10 (Nat.le_trans (Nat.le_of_ble_eq_true rfl) hn)
  have i27 := iz27 (Nat.le_trans (Nat.le_of_ble_eq_true rfl) hn)
  have i39 := iz39 (Nat.le_trans (Nat.le_of_ble_eq_true rfl) hn)
  have i41 := iz41 (Nat.le_trans (Nat.le_of_ble_eq_true rfl) hn)
  refine k_of (by decide) rfl rfl rfl (ls := [(2, 41), (0, a1), (0, a2)]) rfl ?_
  refine x_aload_n 0 dX12_readString_0 rfl rfl rfl rfl rfl ?_
  refine y_getF 28 0 (c := 11) (z := 6) dX12_readString_1 i41 rfl in_X12 q887 rfl rfl rfl fn_41_0 (Nat.le_trans (Nat.le_of_ble_eq_true rfl) hn) rfl ?_
  refine y_getF 92 3 (c := 3) (z := 10) dX12_readString_4 i6 rfl in_X4 q654 rfl rfl rfl fn_6_3 (Nat.le_trans (Nat.le_of_ble_eq_true rfl) hn) rfl ?_
  refine x_iload_n 1 dX12_readString_7 rfl rfl rfl ?_
  obtain ⟨e1, h⟩ := h
  refine y_bald (z := w 10 a1) dX12_readString_8 ⟨4096, i10, e1⟩ rfl rfl ?_
  refine x_iconst 3 (z := 3) dX12_readString_9 rfl (by decide) rfl ?_
  refine x_icmp_ne (t := 21) 11 dX12_readString_10 rfl rfl (b_ite h (fun hc h => ?_) (fun hc h => ?_))
  · refine x_iconst 0 (z := 0) dX12_readString_21 rfl (by decide) rfl ?_
    exact y_iret dX12_readString_22 rfl h
  · refine x_aload_n 0 dX12_readString_13 rfl rfl rfl rfl rfl ?_
    refine x_iload_n 1 dX12_readString_14 rfl rfl rfl ?_
    refine y_Vi 157 (M := mX12_unescape) (As := [(0, a1)]) (st := []) dX12_readString_15 i41 rfl q1984 q1986 qs40 q379 q1987 rfl hmX12_unescape rfl rfl rfl rfl rfl rfl rfl rfl (k_mono h (fun r2 w3 h => ?_))
    refine x_if_ne (t := 23) 5 dX12_readString_18 rfl rfl (b_ite h (fun hc h => ?_) (fun hc h => ?_))
    · refine x_iload_n 2 dX12_readString_23 rfl rfl rfl ?_
      refine x_if_eq (t := 50) 26 dX12_readString_24 rfl rfl (b_ite h (fun hc h => ?_) (fun hc h => ?_))
      · refine x_aload_n 0 dX12_readString_50 rfl rfl rfl rfl rfl ?_
        refine y_getF 36 2 (c := 11) (z := 27) dX12_readString_51 i41 rfl in_X12 q889 rfl rfl rfl fn_41_2 (Nat.le_trans (Nat.le_of_ble_eq_true rfl) hn) rfl ?_
        refine x_aload_n 0 dX12_readString_54 rfl rfl rfl rfl rfl ?_
        refine y_getF 20 7 (c := 11) (z := 44) dX12_readString_55 i41 rfl in_X12 q894 rfl rfl rfl fn_41_7 (Nat.le_trans (Nat.le_of_ble_eq_true rfl) hn) rfl ?_
        refine x_iconst 0 (z := 0) dX12_readString_58 rfl (by decide) rfl ?_
        refine x_aload_n 0 dX12_readString_59 rfl rfl rfl rfl rfl ?_
        refine y_get 160 8 (c := 11) (z := w3 41 8) dX12_readString_60 i41 rfl in_X12 q895 rfl rfl rfl rfl rfl ?_
        refine y_Vi 177 (M := mX8_ofBytes) (As := [(2, 44), (0, 0), (0, w3 41 8)]) (st := []) dX12_readString_63 i27 rfl q1997 q1998 q1999 q375 q2000 rfl hmX8_ofBytes rfl rfl rfl rfl rfl rfl rfl rfl (k_mono h (fun r4 w5 h => ?_))
        exact y_iret dX12_readString_66 rfl h
      · refine x_aload_n 0 dX12_readString_27 rfl rfl rfl rfl rfl ?_
        refine y_getF 48 5 (c := 11) (z := 39) dX12_readString_28 i41 rfl in_X12 q892 rfl rfl rfl fn_41_5 (Nat.le_trans (Nat.le_of_ble_eq_true rfl) hn) rfl ?_
        refine x_aload_n 0 dX12_readString_31 rfl rfl rfl rfl rfl ?_
        refine y_getF 20 7 (c := 11) (z := 44) dX12_readString_32 i41 rfl in_X12 q894 rfl rfl rfl fn_41_7 (Nat.le_trans (Nat.le_of_ble_eq_true rfl) hn) rfl ?_
        refine x_iconst 0 (z := 0) dX12_readString_35 rfl (by decide) rfl ?_
        refine x_aload_n 0 dX12_readString_36 rfl rfl rfl rfl rfl ?_
        refine y_get 160 8 (c := 11) (z := w3 41 8) dX12_readString_37 i41 rfl in_X12 q895 rfl rfl rfl rfl rfl ?_
        refine y_Vi 164 (M := mX11_read) (As := [(2, 44), (0, 0), (0, w3 41 8)]) (st := []) dX12_readString_40 i39 rfl q1988 q1989 q1990 q378 q1991 rfl hmX11_read rfl rfl rfl rfl rfl rfl rfl rfl (k_mono h (fun r6 w7 h => ?_))
        refine x_if_ge (t := 50) 7 dX12_readString_43 rfl rfl (b_ite h (fun hc h => ?_) (fun hc h => ?_))
        · refine x_aload_n 0 dX12_readString_50 rfl rfl rfl rfl rfl ?_
          refine y_getF 36 2 (c := 11) (z := 27) dX12_readString_51 i41 rfl in_X12 q889 rfl rfl rfl fn_41_2 (Nat.le_trans (Nat.le_of_ble_eq_true rfl) hn) rfl ?_
          refine x_aload_n 0 dX12_readString_54 rfl rfl rfl rfl rfl ?_
          refine y_getF 20 7 (c := 11) (z := 44) dX12_readString_55 i41 rfl in_X12 q894 rfl rfl rfl fn_41_7 (Nat.le_trans (Nat.le_of_ble_eq_true rfl) hn) rfl ?_
          refine x_iconst 0 (z := 0) dX12_readString_58 rfl (by decide) rfl ?_
          refine x_aload_n 0 dX12_readString_59 rfl rfl rfl rfl rfl ?_
          refine y_get 160 8 (c := 11) (z := w7 41 8) dX12_readString_60 i41 rfl in_X12 q895 rfl rfl rfl rfl rfl ?_
          refine y_Vi 177 (M := mX8_ofBytes) (As := [(2, 44), (0, 0), (0, w7 41 8)]) (st := []) dX12_readString_63 i27 rfl q1997 q1998 q1999 q375 q2000 rfl hmX8_ofBytes rfl rfl rfl rfl rfl rfl rfl rfl (k_mono h (fun r8 w9 h => ?_))
          exact y_iret dX12_readString_66 rfl h
        · refine x_iconst 0 (z := 0) dX12_readString_46 rfl (by decide) rfl ?_
          refine x_goto 19 (q := 66) dX12_readString_47 rfl ?_
          exact y_iret dX12_readString_66 rfl h
    · refine x_iconst 0 (z := 0) dX12_readString_21 rfl (by decide) rfl ?_
      exact y_iret dX12_readString_22 rfl h
abbrev LX12_unescape_25 (d n : Nat) (Q : Int → bW → Prop) (X : String → bW → Prop) (a1 : Int) (a2 : Int) (a3 : Int) (w : bW) : Prop := b_Y (d + 1) mX12_unescape n Q X 25 [(2, 41), (0, a1), (2, a2), (0, a3), (9, 0)] [] w
theorem rX12_unescape {d n : Nat} {w : bW} {Q : Int → bW → Prop} {X : String → bW → Prop} (hn : 143 ≤ n) (a1 : Int) (h : b_K d mX4_text [(2, 6)] n w (fun r1 w2 => (0 ≤ a1 ∧ a1 < 4096) ∧ (LX12_unescape_25 d n Q X a1 r1 (b_i ((w2 12 a1) + 1)) (b_up w2 41 8 0))) X) : b_K (d + 1) mX12_unescape [(2, 41), (0, a1)] n w Q X := by
  have i6 := iz6 (Nat.le_trans (Nat.le_of_ble_eq_true rfl) hn)
  have i12 := iz12 (Nat.le_trans (Nat.le_of_ble_eq_true rfl) hn)
  have i41 := iz41 (Nat.le_trans (Nat.le_of_ble_eq_true rfl) hn)
  refine k_of (by decide) rfl rfl rfl (ls := [(2, 41), (0, a1), (9, 0), (9, 0), (9, 0)]) rfl ?_
  refine x_aload_n 0 dX12_unescape_0 rfl rfl rfl rfl rfl ?_
  refine y_getF 28 0 (c := 11) (z := 6) dX12_unescape_1 i41 rfl in_X12 q887 rfl rfl rfl fn_41_0 (Nat.le_trans (Nat.le_of_ble_eq_true rfl) hn) rfl ?_
  refine y_Vr 132 (M := mX4_text) (As := []) (st := []) dX12_unescape_4 i6 rfl q1945 q1872 q1873 q371 q1874 rfl hmX4_text rfl rfl rfl rfl rfl rfl rfl rfl (k_mono h (fun r1 w2 h => ?_))
  refine x_astore_n 2 (ls' := [(2, 41), (0, a1), (2, r1), (9, 0), (9, 0)]) dX12_unescape_7 rfl rfl rfl rfl rfl ?_
  refine x_aload_n 0 dX12_unescape_8 rfl rfl rfl rfl rfl ?_
  refine x_iconst 0 (z := 0) dX12_unescape_9 rfl (by decide) rfl ?_
  refine x_put 160 8 (c := 11) dX12_unescape_10 i41 rfl in_X12 tyX12_ok nmX12 q895 rfl rfl rfl (Or.inl rfl) (Or.inl ⟨rfl, rfl⟩) rfl ?_
  refine x_aload_n 0 dX12_unescape_13 rfl rfl rfl rfl rfl ?_
  refine y_getF 28 0 (c := 11) (z := 6) dX12_unescape_14 i41 rfl in_X12 q887 rfl rfl rfl fn_41_0 (Nat.le_trans (Nat.le_of_ble_eq_true rfl) hn) rfl ?_
  refine y_getF 136 5 (c := 3) (z := 12) dX12_unescape_17 i6 rfl in_X4 q662 rfl rfl rfl fn_6_5 (Nat.le_trans (Nat.le_of_ble_eq_true rfl) hn) rfl ?_
  refine x_iload_n 1 dX12_unescape_20 rfl rfl rfl ?_
  obtain ⟨e3, h⟩ := h
  refine y_iald (z := w2 12 a1) dX12_unescape_21 ⟨4096, i12, e3⟩ rfl rfl ?_
  refine x_iconst 1 (z := 1) dX12_unescape_22 rfl (by decide) rfl ?_
  refine x_iadd dX12_unescape_23 rfl ?_
  refine x_istore_n 3 (ls' := [(2, 41), (0, a1), (2, r1), (0, b_i ((w2 12 a1) + 1)), (9, 0)]) dX12_unescape_24 rfl rfl rfl rfl ?_
  exact x_fg (fgk (fgk (fgk (fgk (fgk (fg0)))))) h
theorem sX12_unescape_25 {d n : Nat} {w : bW} {Q : Int → bW → Prop} {X : String → bW → Prop} (hn : 143 ≤ n) (a1 : Int) (a2 : Int) (a3 : Int) (h : (0 ≤ a1 ∧ a1 < 4096) ∧ (if b_i ((w 13 a1) - 1) ≤ a3 then (if 8192 < w 41 8 then (Q 0 w) else (Q 1 w)) else (if 8192 < w 41 8 then (if 8192 < w 41 8 then (Q 0 w) else (Q 1 w)) else (b_ai n a2 1 1 a3 ∧ (if w a2 a3 ≠ 92 then ((0 ≤ w 41 8 ∧ w 41 8 < 8200) ∧ (LX12_unescape_25 d n Q X a1 a2 (b_i (a3 + 1)) (b_up (b_up w 41 8 (b_i ((w 41 8) + 1))) 44 (w 41 8) (b_b8 (w a2 a3))))) else (b_ai n a2 1 1 (b_i (a3 + 1)) ∧ (if w a2 (b_i (a3 + 1)) ≠ 110 then ((0 ≤ w 41 8 ∧ w 41 8 < 8200) ∧ (LX12_unescape_25 d n Q X a1 a2 (b_i ((b_i (a3 + 1)) + 1)) (b_up (b_up w 41 8 (b_i ((w 41 8) + 1))) 44 (w 41 8) (b_b8 (w a2 (b_i (a3 + 1))))))) else ((0 ≤ w 41 8 ∧ w 41 8 < 8200) ∧ (LX12_unescape_25 d n Q X a1 a2 (b_i ((b_i (a3 + 1)) + 1)) (b_up (b_up w 41 8 (b_i ((w 41 8) + 1))) 44 (w 41 8) (b_b8 10))))))))))) : LX12_unescape_25 d n Q X a1 a2 a3 w := by
  have i6 := iz6 (Nat.le_trans (Nat.le_of_ble_eq_true rfl) hn)
  have i13 := iz13 (Nat.le_trans (Nat.le_of_ble_eq_true rfl) hn)
  have i41 := iz41 (Nat.le_trans (Nat.le_of_ble_eq_true rfl) hn)
  have i44 := iz44 (Nat.le_trans (Nat.le_of_ble_eq_true rfl) hn)
  refine x_iload_n 3 dX12_unescape_25 rfl rfl rfl ?_
  refine x_aload_n 0 dX12_unescape_26 rfl rfl rfl rfl rfl ?_
  refine y_getF 28 0 (c := 11) (z := 6) dX12_unescape_27 i41 rfl in_X12 q887 rfl rfl rfl fn_41_0 (Nat.le_trans (Nat.le_of_ble_eq_true rfl) hn) rfl ?_
  refine y_getF 139 6 (c := 3) (z := 13) dX12_unescape_30 i6 rfl in_X4 q665 rfl rfl rfl fn_6_6 (Nat.le_trans (Nat.le_of_ble_eq_true rfl) hn) rfl ?_
  refine x_iload_n 1 dX12_unescape_33 rfl rfl rfl ?_
  obtain ⟨e1, h⟩ := h
  refine y_iald (z := w 13 a1) dX12_unescape_34 ⟨4096, i13, e1⟩ rfl rfl ?_
  refine x_iconst 1 (z := 1) dX12_unescape_35 rfl (by decide) rfl ?_
  refine x_isub dX12_unescape_36 rfl ?_
  refine x_icmp_ge (t := 108) 71 dX12_unescape_37 rfl rfl (b_ite h (fun hc h => ?_) (fun hc h => ?_))
  · refine x_aload_n 0 dX12_unescape_108 rfl rfl rfl rfl rfl ?_
    refine y_get 160 8 (c := 11) (z := w 41 8) dX12_unescape_109 i41 rfl in_X12 q895 rfl rfl rfl rfl rfl ?_
    refine x_sipush 8192 (z := 8192) dX12_unescape_112 rfl (by decide) rfl ?_
    refine x_icmp_gt (t := 122) 7 dX12_unescape_115 rfl rfl (b_ite h (fun hc h => ?_) (fun hc h => ?_))
    · refine x_iconst 0 (z := 0) dX12_unescape_122 rfl (by decide) rfl ?_
      exact y_zret dX12_unescape_123 rfl (by decide) h
    · refine x_iconst 1 (z := 1) dX12_unescape_118 rfl (by decide) rfl ?_
      refine x_goto 4 (q := 123) dX12_unescape_119 rfl ?_
      exact y_zret dX12_unescape_123 rfl (by decide) h
  · refine x_aload_n 0 dX12_unescape_40 rfl rfl rfl rfl rfl ?_
    refine y_get 160 8 (c := 11) (z := w 41 8) dX12_unescape_41 i41 rfl in_X12 q895 rfl rfl rfl rfl rfl ?_
    refine x_sipush 8192 (z := 8192) dX12_unescape_44 rfl (by decide) rfl ?_
    refine x_icmp_gt (t := 108) 61 dX12_unescape_47 rfl rfl (b_ite h (fun hc h => ?_) (fun hc h => ?_))
    · refine x_aload_n 0 dX12_unescape_108 rfl rfl rfl rfl rfl ?_
      refine y_get 160 8 (c := 11) (z := w 41 8) dX12_unescape_109 i41 rfl in_X12 q895 rfl rfl rfl rfl rfl ?_
      refine x_sipush 8192 (z := 8192) dX12_unescape_112 rfl (by decide) rfl ?_
      refine x_icmp_gt (t := 122) 7 dX12_unescape_115 rfl rfl (b_ite h (fun hc h => ?_) (fun hc h => ?_))
      · refine x_iconst 0 (z := 0) dX12_unescape_122 rfl (by decide) rfl ?_
        exact y_zret dX12_unescape_123 rfl (by decide) h
      · refine x_iconst 1 (z := 1) dX12_unescape_118 rfl (by decide) rfl ?_
        refine x_goto 4 (q := 123) dX12_unescape_119 rfl ?_
        exact y_zret dX12_unescape_123 rfl (by decide) h
    · refine x_aload_n 2 dX12_unescape_50 rfl rfl rfl rfl rfl ?_
      refine x_iload_n 3 dX12_unescape_51 rfl rfl rfl ?_
      obtain ⟨e2, h⟩ := h
      refine y_bald (z := w a2 a3) dX12_unescape_52 e2 rfl rfl ?_
      refine x_istore 4 (ls' := [(2, 41), (0, a1), (2, a2), (0, a3), (0, w a2 a3)]) dX12_unescape_53 rfl rfl rfl ?_
      refine x_iload 4 dX12_unescape_55 rfl rfl ?_
      refine x_bipush 92 (z := 92) dX12_unescape_57 rfl (by decide) rfl ?_
      refine x_icmp_ne (t := 83) 24 dX12_unescape_59 rfl rfl (b_ite h (fun hc h => ?_) (fun hc h => ?_))
      · refine x_aload_n 0 dX12_unescape_83 rfl rfl rfl rfl rfl ?_
        refine y_getF 20 7 (c := 11) (z := 44) dX12_unescape_84 i41 rfl in_X12 q894 rfl rfl rfl fn_41_7 (Nat.le_trans (Nat.le_of_ble_eq_true rfl) hn) rfl ?_
        refine x_aload_n 0 dX12_unescape_87 rfl rfl rfl rfl rfl ?_
        refine x_dup dX12_unescape_88 rfl rfl ?_
        refine y_get 160 8 (c := 11) (z := w 41 8) dX12_unescape_89 i41 rfl in_X12 q895 rfl rfl rfl rfl rfl ?_
        refine x_dup_x1 dX12_unescape_92 rfl rfl rfl ?_
        refine x_iconst 1 (z := 1) dX12_unescape_93 rfl (by decide) rfl ?_
        refine x_iadd dX12_unescape_94 rfl ?_
        refine x_put 160 8 (c := 11) dX12_unescape_95 i41 rfl in_X12 tyX12_ok nmX12 q895 rfl rfl rfl (Or.inl rfl) (Or.inl ⟨rfl, rfl⟩) rfl ?_
        refine x_iload 4 dX12_unescape_98 rfl rfl ?_
        refine x_i2b dX12_unescape_100 rfl ?_
        obtain ⟨e3, h⟩ := h
        refine y_bast (x' := b_b8 (w a2 a3)) dX12_unescape_101 ⟨8200, i44, e3⟩ (b_b8_i _) rfl ?_
        refine x_iinc 3 1 (ls' := [(2, 41), (0, a1), (2, a2), (0, b_i (a3 + 1)), (0, w a2 a3)]) dX12_unescape_102 rfl rfl rfl rfl ?_
        refine x_goto (-80) (q := 25) dX12_unescape_105 rfl ?_
        exact x_fg (fgk (fgk (fgk (fgk (fgd (fg0)))))) h
      · refine x_iinc 3 1 (ls' := [(2, 41), (0, a1), (2, a2), (0, b_i (a3 + 1)), (0, w a2 a3)]) dX12_unescape_62 rfl rfl rfl rfl ?_
        refine x_aload_n 2 dX12_unescape_65 rfl rfl rfl rfl rfl ?_
        refine x_iload_n 3 dX12_unescape_66 rfl rfl rfl ?_
        obtain ⟨e4, h⟩ := h
        refine y_bald (z := w a2 (b_i (a3 + 1))) dX12_unescape_67 e4 rfl rfl ?_
        refine x_bipush 110 (z := 110) dX12_unescape_68 rfl (by decide) rfl ?_
        refine x_icmp_ne (t := 78) 8 dX12_unescape_70 rfl rfl (b_ite h (fun hc h => ?_) (fun hc h => ?_))
        · refine x_aload_n 2 dX12_unescape_78 rfl rfl rfl rfl rfl ?_
          refine x_iload_n 3 dX12_unescape_79 rfl rfl rfl ?_
          refine y_bald (z := w a2 (b_i (a3 + 1))) dX12_unescape_80 e4 rfl rfl ?_
          refine x_istore 4 (ls' := [(2, 41), (0, a1), (2, a2), (0, b_i (a3 + 1)), (0, w a2 (b_i (a3 + 1)))]) dX12_unescape_81 rfl rfl rfl ?_
          refine x_aload_n 0 dX12_unescape_83 rfl rfl rfl rfl rfl ?_
          refine y_getF 20 7 (c := 11) (z := 44) dX12_unescape_84 i41 rfl in_X12 q894 rfl rfl rfl fn_41_7 (Nat.le_trans (Nat.le_of_ble_eq_true rfl) hn) rfl ?_
          refine x_aload_n 0 dX12_unescape_87 rfl rfl rfl rfl rfl ?_
          refine x_dup dX12_unescape_88 rfl rfl ?_
          refine y_get 160 8 (c := 11) (z := w 41 8) dX12_unescape_89 i41 rfl in_X12 q895 rfl rfl rfl rfl rfl ?_
          refine x_dup_x1 dX12_unescape_92 rfl rfl rfl ?_
          refine x_iconst 1 (z := 1) dX12_unescape_93 rfl (by decide) rfl ?_
          refine x_iadd dX12_unescape_94 rfl ?_
          refine x_put 160 8 (c := 11) dX12_unescape_95 i41 rfl in_X12 tyX12_ok nmX12 q895 rfl rfl rfl (Or.inl rfl) (Or.inl ⟨rfl, rfl⟩) rfl ?_
          refine x_iload 4 dX12_unescape_98 rfl rfl ?_
          refine x_i2b dX12_unescape_100 rfl ?_
          obtain ⟨e5, h⟩ := h
          refine y_bast (x' := b_b8 (w a2 (b_i (a3 + 1)))) dX12_unescape_101 ⟨8200, i44, e5⟩ (b_b8_i _) rfl ?_
          refine x_iinc 3 1 (ls' := [(2, 41), (0, a1), (2, a2), (0, b_i ((b_i (a3 + 1)) + 1)), (0, w a2 (b_i (a3 + 1)))]) dX12_unescape_102 rfl rfl rfl rfl ?_
          refine x_goto (-80) (q := 25) dX12_unescape_105 rfl ?_
          exact x_fg (fgk (fgk (fgk (fgk (fgd (fg0)))))) h
        · refine x_bipush 10 (z := 10) dX12_unescape_73 rfl (by decide) rfl ?_
          refine x_goto 6 (q := 81) dX12_unescape_75 rfl ?_
          refine x_istore 4 (ls' := [(2, 41), (0, a1), (2, a2), (0, b_i (a3 + 1)), (0, 10)]) dX12_unescape_81 rfl rfl rfl ?_
          refine x_aload_n 0 dX12_unescape_83 rfl rfl rfl rfl rfl ?_
          refine y_getF 20 7 (c := 11) (z := 44) dX12_unescape_84 i41 rfl in_X12 q894 rfl rfl rfl fn_41_7 (Nat.le_trans (Nat.le_of_ble_eq_true rfl) hn) rfl ?_
          refine x_aload_n 0 dX12_unescape_87 rfl rfl rfl rfl rfl ?_
          refine x_dup dX12_unescape_88 rfl rfl ?_
          refine y_get 160 8 (c := 11) (z := w 41 8) dX12_unescape_89 i41 rfl in_X12 q895 rfl rfl rfl rfl rfl ?_
          refine x_dup_x1 dX12_unescape_92 rfl rfl rfl ?_
          refine x_iconst 1 (z := 1) dX12_unescape_93 rfl (by decide) rfl ?_
          refine x_iadd dX12_unescape_94 rfl ?_
          refine x_put 160 8 (c := 11) dX12_unescape_95 i41 rfl in_X12 tyX12_ok nmX12 q895 rfl rfl rfl (Or.inl rfl) (Or.inl ⟨rfl, rfl⟩) rfl ?_
          refine x_iload 4 dX12_unescape_98 rfl rfl ?_
          refine x_i2b dX12_unescape_100 rfl ?_
          obtain ⟨e6, h⟩ := h
          refine y_bast (x' := b_b8 10) dX12_unescape_101 ⟨8200, i44, e6⟩ (b_b8_i _) rfl ?_
          refine x_iinc 3 1 (ls' := [(2, 41), (0, a1), (2, a2), (0, b_i ((b_i (a3 + 1)) + 1)), (0, 10)]) dX12_unescape_102 rfl rfl rfl rfl ?_
          refine x_goto (-80) (q := 25) dX12_unescape_105 rfl ?_
          exact x_fg (fgk (fgk (fgk (fgk (fgd (fg0)))))) h
abbrev LX12_readBytes_65 (d n : Nat) (Q : Int → bW → Prop) (X : String → bW → Prop) (a1 : Int) (a2 : Int) (a3 : Int) (a4 : Int) (w : bW) : Prop := b_Y (d + 1) mX12_readBytes n Q X 65 [(2, 41), (0, a1), (0, a2), (2, a3), (0, a4), (9, 0)] [] w
theorem rX12_readBytes {d n : Nat} {w : bW} {Q : Int → bW → Prop} {X : String → bW → Prop} (hn : 143 ≤ n) (a1 : Int) (h : (0 ≤ a1 ∧ a1 < 4096) ∧ (if w 10 a1 ≠ 4 then (Q 0 w) else ((0 ≤ a1 ∧ a1 < 4096) ∧ ((0 ≤ a1 ∧ a1 < 4096) ∧ (if b_i ((b_div (b_i ((w 13 a1) - (w 12 a1))) 2) - 1) < 0 then (Q 0 w) else (if b_i ((b_div (b_i ((w 13 a1) - (w 12 a1))) 2) - 1) ≤ 8192 then (b_K d mX4_text [(2, 6)] n w (fun r4 w5 => LX12_readBytes_65 d n Q X a1 (b_i ((b_div (b_i ((w 13 a1) - (w 12 a1))) 2) - 1)) r4 0 w5) X) else (Q 0 w))))))) : b_K (d + 1) mX12_readBytes [(2, 41), (0, a1)] n w Q X := by
  have i6 := iz6 (Nat.le_trans (Nat.le_of_ble_eq_true rfl) hn)
  have i10 := iz10 (Nat.le_trans (Nat.le_of_ble_eq_true rfl) hn)
  have i12 := iz12 (Nat.le_trans (Nat.le_of_ble_eq_true rfl) hn)
  have i13 := iz13 (Nat.le_trans (Nat.le_of_ble_eq_true rfl) hn)
  have i41 := iz41 (Nat.le_trans (Nat.le_of_ble_eq_true rfl) hn)
  refine k_of (by decide) rfl rfl rfl (ls := [(2, 41), (0, a1), (9, 0), (9, 0), (9, 0), (9, 0)]) rfl ?_
  refine x_aload_n 0 dX12_readBytes_0 rfl rfl rfl rfl rfl ?_
  refine y_getF 28 0 (c := 11) (z := 6) dX12_readBytes_1 i41 rfl in_X12 q887 rfl rfl rfl fn_41_0 (Nat.le_trans (Nat.le_of_ble_eq_true rfl) hn) rfl ?_
  refine y_getF 92 3 (c := 3) (z := 10) dX12_readBytes_4 i6 rfl in_X4 q654 rfl rfl rfl fn_6_3 (Nat.le_trans (Nat.le_of_ble_eq_true rfl) hn) rfl ?_
  refine x_iload_n 1 dX12_readBytes_7 rfl rfl rfl ?_
  obtain ⟨e1, h⟩ := h
  refine y_bald (z := w 10 a1) dX12_readBytes_8 ⟨4096, i10, e1⟩ rfl rfl ?_
  refine x_iconst 4 (z := 4) dX12_readBytes_9 rfl (by decide) rfl ?_
  refine x_icmp_ne (t := 39) 29 dX12_readBytes_10 rfl rfl (b_ite h (fun hc h => ?_) (fun hc h => ?_))
  · refine x_iconst (-1) (z := (-1)) dX12_readBytes_39 rfl (by decide) rfl ?_
    refine x_istore_n 2 (ls' := [(2, 41), (0, a1), (0, (-1)), (9, 0), (9, 0), (9, 0)]) dX12_readBytes_40 rfl rfl rfl rfl ?_
    refine x_iload_n 2 dX12_readBytes_41 rfl rfl rfl ?_
    refine x_if_lt (t := 52) 10 dX12_readBytes_42 rfl rfl (b_ifT (by decide) ?_)
    refine x_iconst 0 (z := 0) dX12_readBytes_52 rfl (by decide) rfl ?_
    exact y_iret dX12_readBytes_53 rfl h
  · refine x_aload_n 0 dX12_readBytes_13 rfl rfl rfl rfl rfl ?_
    refine y_getF 28 0 (c := 11) (z := 6) dX12_readBytes_14 i41 rfl in_X12 q887 rfl rfl rfl fn_41_0 (Nat.le_trans (Nat.le_of_ble_eq_true rfl) hn) rfl ?_
    refine y_getF 139 6 (c := 3) (z := 13) dX12_readBytes_17 i6 rfl in_X4 q665 rfl rfl rfl fn_6_6 (Nat.le_trans (Nat.le_of_ble_eq_true rfl) hn) rfl ?_
    refine x_iload_n 1 dX12_readBytes_20 rfl rfl rfl ?_
    obtain ⟨e2, h⟩ := h
    refine y_iald (z := w 13 a1) dX12_readBytes_21 ⟨4096, i13, e2⟩ rfl rfl ?_
    refine x_aload_n 0 dX12_readBytes_22 rfl rfl rfl rfl rfl ?_
    refine y_getF 28 0 (c := 11) (z := 6) dX12_readBytes_23 i41 rfl in_X12 q887 rfl rfl rfl fn_41_0 (Nat.le_trans (Nat.le_of_ble_eq_true rfl) hn) rfl ?_
    refine y_getF 136 5 (c := 3) (z := 12) dX12_readBytes_26 i6 rfl in_X4 q662 rfl rfl rfl fn_6_5 (Nat.le_trans (Nat.le_of_ble_eq_true rfl) hn) rfl ?_
    refine x_iload_n 1 dX12_readBytes_29 rfl rfl rfl ?_
    obtain ⟨e3, h⟩ := h
    refine y_iald (z := w 12 a1) dX12_readBytes_30 ⟨4096, i12, e3⟩ rfl rfl ?_
    refine x_isub dX12_readBytes_31 rfl ?_
    refine x_iconst 2 (z := 2) dX12_readBytes_32 rfl (by decide) rfl ?_
    refine x_idiv dX12_readBytes_33 (by decide) rfl ?_
    refine x_iconst 1 (z := 1) dX12_readBytes_34 rfl (by decide) rfl ?_
    refine x_isub dX12_readBytes_35 rfl ?_
    refine x_goto 4 (q := 40) dX12_readBytes_36 rfl ?_
    refine x_istore_n 2 (ls' := [(2, 41), (0, a1), (0, b_i ((b_div (b_i ((w 13 a1) - (w 12 a1))) 2) - 1)), (9, 0), (9, 0), (9, 0)]) dX12_readBytes_40 rfl rfl rfl rfl ?_
    refine x_iload_n 2 dX12_readBytes_41 rfl rfl rfl ?_
    refine x_if_lt (t := 52) 10 dX12_readBytes_42 rfl rfl (b_ite h (fun hc h => ?_) (fun hc h => ?_))
    · refine x_iconst 0 (z := 0) dX12_readBytes_52 rfl (by decide) rfl ?_
      exact y_iret dX12_readBytes_53 rfl h
    · refine x_iload_n 2 dX12_readBytes_45 rfl rfl rfl ?_
      refine x_sipush 8192 (z := 8192) dX12_readBytes_46 rfl (by decide) rfl ?_
      refine x_icmp_le (t := 54) 5 dX12_readBytes_49 rfl rfl (b_ite h (fun hc h => ?_) (fun hc h => ?_))
      · refine x_aload_n 0 dX12_readBytes_54 rfl rfl rfl rfl rfl ?_
        refine y_getF 28 0 (c := 11) (z := 6) dX12_readBytes_55 i41 rfl in_X12 q887 rfl rfl rfl fn_41_0 (Nat.le_trans (Nat.le_of_ble_eq_true rfl) hn) rfl ?_
        refine y_Vr 132 (M := mX4_text) (As := []) (st := []) dX12_readBytes_58 i6 rfl q1945 q1872 q1873 q371 q1874 rfl hmX4_text rfl rfl rfl rfl rfl rfl rfl rfl (k_mono h (fun r4 w5 h => ?_))
        refine x_astore_n 3 (ls' := [(2, 41), (0, a1), (0, b_i ((b_div (b_i ((w 13 a1) - (w 12 a1))) 2) - 1)), (2, r4), (9, 0), (9, 0)]) dX12_readBytes_61 rfl rfl rfl rfl rfl ?_
        refine x_iconst 0 (z := 0) dX12_readBytes_62 rfl (by decide) rfl ?_
        refine x_istore 4 (ls' := [(2, 41), (0, a1), (0, b_i ((b_div (b_i ((w 13 a1) - (w 12 a1))) 2) - 1)), (2, r4), (0, 0), (9, 0)]) dX12_readBytes_63 rfl rfl rfl ?_
        exact x_fg (fgk (fgk (fgk (fgk (fgk (fgk (fg0))))))) h
      · refine x_iconst 0 (z := 0) dX12_readBytes_52 rfl (by decide) rfl ?_
        exact y_iret dX12_readBytes_53 rfl h
theorem sX12_readBytes_65 {d n : Nat} {w : bW} {Q : Int → bW → Prop} {X : String → bW → Prop} (hn : 143 ≤ n) (a1 : Int) (a2 : Int) (a3 : Int) (a4 : Int) (h : if a2 ≤ a4 then (b_K d mX8_ofBytes [(2, 27), (2, 44), (0, 0), (0, a2)] n w (fun r1 w2 => Q r1 w2) X) else ((0 ≤ a1 ∧ a1 < 4096) ∧ (b_ai n a3 1 1 (b_i ((b_i ((w 12 a1) + 2)) + (b_i (2 * a4)))) ∧ (b_K d mX30_hex [(0, w a3 (b_i ((b_i ((w 12 a1) + 2)) + (b_i (2 * a4)))))] n w (fun r5 w6 => b_ai n a3 1 1 (b_i ((b_i ((b_i ((w 12 a1) + 2)) + (b_i (2 * a4)))) + 1)) ∧ (b_K d mX30_hex [(0, w6 a3 (b_i ((b_i ((b_i ((w 12 a1) + 2)) + (b_i (2 * a4)))) + 1)))] n w6 (fun r8 w9 => (0 ≤ a4 ∧ a4 < 8200) ∧ (LX12_readBytes_65 d n Q X a1 a2 a3 (b_i (a4 + 1)) (b_up w9 44 a4 (b_b8 (b_or (b_shl r5 4) r8))))) X)) X)))) : LX12_readBytes_65 d n Q X a1 a2 a3 a4 w := by
  have i6 := iz6 (Nat.le_trans (Nat.le_of_ble_eq_true rfl) hn)
  have i12 := iz12 (Nat.le_trans (Nat.le_of_ble_eq_true rfl) hn)
  have i27 := iz27 (Nat.le_trans (Nat.le_of_ble_eq_true rfl) hn)
  have i41 := iz41 (Nat.le_trans (Nat.le_of_ble_eq_true rfl) hn)
  have i44 := iz44 (Nat.le_trans (Nat.le_of_ble_eq_true rfl) hn)
  refine x_iload 4 dX12_readBytes_65 rfl rfl ?_
  refine x_iload_n 2 dX12_readBytes_67 rfl rfl rfl ?_
  refine x_icmp_ge (t := 122) 54 dX12_readBytes_68 rfl rfl (b_ite h (fun hc h => ?_) (fun hc h => ?_))
  · refine x_aload_n 0 dX12_readBytes_122 rfl rfl rfl rfl rfl ?_
    refine y_getF 36 2 (c := 11) (z := 27) dX12_readBytes_123 i41 rfl in_X12 q889 rfl rfl rfl fn_41_2 (Nat.le_trans (Nat.le_of_ble_eq_true rfl) hn) rfl ?_
    refine x_aload_n 0 dX12_readBytes_126 rfl rfl rfl rfl rfl ?_
    refine y_getF 20 7 (c := 11) (z := 44) dX12_readBytes_127 i41 rfl in_X12 q894 rfl rfl rfl fn_41_7 (Nat.le_trans (Nat.le_of_ble_eq_true rfl) hn) rfl ?_
    refine x_iconst 0 (z := 0) dX12_readBytes_130 rfl (by decide) rfl ?_
    refine x_iload_n 2 dX12_readBytes_131 rfl rfl rfl ?_
    refine y_Vi 177 (M := mX8_ofBytes) (As := [(2, 44), (0, 0), (0, a2)]) (st := []) dX12_readBytes_132 i27 rfl q1997 q1998 q1999 q375 q2000 rfl hmX8_ofBytes rfl rfl rfl rfl rfl rfl rfl rfl (k_mono h (fun r1 w2 h => ?_))
    exact y_iret dX12_readBytes_135 rfl h
  · refine x_aload_n 0 dX12_readBytes_71 rfl rfl rfl rfl rfl ?_
    refine y_getF 28 0 (c := 11) (z := 6) dX12_readBytes_72 i41 rfl in_X12 q887 rfl rfl rfl fn_41_0 (Nat.le_trans (Nat.le_of_ble_eq_true rfl) hn) rfl ?_
    refine y_getF 136 5 (c := 3) (z := 12) dX12_readBytes_75 i6 rfl in_X4 q662 rfl rfl rfl fn_6_5 (Nat.le_trans (Nat.le_of_ble_eq_true rfl) hn) rfl ?_
    refine x_iload_n 1 dX12_readBytes_78 rfl rfl rfl ?_
    obtain ⟨e3, h⟩ := h
    refine y_iald (z := w 12 a1) dX12_readBytes_79 ⟨4096, i12, e3⟩ rfl rfl ?_
    refine x_iconst 2 (z := 2) dX12_readBytes_80 rfl (by decide) rfl ?_
    refine x_iadd dX12_readBytes_81 rfl ?_
    refine x_iconst 2 (z := 2) dX12_readBytes_82 rfl (by decide) rfl ?_
    refine x_iload 4 dX12_readBytes_83 rfl rfl ?_
    refine x_imul dX12_readBytes_85 rfl ?_
    refine x_iadd dX12_readBytes_86 rfl ?_
    refine x_istore 5 (ls' := [(2, 41), (0, a1), (0, a2), (2, a3), (0, a4), (0, b_i ((b_i ((w 12 a1) + 2)) + (b_i (2 * a4))))]) dX12_readBytes_87 rfl rfl rfl ?_
    refine x_aload_n 0 dX12_readBytes_89 rfl rfl rfl rfl rfl ?_
    refine y_getF 20 7 (c := 11) (z := 44) dX12_readBytes_90 i41 rfl in_X12 q894 rfl rfl rfl fn_41_7 (Nat.le_trans (Nat.le_of_ble_eq_true rfl) hn) rfl ?_
    refine x_iload 4 dX12_readBytes_93 rfl rfl ?_
    refine x_aload_n 3 dX12_readBytes_95 rfl rfl rfl rfl rfl ?_
    refine x_iload 5 dX12_readBytes_96 rfl rfl ?_
    obtain ⟨e4, h⟩ := h
    refine y_bald (z := w a3 (b_i ((b_i ((w 12 a1) + 2)) + (b_i (2 * a4))))) dX12_readBytes_98 e4 rfl rfl ?_
    refine y_Si 180 (M := mX30_hex) (As := [(0, w a3 (b_i ((b_i ((w 12 a1) + 2)) + (b_i (2 * a4)))))]) (st := [(0, a4), (2, 44)]) dX12_readBytes_99 q2017 q1703 q398 q1704 hmX30_hex rfl rfl rfl rfl rfl rfl rfl rfl (k_mono h (fun r5 w6 h => ?_))
    refine x_iconst 4 (z := 4) dX12_readBytes_102 rfl (by decide) rfl ?_
    refine x_ishl dX12_readBytes_103 rfl ?_
    refine x_aload_n 3 dX12_readBytes_104 rfl rfl rfl rfl rfl ?_
    refine x_iload 5 dX12_readBytes_105 rfl rfl ?_
    refine x_iconst 1 (z := 1) dX12_readBytes_107 rfl (by decide) rfl ?_
    refine x_iadd dX12_readBytes_108 rfl ?_
    obtain ⟨e7, h⟩ := h
    refine y_bald (z := w6 a3 (b_i ((b_i ((b_i ((w 12 a1) + 2)) + (b_i (2 * a4)))) + 1))) dX12_readBytes_109 e7 rfl rfl ?_
    refine y_Si 180 (M := mX30_hex) (As := [(0, w6 a3 (b_i ((b_i ((b_i ((w 12 a1) + 2)) + (b_i (2 * a4)))) + 1)))]) (st := [(0, b_shl r5 4), (0, a4), (2, 44)]) dX12_readBytes_110 q2017 q1703 q398 q1704 hmX30_hex rfl rfl rfl rfl rfl rfl rfl rfl (k_mono h (fun r8 w9 h => ?_))
    refine x_ior dX12_readBytes_113 rfl ?_
    refine x_i2b dX12_readBytes_114 rfl ?_
    obtain ⟨e10, h⟩ := h
    refine y_bast (x' := b_b8 (b_or (b_shl r5 4) r8)) dX12_readBytes_115 ⟨8200, i44, e10⟩ (b_b8_i _) rfl ?_
    refine x_iinc 4 1 (ls' := [(2, 41), (0, a1), (0, a2), (2, a3), (0, b_i (a4 + 1)), (0, b_i ((b_i ((w 12 a1) + 2)) + (b_i (2 * a4))))]) dX12_readBytes_116 rfl rfl rfl rfl ?_
    refine x_goto (-54) (q := 65) dX12_readBytes_119 rfl ?_
    exact x_fg (fgk (fgk (fgk (fgk (fgk (fgd (fg0))))))) h
theorem rX12_readWrapped {d n : Nat} {w : bW} {Q : Int → bW → Prop} {X : String → bW → Prop} (hn : 143 ≤ n) (a1 : Int) (a2 : Int) (a3 : Int) (a4 : Int) (h : b_K d mX4_is [(2, 6), (0, a1), (0, a2), (0, 1)] n w (fun r1 w2 => if r1 = 0 then (Q 0 w2) else ((0 ≤ a1 ∧ a1 < 4096) ∧ (b_K d mX12_read [(2, 41), (0, w2 16 a1), (0, a4)] n w2 (fun r4 w5 => if r4 ≠ 0 then (b_K d mX8_wrap [(2, 27), (0, a3), (0, r4)] n w5 (fun r6 w7 => Q r6 w7) X) else (Q 0 w5)) X))) X) : b_K (d + 1) mX12_readWrapped [(2, 41), (0, a1), (0, a2), (0, a3), (0, a4)] n w Q X := by
  have i6 := iz6 (Nat.le_trans (Nat.le_of_ble_eq_true rfl) hn)
  have i16 := iz16 (Nat.le_trans (Nat.le_of_ble_eq_true rfl) hn)
  have i27 := iz27 (Nat.le_trans (Nat.le_of_ble_eq_true rfl) hn)
  have i41 := iz41 (Nat.le_trans (Nat.le_of_ble_eq_true rfl) hn)
  refine k_of (by decide) rfl rfl rfl (ls := [(2, 41), (0, a1), (0, a2), (0, a3), (0, a4), (9, 0)]) rfl ?_
  refine x_aload_n 0 dX12_readWrapped_0 rfl rfl rfl rfl rfl ?_
  refine y_getF 28 0 (c := 11) (z := 6) dX12_readWrapped_1 i41 rfl in_X12 q887 rfl rfl rfl fn_41_0 (Nat.le_trans (Nat.le_of_ble_eq_true rfl) hn) rfl ?_
  refine x_iload_n 1 dX12_readWrapped_4 rfl rfl rfl ?_
  refine x_iload_n 2 dX12_readWrapped_5 rfl rfl rfl ?_
  refine x_iconst 1 (z := 1) dX12_readWrapped_6 rfl (by decide) rfl ?_
  refine y_Vi 64 (M := mX4_is) (As := [(0, a1), (0, a2), (0, 1)]) (st := []) dX12_readWrapped_7 i6 rfl q1940 q1842 q1843 q371 q1844 rfl hmX4_is rfl rfl rfl rfl rfl rfl rfl rfl (k_mono h (fun r1 w2 h => ?_))
  refine x_if_eq (t := 31) 21 dX12_readWrapped_10 rfl rfl (b_ite h (fun hc h => ?_) (fun hc h => ?_))
  · refine x_iconst 0 (z := 0) dX12_readWrapped_31 rfl (by decide) rfl ?_
    refine x_istore 5 (ls' := [(2, 41), (0, a1), (0, a2), (0, a3), (0, a4), (0, 0)]) dX12_readWrapped_32 rfl rfl rfl ?_
    refine x_iload 5 dX12_readWrapped_34 rfl rfl ?_
    refine x_if_ne (t := 43) 7 dX12_readWrapped_36 rfl rfl (b_ifF (by decide) ?_)
    refine x_iconst 0 (z := 0) dX12_readWrapped_39 rfl (by decide) rfl ?_
    refine x_goto 13 (q := 53) dX12_readWrapped_40 rfl ?_
    exact y_iret dX12_readWrapped_53 rfl h
  · refine x_aload_n 0 dX12_readWrapped_13 rfl rfl rfl rfl rfl ?_
    refine x_aload_n 0 dX12_readWrapped_14 rfl rfl rfl rfl rfl ?_
    refine y_getF 28 0 (c := 11) (z := 6) dX12_readWrapped_15 i41 rfl in_X12 q887 rfl rfl rfl fn_41_0 (Nat.le_trans (Nat.le_of_ble_eq_true rfl) hn) rfl ?_
    refine y_getF 101 9 (c := 3) (z := 16) dX12_readWrapped_18 i6 rfl in_X4 q673 rfl rfl rfl fn_6_9 (Nat.le_trans (Nat.le_of_ble_eq_true rfl) hn) rfl ?_
    refine x_iload_n 1 dX12_readWrapped_21 rfl rfl rfl ?_
    obtain ⟨e3, h⟩ := h
    refine y_iald (z := w2 16 a1) dX12_readWrapped_22 ⟨4096, i16, e3⟩ rfl rfl ?_
    refine x_iload 4 dX12_readWrapped_23 rfl rfl ?_
    refine y_Vi 118 (M := mX12_read) (As := [(0, w2 16 a1), (0, a4)]) (st := []) dX12_readWrapped_25 i41 rfl q2022 q1937 q1938 q379 q1939 rfl hmX12_read rfl rfl rfl rfl rfl rfl rfl rfl (k_mono h (fun r4 w5 h => ?_))
    refine x_goto 4 (q := 32) dX12_readWrapped_28 rfl ?_
    refine x_istore 5 (ls' := [(2, 41), (0, a1), (0, a2), (0, a3), (0, a4), (0, r4)]) dX12_readWrapped_32 rfl rfl rfl ?_
    refine x_iload 5 dX12_readWrapped_34 rfl rfl ?_
    refine x_if_ne (t := 43) 7 dX12_readWrapped_36 rfl rfl (b_ite h (fun hc h => ?_) (fun hc h => ?_))
    · refine x_aload_n 0 dX12_readWrapped_43 rfl rfl rfl rfl rfl ?_
      refine y_getF 36 2 (c := 11) (z := 27) dX12_readWrapped_44 i41 rfl in_X12 q889 rfl rfl rfl fn_41_2 (Nat.le_trans (Nat.le_of_ble_eq_true rfl) hn) rfl ?_
      refine x_iload_n 3 dX12_readWrapped_47 rfl rfl rfl ?_
      refine x_iload 5 dX12_readWrapped_48 rfl rfl ?_
      refine y_Vi 121 (M := mX8_wrap) (As := [(0, a3), (0, r4)]) (st := []) dX12_readWrapped_50 i27 rfl q2023 q2024 q2025 q375 q2026 rfl hmX8_wrap rfl rfl rfl rfl rfl rfl rfl rfl (k_mono h (fun r6 w7 h => ?_))
      exact y_iret dX12_readWrapped_53 rfl h
    · refine x_iconst 0 (z := 0) dX12_readWrapped_39 rfl (by decide) rfl ?_
      refine x_goto 13 (q := 53) dX12_readWrapped_40 rfl ?_
      exact y_iret dX12_readWrapped_53 rfl h
theorem rX12_readComb {d n : Nat} {w : bW} {Q : Int → bW → Prop} {X : String → bW → Prop} (hn : 143 ≤ n) (a1 : Int) (a2 : Int) (h : (0 ≤ a1 ∧ a1 < 4096) ∧ (if 0 ≤ w 17 a1 then ((0 ≤ a2 ∧ a2 < 60000) ∧ (if w 20 a2 = 18 then ((0 ≤ a2 ∧ a2 < 60000) ∧ (b_K d mX12_read [(2, 41), (0, a1), (0, w 21 a2)] n w (fun r4 w5 => if r4 ≠ 0 then ((0 ≤ a2 ∧ a2 < 60000) ∧ (b_K d mX12_readComb [(2, 41), (0, w 17 a1), (0, w5 22 a2)] n w5 (fun r7 w8 => if r7 ≠ 0 then (b_K d mX8_pair [(2, 27), (0, r4), (0, r7)] n w8 (fun r9 w10 => Q r9 w10) X) else (Q 0 w8)) X)) else (Q 0 w5)) X)) else (Q 0 w))) else (b_K d mX12_read [(2, 41), (0, a1), (0, a2)] n w (fun r11 w12 => Q r11 w12) X))) : b_K (d + 1) mX12_readComb [(2, 41), (0, a1), (0, a2)] n w Q X := by
  have i6 := iz6 (Nat.le_trans (Nat.le_of_ble_eq_true rfl) hn)
  have i17 := iz17 (Nat.le_trans (Nat.le_of_ble_eq_true rfl) hn)
  have i19 := iz19 (Nat.le_trans (Nat.le_of_ble_eq_true rfl) hn)
  have i20 := iz20 (Nat.le_trans (Nat.le_of_ble_eq_true rfl) hn)
  have i21 := iz21 (Nat.le_trans (Nat.le_of_ble_eq_true rfl) hn)
  have i22 := iz22 (Nat.le_trans (Nat.le_of_ble_eq_true rfl) hn)
  have i27 := iz27 (Nat.le_trans (Nat.le_of_ble_eq_true rfl) hn)
  have i41 := iz41 (Nat.le_trans (Nat.le_of_ble_eq_true rfl) hn)
  refine k_of (by decide) rfl rfl rfl (ls := [(2, 41), (0, a1), (0, a2), (9, 0), (9, 0), (9, 0)]) rfl ?_
  refine x_aload_n 0 dX12_readComb_0 rfl rfl rfl rfl rfl ?_
  refine y_getF 28 0 (c := 11) (z := 6) dX12_readComb_1 i41 rfl in_X12 q887 rfl rfl rfl fn_41_0 (Nat.le_trans (Nat.le_of_ble_eq_true rfl) hn) rfl ?_
  refine y_getF 124 10 (c := 3) (z := 17) dX12_readComb_4 i6 rfl in_X4 q677 rfl rfl rfl fn_6_10 (Nat.le_trans (Nat.le_of_ble_eq_true rfl) hn) rfl ?_
  refine x_iload_n 1 dX12_readComb_7 rfl rfl rfl ?_
  obtain ⟨e1, h⟩ := h
  refine y_iald (z := w 17 a1) dX12_readComb_8 ⟨4096, i17, e1⟩ rfl rfl ?_
  refine x_istore_n 3 (ls' := [(2, 41), (0, a1), (0, a2), (0, w 17 a1), (9, 0), (9, 0)]) dX12_readComb_9 rfl rfl rfl rfl ?_
  refine x_iload_n 3 dX12_readComb_10 rfl rfl rfl ?_
  refine x_if_ge (t := 21) 10 dX12_readComb_11 rfl rfl (b_ite h (fun hc h => ?_) (fun hc h => ?_))
  · refine x_aload_n 0 dX12_readComb_21 rfl rfl rfl rfl rfl ?_
    refine y_getF 32 1 (c := 11) (z := 19) dX12_readComb_22 i41 rfl in_X12 q888 rfl rfl rfl fn_41_1 (Nat.le_trans (Nat.le_of_ble_eq_true rfl) hn) rfl ?_
    refine y_getF 57 0 (c := 6) (z := 20) dX12_readComb_25 i19 rfl in_X7 q752 rfl rfl rfl fn_19_0 (Nat.le_trans (Nat.le_of_ble_eq_true rfl) hn) rfl ?_
    refine x_iload_n 2 dX12_readComb_28 rfl rfl rfl ?_
    obtain ⟨e2, h⟩ := h
    refine y_bald (z := w 20 a2) dX12_readComb_29 ⟨60000, i20, e2⟩ rfl rfl ?_
    refine x_bipush 18 (z := 18) dX12_readComb_30 rfl (by decide) rfl ?_
    refine x_icmp_eq (t := 37) 5 dX12_readComb_32 rfl rfl (b_ite h (fun hc h => ?_) (fun hc h => ?_))
    · refine x_aload_n 0 dX12_readComb_37 rfl rfl rfl rfl rfl ?_
      refine x_iload_n 1 dX12_readComb_38 rfl rfl rfl ?_
      refine x_aload_n 0 dX12_readComb_39 rfl rfl rfl rfl rfl ?_
      refine y_getF 32 1 (c := 11) (z := 19) dX12_readComb_40 i41 rfl in_X12 q888 rfl rfl rfl fn_41_1 (Nat.le_trans (Nat.le_of_ble_eq_true rfl) hn) rfl ?_
      refine y_getF 82 1 (c := 6) (z := 21) dX12_readComb_43 i19 rfl in_X7 q758 rfl rfl rfl fn_19_1 (Nat.le_trans (Nat.le_of_ble_eq_true rfl) hn) rfl ?_
      refine x_iload_n 2 dX12_readComb_46 rfl rfl rfl ?_
      obtain ⟨e3, h⟩ := h
      refine y_iald (z := w 21 a2) dX12_readComb_47 ⟨60000, i21, e3⟩ rfl rfl ?_
      refine y_Vi 118 (M := mX12_read) (As := [(0, a1), (0, w 21 a2)]) (st := []) dX12_readComb_48 i41 rfl q2022 q1937 q1938 q379 q1939 rfl hmX12_read rfl rfl rfl rfl rfl rfl rfl rfl (k_mono h (fun r4 w5 h => ?_))
      refine x_istore 4 (ls' := [(2, 41), (0, a1), (0, a2), (0, w 17 a1), (0, r4), (9, 0)]) dX12_readComb_51 rfl rfl rfl ?_
      refine x_iload 4 dX12_readComb_53 rfl rfl ?_
      refine x_if_ne (t := 62) 7 dX12_readComb_55 rfl rfl (b_ite h (fun hc h => ?_) (fun hc h => ?_))
      · refine x_aload_n 0 dX12_readComb_62 rfl rfl rfl rfl rfl ?_
        refine x_iload_n 3 dX12_readComb_63 rfl rfl rfl ?_
        refine x_aload_n 0 dX12_readComb_64 rfl rfl rfl rfl rfl ?_
        refine y_getF 32 1 (c := 11) (z := 19) dX12_readComb_65 i41 rfl in_X12 q888 rfl rfl rfl fn_41_1 (Nat.le_trans (Nat.le_of_ble_eq_true rfl) hn) rfl ?_
        refine y_getF 89 2 (c := 6) (z := 22) dX12_readComb_68 i19 rfl in_X7 q764 rfl rfl rfl fn_19_2 (Nat.le_trans (Nat.le_of_ble_eq_true rfl) hn) rfl ?_
        refine x_iload_n 2 dX12_readComb_71 rfl rfl rfl ?_
        obtain ⟨e6, h⟩ := h
        refine y_iald (z := w5 22 a2) dX12_readComb_72 ⟨60000, i22, e6⟩ rfl rfl ?_
        refine y_Vi 104 (M := mX12_readComb) (As := [(0, w 17 a1), (0, w5 22 a2)]) (st := []) dX12_readComb_73 i41 rfl q2049 q2051 qs43 q379 q2052 rfl hmX12_readComb rfl rfl rfl rfl rfl rfl rfl rfl (k_mono h (fun r7 w8 h => ?_))
        refine x_istore 5 (ls' := [(2, 41), (0, a1), (0, a2), (0, w 17 a1), (0, r4), (0, r7)]) dX12_readComb_76 rfl rfl rfl ?_
        refine x_iload 5 dX12_readComb_78 rfl rfl ?_
        refine x_if_ne (t := 87) 7 dX12_readComb_80 rfl rfl (b_ite h (fun hc h => ?_) (fun hc h => ?_))
        · refine x_aload_n 0 dX12_readComb_87 rfl rfl rfl rfl rfl ?_
          refine y_getF 36 2 (c := 11) (z := 27) dX12_readComb_88 i41 rfl in_X12 q889 rfl rfl rfl fn_41_2 (Nat.le_trans (Nat.le_of_ble_eq_true rfl) hn) rfl ?_
          refine x_iload 4 dX12_readComb_91 rfl rfl ?_
          refine x_iload 5 dX12_readComb_93 rfl rfl ?_
          refine y_Vi 127 (M := mX8_pair) (As := [(0, r4), (0, r7)]) (st := []) dX12_readComb_95 i27 rfl q2053 q2054 q2055 q375 q2056 rfl hmX8_pair rfl rfl rfl rfl rfl rfl rfl rfl (k_mono h (fun r9 w10 h => ?_))
          exact y_iret dX12_readComb_98 rfl h
        · refine x_iconst 0 (z := 0) dX12_readComb_83 rfl (by decide) rfl ?_
          refine x_goto 14 (q := 98) dX12_readComb_84 rfl ?_
          exact y_iret dX12_readComb_98 rfl h
      · refine x_iconst 0 (z := 0) dX12_readComb_58 rfl (by decide) rfl ?_
        refine x_goto 17 (q := 76) dX12_readComb_59 rfl ?_
        refine x_istore 5 (ls' := [(2, 41), (0, a1), (0, a2), (0, w 17 a1), (0, r4), (0, 0)]) dX12_readComb_76 rfl rfl rfl ?_
        refine x_iload 5 dX12_readComb_78 rfl rfl ?_
        refine x_if_ne (t := 87) 7 dX12_readComb_80 rfl rfl (b_ifF (by decide) ?_)
        refine x_iconst 0 (z := 0) dX12_readComb_83 rfl (by decide) rfl ?_
        refine x_goto 14 (q := 98) dX12_readComb_84 rfl ?_
        exact y_iret dX12_readComb_98 rfl h
    · refine x_iconst 0 (z := 0) dX12_readComb_35 rfl (by decide) rfl ?_
      exact y_iret dX12_readComb_36 rfl h
  · refine x_aload_n 0 dX12_readComb_14 rfl rfl rfl rfl rfl ?_
    refine x_iload_n 1 dX12_readComb_15 rfl rfl rfl ?_
    refine x_iload_n 2 dX12_readComb_16 rfl rfl rfl ?_
    refine y_Vi 118 (M := mX12_read) (As := [(0, a1), (0, a2)]) (st := []) dX12_readComb_17 i41 rfl q2022 q1937 q1938 q379 q1939 rfl hmX12_read rfl rfl rfl rfl rfl rfl rfl rfl (k_mono h (fun r11 w12 h => ?_))
    exact y_iret dX12_readComb_20 rfl h
abbrev LX12_readList_19 (d n : Nat) (Q : Int → bW → Prop) (X : String → bW → Prop) (a2 : Int) (a3 : Int) (a4 : Int) (a5 : Int) (w : bW) : Prop := b_Y (d + 1) mX12_readList n Q X 19 [(2, 41), (9, 0), (0, a2), (0, a3), (0, a4), (0, a5), (9, 0)] [] w
abbrev LX12_readList_95 (d n : Nat) (Q : Int → bW → Prop) (X : String → bW → Prop) (a3 : Int) (a4 : Int) (a5 : Int) (a6 : Int) (w : bW) : Prop := b_Y (d + 1) mX12_readList n Q X 95 [(2, 41), (9, 0), (9, 0), (0, a3), (0, a4), (0, a5), (0, a6)] [] w
theorem rX12_readList {d n : Nat} {w : bW} {Q : Int → bW → Prop} {X : String → bW → Prop} (hn : 143 ≤ n) (a1 : Int) (a2 : Int) (h : (0 ≤ a1 ∧ a1 < 4096) ∧ (LX12_readList_19 d n Q X a2 (w 41 10) 1 (w 16 a1) w)) : b_K (d + 1) mX12_readList [(2, 41), (0, a1), (0, a2)] n w Q X := by
  have i6 := iz6 (Nat.le_trans (Nat.le_of_ble_eq_true rfl) hn)
  have i16 := iz16 (Nat.le_trans (Nat.le_of_ble_eq_true rfl) hn)
  have i41 := iz41 (Nat.le_trans (Nat.le_of_ble_eq_true rfl) hn)
  refine k_of (by decide) rfl rfl rfl (ls := [(2, 41), (0, a1), (0, a2), (9, 0), (9, 0), (9, 0), (9, 0)]) rfl ?_
  refine x_aload_n 0 dX12_readList_0 rfl rfl rfl rfl rfl ?_
  refine y_get 185 10 (c := 11) (z := w 41 10) dX12_readList_1 i41 rfl in_X12 q897 rfl rfl rfl rfl rfl ?_
  refine x_istore_n 3 (ls' := [(2, 41), (0, a1), (0, a2), (0, w 41 10), (9, 0), (9, 0), (9, 0)]) dX12_readList_4 rfl rfl rfl rfl ?_
  refine x_iconst 1 (z := 1) dX12_readList_5 rfl (by decide) rfl ?_
  refine x_istore 4 (ls' := [(2, 41), (0, a1), (0, a2), (0, w 41 10), (0, 1), (9, 0), (9, 0)]) dX12_readList_6 rfl rfl rfl ?_
  refine x_aload_n 0 dX12_readList_8 rfl rfl rfl rfl rfl ?_
  refine y_getF 28 0 (c := 11) (z := 6) dX12_readList_9 i41 rfl in_X12 q887 rfl rfl rfl fn_41_0 (Nat.le_trans (Nat.le_of_ble_eq_true rfl) hn) rfl ?_
  refine y_getF 101 9 (c := 3) (z := 16) dX12_readList_12 i6 rfl in_X4 q673 rfl rfl rfl fn_6_9 (Nat.le_trans (Nat.le_of_ble_eq_true rfl) hn) rfl ?_
  refine x_iload_n 1 dX12_readList_15 rfl rfl rfl ?_
  obtain ⟨e1, h⟩ := h
  refine y_iald (z := w 16 a1) dX12_readList_16 ⟨4096, i16, e1⟩ rfl rfl ?_
  refine x_istore 5 (ls' := [(2, 41), (0, a1), (0, a2), (0, w 41 10), (0, 1), (0, w 16 a1), (9, 0)]) dX12_readList_17 rfl rfl rfl ?_
  exact x_fg (fgk (fgd (fgk (fgk (fgk (fgk (fgk (fg0)))))))) h
theorem sX12_readList_19 {d n : Nat} {w : bW} {Q : Int → bW → Prop} {X : String → bW → Prop} (hn : 143 ≤ n) (a2 : Int) (a3 : Int) (a4 : Int) (a5 : Int) (h : if a5 < 0 then (LX12_readList_95 d n Q X a3 a4 10 (b_i ((w 41 10) - 1)) w) else (if a4 = 0 then (LX12_readList_95 d n Q X a3 a4 10 (b_i ((w 41 10) - 1)) w) else (b_K d mX12_read [(2, 41), (0, a5), (0, a2)] n w (fun r1 w2 => (0 ≤ w2 41 10 ∧ w2 41 10 < 8400) ∧ (if r1 = 0 then ((0 ≤ a5 ∧ a5 < 4096) ∧ (LX12_readList_19 d n Q X a2 a3 0 (w2 17 a5) (b_up (b_up w2 41 10 (b_i ((w2 41 10) + 1))) 45 (w2 41 10) r1))) else ((0 ≤ a5 ∧ a5 < 4096) ∧ (LX12_readList_19 d n Q X a2 a3 1 (w2 17 a5) (b_up (b_up w2 41 10 (b_i ((w2 41 10) + 1))) 45 (w2 41 10) r1))))) X))) : LX12_readList_19 d n Q X a2 a3 a4 a5 w := by
  have i6 := iz6 (Nat.le_trans (Nat.le_of_ble_eq_true rfl) hn)
  have i17 := iz17 (Nat.le_trans (Nat.le_of_ble_eq_true rfl) hn)
  have i41 := iz41 (Nat.le_trans (Nat.le_of_ble_eq_true rfl) hn)
  have i45 := iz45 (Nat.le_trans (Nat.le_of_ble_eq_true rfl) hn)
  refine x_iload 5 dX12_readList_19 rfl rfl ?_
  refine x_if_lt (t := 83) 62 dX12_readList_21 rfl rfl (b_ite h (fun hc h => ?_) (fun hc h => ?_))
  · refine x_bipush 10 (z := 10) dX12_readList_83 rfl (by decide) rfl ?_
    refine x_istore 5 (ls' := [(2, 41), (9, 0), (0, a2), (0, a3), (0, a4), (0, 10), (9, 0)]) dX12_readList_85 rfl rfl rfl ?_
    refine x_aload_n 0 dX12_readList_87 rfl rfl rfl rfl rfl ?_
    refine y_get 185 10 (c := 11) (z := w 41 10) dX12_readList_88 i41 rfl in_X12 q897 rfl rfl rfl rfl rfl ?_
    refine x_iconst 1 (z := 1) dX12_readList_91 rfl (by decide) rfl ?_
    refine x_isub dX12_readList_92 rfl ?_
    refine x_istore 6 (ls' := [(2, 41), (9, 0), (0, a2), (0, a3), (0, a4), (0, 10), (0, b_i ((w 41 10) - 1))]) dX12_readList_93 rfl rfl rfl ?_
    exact x_fg (fgk (fgk (fgd (fgk (fgk (fgk (fgk (fg0)))))))) h
  · refine x_iload 4 dX12_readList_24 rfl rfl ?_
    refine x_if_eq (t := 83) 57 dX12_readList_26 rfl rfl (b_ite h (fun hc h => ?_) (fun hc h => ?_))
    · refine x_bipush 10 (z := 10) dX12_readList_83 rfl (by decide) rfl ?_
      refine x_istore 5 (ls' := [(2, 41), (9, 0), (0, a2), (0, a3), (0, a4), (0, 10), (9, 0)]) dX12_readList_85 rfl rfl rfl ?_
      refine x_aload_n 0 dX12_readList_87 rfl rfl rfl rfl rfl ?_
      refine y_get 185 10 (c := 11) (z := w 41 10) dX12_readList_88 i41 rfl in_X12 q897 rfl rfl rfl rfl rfl ?_
      refine x_iconst 1 (z := 1) dX12_readList_91 rfl (by decide) rfl ?_
      refine x_isub dX12_readList_92 rfl ?_
      refine x_istore 6 (ls' := [(2, 41), (9, 0), (0, a2), (0, a3), (0, a4), (0, 10), (0, b_i ((w 41 10) - 1))]) dX12_readList_93 rfl rfl rfl ?_
      exact x_fg (fgk (fgk (fgd (fgk (fgk (fgk (fgk (fg0)))))))) h
    · refine x_aload_n 0 dX12_readList_29 rfl rfl rfl rfl rfl ?_
      refine x_iload 5 dX12_readList_30 rfl rfl ?_
      refine x_iload_n 2 dX12_readList_32 rfl rfl rfl ?_
      refine y_Vi 118 (M := mX12_read) (As := [(0, a5), (0, a2)]) (st := []) dX12_readList_33 i41 rfl q2022 q1937 q1938 q379 q1939 rfl hmX12_read rfl rfl rfl rfl rfl rfl rfl rfl (k_mono h (fun r1 w2 h => ?_))
      refine x_istore 6 (ls' := [(2, 41), (9, 0), (0, a2), (0, a3), (0, a4), (0, a5), (0, r1)]) dX12_readList_36 rfl rfl rfl ?_
      refine x_aload_n 0 dX12_readList_38 rfl rfl rfl rfl rfl ?_
      refine y_getF 24 9 (c := 11) (z := 45) dX12_readList_39 i41 rfl in_X12 q896 rfl rfl rfl fn_41_9 (Nat.le_trans (Nat.le_of_ble_eq_true rfl) hn) rfl ?_
      refine x_aload_n 0 dX12_readList_42 rfl rfl rfl rfl rfl ?_
      refine x_dup dX12_readList_43 rfl rfl ?_
      refine y_get 185 10 (c := 11) (z := w2 41 10) dX12_readList_44 i41 rfl in_X12 q897 rfl rfl rfl rfl rfl ?_
      refine x_dup_x1 dX12_readList_47 rfl rfl rfl ?_
      refine x_iconst 1 (z := 1) dX12_readList_48 rfl (by decide) rfl ?_
      refine x_iadd dX12_readList_49 rfl ?_
      refine x_put 185 10 (c := 11) dX12_readList_50 i41 rfl in_X12 tyX12_ok nmX12 q897 rfl rfl rfl (Or.inl rfl) (Or.inl ⟨rfl, rfl⟩) rfl ?_
      refine x_iload 6 dX12_readList_53 rfl rfl ?_
      obtain ⟨e3, h⟩ := h
      refine y_iast (x' := r1) dX12_readList_55 ⟨8400, i45, e3⟩ rfl rfl ?_
      refine x_iload 6 dX12_readList_56 rfl rfl ?_
      refine x_if_eq (t := 65) 7 dX12_readList_58 rfl rfl (b_ite h (fun hc h => ?_) (fun hc h => ?_))
      · refine x_iconst 0 (z := 0) dX12_readList_65 rfl (by decide) rfl ?_
        refine x_istore 4 (ls' := [(2, 41), (9, 0), (0, a2), (0, a3), (0, 0), (0, a5), (0, r1)]) dX12_readList_66 rfl rfl rfl ?_
        refine x_aload_n 0 dX12_readList_68 rfl rfl rfl rfl rfl ?_
        refine y_getF 28 0 (c := 11) (z := 6) dX12_readList_69 i41 rfl in_X12 q887 rfl rfl rfl fn_41_0 (Nat.le_trans (Nat.le_of_ble_eq_true rfl) hn) rfl ?_
        refine y_getF 124 10 (c := 3) (z := 17) dX12_readList_72 i6 rfl in_X4 q677 rfl rfl rfl fn_6_10 (Nat.le_trans (Nat.le_of_ble_eq_true rfl) hn) rfl ?_
        refine x_iload 5 dX12_readList_75 rfl rfl ?_
        obtain ⟨e4, h⟩ := h
        refine y_iald (z := w2 17 a5) dX12_readList_77 ⟨4096, i17, e4⟩ rfl rfl ?_
        refine x_istore 5 (ls' := [(2, 41), (9, 0), (0, a2), (0, a3), (0, 0), (0, w2 17 a5), (0, r1)]) dX12_readList_78 rfl rfl rfl ?_
        refine x_goto (-61) (q := 19) dX12_readList_80 rfl ?_
        exact x_fg (fgk (fgk (fgk (fgk (fgk (fgk (fgd (fg0)))))))) h
      · refine x_iconst 1 (z := 1) dX12_readList_61 rfl (by decide) rfl ?_
        refine x_goto 4 (q := 66) dX12_readList_62 rfl ?_
        refine x_istore 4 (ls' := [(2, 41), (9, 0), (0, a2), (0, a3), (0, 1), (0, a5), (0, r1)]) dX12_readList_66 rfl rfl rfl ?_
        refine x_aload_n 0 dX12_readList_68 rfl rfl rfl rfl rfl ?_
        refine y_getF 28 0 (c := 11) (z := 6) dX12_readList_69 i41 rfl in_X12 q887 rfl rfl rfl fn_41_0 (Nat.le_trans (Nat.le_of_ble_eq_true rfl) hn) rfl ?_
        refine y_getF 124 10 (c := 3) (z := 17) dX12_readList_72 i6 rfl in_X4 q677 rfl rfl rfl fn_6_10 (Nat.le_trans (Nat.le_of_ble_eq_true rfl) hn) rfl ?_
        refine x_iload 5 dX12_readList_75 rfl rfl ?_
        obtain ⟨e5, h⟩ := h
        refine y_iald (z := w2 17 a5) dX12_readList_77 ⟨4096, i17, e5⟩ rfl rfl ?_
        refine x_istore 5 (ls' := [(2, 41), (9, 0), (0, a2), (0, a3), (0, 1), (0, w2 17 a5), (0, r1)]) dX12_readList_78 rfl rfl rfl ?_
        refine x_goto (-61) (q := 19) dX12_readList_80 rfl ?_
        exact x_fg (fgk (fgk (fgk (fgk (fgk (fgk (fgd (fg0)))))))) h
theorem sX12_readList_95 {d n : Nat} {w : bW} {Q : Int → bW → Prop} {X : String → bW → Prop} (hn : 143 ≤ n) (a3 : Int) (a4 : Int) (a5 : Int) (a6 : Int) (h : if a6 < a3 then (if a4 = 0 then (Q 0 (b_up w 41 10 a3)) else (Q a5 (b_up w 41 10 a3))) else (if a4 = 0 then (if a4 = 0 then (Q 0 (b_up w 41 10 a3)) else (Q a5 (b_up w 41 10 a3))) else ((0 ≤ a6 ∧ a6 < 8400) ∧ (b_K d mX8_cons [(2, 27), (0, w 45 a6), (0, a5)] n w (fun r2 w3 => LX12_readList_95 d n Q X a3 a4 r2 (b_i (a6 + (-1))) w3) X)))) : LX12_readList_95 d n Q X a3 a4 a5 a6 w := by
  have i27 := iz27 (Nat.le_trans (Nat.le_of_ble_eq_true rfl) hn)
  have i41 := iz41 (Nat.le_trans (Nat.le_of_ble_eq_true rfl) hn)
  have i45 := iz45 (Nat.le_trans (Nat.le_of_ble_eq_true rfl) hn)
  refine x_iload 6 dX12_readList_95 rfl rfl ?_
  refine x_iload_n 3 dX12_readList_97 rfl rfl rfl ?_
  refine x_icmp_lt (t := 130) 32 dX12_readList_98 rfl rfl (b_ite h (fun hc h => ?_) (fun hc h => ?_))
  · refine x_aload_n 0 dX12_readList_130 rfl rfl rfl rfl rfl ?_
    refine x_iload_n 3 dX12_readList_131 rfl rfl rfl ?_
    refine x_put 185 10 (c := 11) dX12_readList_132 i41 rfl in_X12 tyX12_ok nmX12 q897 rfl rfl rfl (Or.inl rfl) (Or.inl ⟨rfl, rfl⟩) rfl ?_
    refine x_iload 4 dX12_readList_135 rfl rfl ?_
    refine x_if_eq (t := 145) 8 dX12_readList_137 rfl rfl (b_ite h (fun hc h => ?_) (fun hc h => ?_))
    · refine x_iconst 0 (z := 0) dX12_readList_145 rfl (by decide) rfl ?_
      exact y_iret dX12_readList_146 rfl h
    · refine x_iload 5 dX12_readList_140 rfl rfl ?_
      refine x_goto 4 (q := 146) dX12_readList_142 rfl ?_
      exact y_iret dX12_readList_146 rfl h
  · refine x_iload 4 dX12_readList_101 rfl rfl ?_
    refine x_if_eq (t := 130) 27 dX12_readList_103 rfl rfl (b_ite h (fun hc h => ?_) (fun hc h => ?_))
    · refine x_aload_n 0 dX12_readList_130 rfl rfl rfl rfl rfl ?_
      refine x_iload_n 3 dX12_readList_131 rfl rfl rfl ?_
      refine x_put 185 10 (c := 11) dX12_readList_132 i41 rfl in_X12 tyX12_ok nmX12 q897 rfl rfl rfl (Or.inl rfl) (Or.inl ⟨rfl, rfl⟩) rfl ?_
      refine x_iload 4 dX12_readList_135 rfl rfl ?_
      refine x_if_eq (t := 145) 8 dX12_readList_137 rfl rfl (b_ite h (fun hc h => ?_) (fun hc h => ?_))
      · refine x_iconst 0 (z := 0) dX12_readList_145 rfl (by decide) rfl ?_
        exact y_iret dX12_readList_146 rfl h
      · refine x_iload 5 dX12_readList_140 rfl rfl ?_
        refine x_goto 4 (q := 146) dX12_readList_142 rfl ?_
        exact y_iret dX12_readList_146 rfl h
    · refine x_aload_n 0 dX12_readList_106 rfl rfl rfl rfl rfl ?_
      refine y_getF 36 2 (c := 11) (z := 27) dX12_readList_107 i41 rfl in_X12 q889 rfl rfl rfl fn_41_2 (Nat.le_trans (Nat.le_of_ble_eq_true rfl) hn) rfl ?_
      refine x_aload_n 0 dX12_readList_110 rfl rfl rfl rfl rfl ?_
      refine y_getF 24 9 (c := 11) (z := 45) dX12_readList_111 i41 rfl in_X12 q896 rfl rfl rfl fn_41_9 (Nat.le_trans (Nat.le_of_ble_eq_true rfl) hn) rfl ?_
      refine x_iload 6 dX12_readList_114 rfl rfl ?_
      obtain ⟨e1, h⟩ := h
      refine y_iald (z := w 45 a6) dX12_readList_116 ⟨8400, i45, e1⟩ rfl rfl ?_
      refine x_iload 5 dX12_readList_117 rfl rfl ?_
      refine y_Vi 188 (M := mX8_cons) (As := [(0, w 45 a6), (0, a5)]) (st := []) dX12_readList_119 i27 rfl q2062 q2063 q2064 q375 q2065 rfl hmX8_cons rfl rfl rfl rfl rfl rfl rfl rfl (k_mono h (fun r2 w3 h => ?_))
      refine x_istore 5 (ls' := [(2, 41), (9, 0), (9, 0), (0, a3), (0, a4), (0, r2), (0, a6)]) dX12_readList_122 rfl rfl rfl ?_
      refine x_iinc 6 (-1) (ls' := [(2, 41), (9, 0), (9, 0), (0, a3), (0, a4), (0, r2), (0, b_i (a6 + (-1)))]) dX12_readList_124 rfl rfl rfl rfl ?_
      refine x_goto (-32) (q := 95) dX12_readList_127 rfl ?_
      exact x_fg (fgk (fgk (fgk (fgk (fgk (fgk (fgk (fg0)))))))) h
abbrev LX12_readTree_20 (d n : Nat) (Q : Int → bW → Prop) (X : String → bW → Prop) (a2 : Int) (a3 : Int) (a4 : Int) (a5 : Int) (a6 : Int) (w : bW) : Prop := b_Y (d + 1) mX12_readTree n Q X 20 [(2, 41), (9, 0), (0, a2), (0, a3), (0, a4), (0, a5), (0, a6), (9, 0), (9, 0), (9, 0)] [] w
abbrev LX12_readTree_54 (d n : Nat) (Q : Int → bW → Prop) (X : String → bW → Prop) (a2 : Int) (a3 : Int) (a4 : Int) (a6 : Int) (s0 : Int) (w : bW) : Prop := b_Y (d + 1) mX12_readTree n Q X 54 [(2, 41), (9, 0), (0, a2), (0, a3), (0, a4), (9, 0), (0, a6), (9, 0), (9, 0), (9, 0)] [(0, s0)] w
abbrev LX12_readTree_127 (d n : Nat) (Q : Int → bW → Prop) (X : String → bW → Prop) (a2 : Int) (a3 : Int) (a4 : Int) (a6 : Int) (a8 : Int) (s0 : Int) (w : bW) : Prop := b_Y (d + 1) mX12_readTree n Q X 127 [(2, 41), (9, 0), (0, a2), (0, a3), (0, a4), (9, 0), (0, a6), (9, 0), (0, a8), (9, 0)] [(0, s0)] w
abbrev LX12_readTree_143 (d n : Nat) (Q : Int → bW → Prop) (X : String → bW → Prop) (a2 : Int) (a3 : Int) (a4 : Int) (a6 : Int) (a8 : Int) (a9 : Int) (w : bW) : Prop := b_Y (d + 1) mX12_readTree n Q X 143 [(2, 41), (9, 0), (0, a2), (0, a3), (0, a4), (9, 0), (0, a6), (9, 0), (0, a8), (0, a9)] [] w
theorem rX12_readTree {d n : Nat} {w : bW} {Q : Int → bW → Prop} {X : String → bW → Prop} (hn : 143 ≤ n) (a1 : Int) (a2 : Int) (a3 : Int) (h : (0 ≤ a1 ∧ a1 < 4096) ∧ (LX12_readTree_20 d n Q X a2 a3 (w 41 10) 1 (w 16 a1) w)) : b_K (d + 1) mX12_readTree [(2, 41), (0, a1), (0, a2), (0, a3)] n w Q X := by
  have i6 := iz6 (Nat.le_trans (Nat.le_of_ble_eq_true rfl) hn)
  have i16 := iz16 (Nat.le_trans (Nat.le_of_ble_eq_true rfl) hn)
  have i41 := iz41 (Nat.le_trans (Nat.le_of_ble_eq_true rfl) hn)
  refine k_of (by decide) rfl rfl rfl (ls := [(2, 41), (0, a1), (0, a2), (0, a3), (9, 0), (9, 0), (9, 0), (9, 0), (9, 0), (9, 0)]) rfl ?_
  refine x_aload_n 0 dX12_readTree_0 rfl rfl rfl rfl rfl ?_
  refine y_get 185 10 (c := 11) (z := w 41 10) dX12_readTree_1 i41 rfl in_X12 q897 rfl rfl rfl rfl rfl ?_
  refine x_istore 4 (ls' := [(2, 41), (0, a1), (0, a2), (0, a3), (0, w 41 10), (9, 0), (9, 0), (9, 0), (9, 0), (9, 0)]) dX12_readTree_4 rfl rfl rfl ?_
  refine x_iconst 1 (z := 1) dX12_readTree_6 rfl (by decide) rfl ?_
  refine x_istore 5 (ls' := [(2, 41), (0, a1), (0, a2), (0, a3), (0, w 41 10), (0, 1), (9, 0), (9, 0), (9, 0), (9, 0)]) dX12_readTree_7 rfl rfl rfl ?_
  refine x_aload_n 0 dX12_readTree_9 rfl rfl rfl rfl rfl ?_
  refine y_getF 28 0 (c := 11) (z := 6) dX12_readTree_10 i41 rfl in_X12 q887 rfl rfl rfl fn_41_0 (Nat.le_trans (Nat.le_of_ble_eq_true rfl) hn) rfl ?_
  refine y_getF 101 9 (c := 3) (z := 16) dX12_readTree_13 i6 rfl in_X4 q673 rfl rfl rfl fn_6_9 (Nat.le_trans (Nat.le_of_ble_eq_true rfl) hn) rfl ?_
  refine x_iload_n 1 dX12_readTree_16 rfl rfl rfl ?_
  obtain ⟨e1, h⟩ := h
  refine y_iald (z := w 16 a1) dX12_readTree_17 ⟨4096, i16, e1⟩ rfl rfl ?_
  refine x_istore 6 (ls' := [(2, 41), (0, a1), (0, a2), (0, a3), (0, w 41 10), (0, 1), (0, w 16 a1), (9, 0), (9, 0), (9, 0)]) dX12_readTree_18 rfl rfl rfl ?_
  exact x_fg (fgk (fgd (fgk (fgk (fgk (fgk (fgk (fgk (fgk (fgk (fg0))))))))))) h
theorem sX12_readTree_20 {d n : Nat} {w : bW} {Q : Int → bW → Prop} {X : String → bW → Prop} (hn : 143 ≤ n) (a2 : Int) (a3 : Int) (a4 : Int) (a5 : Int) (a6 : Int) (h : if a6 < 0 then (if a5 = 0 then (Q 0 (b_up w 41 10 a4)) else (if 0 ≤ a3 then (b_K d mX10_build [(2, 38), (2, 45), (0, a4), (0, w 41 10), (0, 4200)] n w (fun r1 w2 => Q r1 (b_up w2 41 10 a4)) X) else (b_K d mX10_build [(2, 38), (2, 45), (0, a4), (0, w 41 10), (0, 0)] n w (fun r3 w4 => Q r3 (b_up w4 41 10 a4)) X))) else (if a5 = 0 then (if a5 = 0 then (Q 0 (b_up w 41 10 a4)) else (if 0 ≤ a3 then (b_K d mX10_build [(2, 38), (2, 45), (0, a4), (0, w 41 10), (0, 4200)] n w (fun r5 w6 => Q r5 (b_up w6 41 10 a4)) X) else (b_K d mX10_build [(2, 38), (2, 45), (0, a4), (0, w 41 10), (0, 0)] n w (fun r7 w8 => Q r7 (b_up w8 41 10 a4)) X))) else (if a3 < 0 then (LX12_readTree_54 d n Q X a2 a3 a4 a6 1 w) else (b_K d mX4_isBare [(2, 6), (0, a6), (0, 27), (0, 2)] n w (fun r9 w10 => if r9 = 0 then (LX12_readTree_54 d n Q X a2 a3 a4 a6 0 w10) else (LX12_readTree_54 d n Q X a2 a3 a4 a6 1 w10)) X)))) : LX12_readTree_20 d n Q X a2 a3 a4 a5 a6 w := by
  have i6 := iz6 (Nat.le_trans (Nat.le_of_ble_eq_true rfl) hn)
  have i38 := iz38 (Nat.le_trans (Nat.le_of_ble_eq_true rfl) hn)
  have i41 := iz41 (Nat.le_trans (Nat.le_of_ble_eq_true rfl) hn)
  refine x_iload 6 dX12_readTree_20 rfl rfl ?_
  refine x_if_lt (t := 234) 212 dX12_readTree_22 rfl rfl (b_ite h (fun hc h => ?_) (fun hc h => ?_))
  · refine x_iload 5 dX12_readTree_234 rfl rfl ?_
    refine x_if_eq (t := 270) 34 dX12_readTree_236 rfl rfl (b_ite h (fun hc h => ?_) (fun hc h => ?_))
    · refine x_iconst 0 (z := 0) dX12_readTree_270 rfl (by decide) rfl ?_
      refine x_istore 6 (ls' := [(2, 41), (9, 0), (0, a2), (0, a3), (0, a4), (0, a5), (0, 0), (9, 0), (9, 0), (9, 0)]) dX12_readTree_271 rfl rfl rfl ?_
      refine x_aload_n 0 dX12_readTree_273 rfl rfl rfl rfl rfl ?_
      refine x_iload 4 dX12_readTree_274 rfl rfl ?_
      refine x_put 185 10 (c := 11) dX12_readTree_276 i41 rfl in_X12 tyX12_ok nmX12 q897 rfl rfl rfl (Or.inl rfl) (Or.inl ⟨rfl, rfl⟩) rfl ?_
      refine x_iload 6 dX12_readTree_279 rfl rfl ?_
      exact y_iret dX12_readTree_281 rfl h
    · refine x_aload_n 0 dX12_readTree_239 rfl rfl rfl rfl rfl ?_
      refine y_getF 44 4 (c := 11) (z := 38) dX12_readTree_240 i41 rfl in_X12 q891 rfl rfl rfl fn_41_4 (Nat.le_trans (Nat.le_of_ble_eq_true rfl) hn) rfl ?_
      refine x_aload_n 0 dX12_readTree_243 rfl rfl rfl rfl rfl ?_
      refine y_getF 24 9 (c := 11) (z := 45) dX12_readTree_244 i41 rfl in_X12 q896 rfl rfl rfl fn_41_9 (Nat.le_trans (Nat.le_of_ble_eq_true rfl) hn) rfl ?_
      refine x_iload 4 dX12_readTree_247 rfl rfl ?_
      refine x_aload_n 0 dX12_readTree_249 rfl rfl rfl rfl rfl ?_
      refine y_get 185 10 (c := 11) (z := w 41 10) dX12_readTree_250 i41 rfl in_X12 q897 rfl rfl rfl rfl rfl ?_
      refine x_iload_n 3 dX12_readTree_253 rfl rfl rfl ?_
      refine x_if_ge (t := 261) 7 dX12_readTree_254 rfl rfl (b_ite h (fun hc h => ?_) (fun hc h => ?_))
      · refine x_sipush 4200 (z := 4200) dX12_readTree_261 rfl (by decide) rfl ?_
        refine y_Vi 199 (M := mX10_build) (As := [(2, 45), (0, a4), (0, w 41 10), (0, 4200)]) (st := []) dX12_readTree_264 i38 rfl q2121 q2122 q2123 q377 q2124 rfl hmX10_build rfl rfl rfl rfl rfl rfl rfl rfl (k_mono h (fun r1 w2 h => ?_))
        refine x_goto 4 (q := 271) dX12_readTree_267 rfl ?_
        refine x_istore 6 (ls' := [(2, 41), (9, 0), (0, a2), (0, a3), (0, a4), (0, a5), (0, r1), (9, 0), (9, 0), (9, 0)]) dX12_readTree_271 rfl rfl rfl ?_
        refine x_aload_n 0 dX12_readTree_273 rfl rfl rfl rfl rfl ?_
        refine x_iload 4 dX12_readTree_274 rfl rfl ?_
        refine x_put 185 10 (c := 11) dX12_readTree_276 i41 rfl in_X12 tyX12_ok nmX12 q897 rfl rfl rfl (Or.inl rfl) (Or.inl ⟨rfl, rfl⟩) rfl ?_
        refine x_iload 6 dX12_readTree_279 rfl rfl ?_
        exact y_iret dX12_readTree_281 rfl h
      · refine x_iconst 0 (z := 0) dX12_readTree_257 rfl (by decide) rfl ?_
        refine x_goto 6 (q := 264) dX12_readTree_258 rfl ?_
        refine y_Vi 199 (M := mX10_build) (As := [(2, 45), (0, a4), (0, w 41 10), (0, 0)]) (st := []) dX12_readTree_264 i38 rfl q2121 q2122 q2123 q377 q2124 rfl hmX10_build rfl rfl rfl rfl rfl rfl rfl rfl (k_mono h (fun r3 w4 h => ?_))
        refine x_goto 4 (q := 271) dX12_readTree_267 rfl ?_
        refine x_istore 6 (ls' := [(2, 41), (9, 0), (0, a2), (0, a3), (0, a4), (0, a5), (0, r3), (9, 0), (9, 0), (9, 0)]) dX12_readTree_271 rfl rfl rfl ?_
        refine x_aload_n 0 dX12_readTree_273 rfl rfl rfl rfl rfl ?_
        refine x_iload 4 dX12_readTree_274 rfl rfl ?_
        refine x_put 185 10 (c := 11) dX12_readTree_276 i41 rfl in_X12 tyX12_ok nmX12 q897 rfl rfl rfl (Or.inl rfl) (Or.inl ⟨rfl, rfl⟩) rfl ?_
        refine x_iload 6 dX12_readTree_279 rfl rfl ?_
        exact y_iret dX12_readTree_281 rfl h
  · refine x_iload 5 dX12_readTree_25 rfl rfl ?_
    refine x_if_eq (t := 234) 207 dX12_readTree_27 rfl rfl (b_ite h (fun hc h => ?_) (fun hc h => ?_))
    · refine x_iload 5 dX12_readTree_234 rfl rfl ?_
      refine x_if_eq (t := 270) 34 dX12_readTree_236 rfl rfl (b_ite h (fun hc h => ?_) (fun hc h => ?_))
      · refine x_iconst 0 (z := 0) dX12_readTree_270 rfl (by decide) rfl ?_
        refine x_istore 6 (ls' := [(2, 41), (9, 0), (0, a2), (0, a3), (0, a4), (0, a5), (0, 0), (9, 0), (9, 0), (9, 0)]) dX12_readTree_271 rfl rfl rfl ?_
        refine x_aload_n 0 dX12_readTree_273 rfl rfl rfl rfl rfl ?_
        refine x_iload 4 dX12_readTree_274 rfl rfl ?_
        refine x_put 185 10 (c := 11) dX12_readTree_276 i41 rfl in_X12 tyX12_ok nmX12 q897 rfl rfl rfl (Or.inl rfl) (Or.inl ⟨rfl, rfl⟩) rfl ?_
        refine x_iload 6 dX12_readTree_279 rfl rfl ?_
        exact y_iret dX12_readTree_281 rfl h
      · refine x_aload_n 0 dX12_readTree_239 rfl rfl rfl rfl rfl ?_
        refine y_getF 44 4 (c := 11) (z := 38) dX12_readTree_240 i41 rfl in_X12 q891 rfl rfl rfl fn_41_4 (Nat.le_trans (Nat.le_of_ble_eq_true rfl) hn) rfl ?_
        refine x_aload_n 0 dX12_readTree_243 rfl rfl rfl rfl rfl ?_
        refine y_getF 24 9 (c := 11) (z := 45) dX12_readTree_244 i41 rfl in_X12 q896 rfl rfl rfl fn_41_9 (Nat.le_trans (Nat.le_of_ble_eq_true rfl) hn) rfl ?_
        refine x_iload 4 dX12_readTree_247 rfl rfl ?_
        refine x_aload_n 0 dX12_readTree_249 rfl rfl rfl rfl rfl ?_
        refine y_get 185 10 (c := 11) (z := w 41 10) dX12_readTree_250 i41 rfl in_X12 q897 rfl rfl rfl rfl rfl ?_
        refine x_iload_n 3 dX12_readTree_253 rfl rfl rfl ?_
        refine x_if_ge (t := 261) 7 dX12_readTree_254 rfl rfl (b_ite h (fun hc h => ?_) (fun hc h => ?_))
        · refine x_sipush 4200 (z := 4200) dX12_readTree_261 rfl (by decide) rfl ?_
          refine y_Vi 199 (M := mX10_build) (As := [(2, 45), (0, a4), (0, w 41 10), (0, 4200)]) (st := []) dX12_readTree_264 i38 rfl q2121 q2122 q2123 q377 q2124 rfl hmX10_build rfl rfl rfl rfl rfl rfl rfl rfl (k_mono h (fun r5 w6 h => ?_))
          refine x_goto 4 (q := 271) dX12_readTree_267 rfl ?_
          refine x_istore 6 (ls' := [(2, 41), (9, 0), (0, a2), (0, a3), (0, a4), (0, a5), (0, r5), (9, 0), (9, 0), (9, 0)]) dX12_readTree_271 rfl rfl rfl ?_
          refine x_aload_n 0 dX12_readTree_273 rfl rfl rfl rfl rfl ?_
          refine x_iload 4 dX12_readTree_274 rfl rfl ?_
          refine x_put 185 10 (c := 11) dX12_readTree_276 i41 rfl in_X12 tyX12_ok nmX12 q897 rfl rfl rfl (Or.inl rfl) (Or.inl ⟨rfl, rfl⟩) rfl ?_
          refine x_iload 6 dX12_readTree_279 rfl rfl ?_
          exact y_iret dX12_readTree_281 rfl h
        · refine x_iconst 0 (z := 0) dX12_readTree_257 rfl (by decide) rfl ?_
          refine x_goto 6 (q := 264) dX12_readTree_258 rfl ?_
          refine y_Vi 199 (M := mX10_build) (As := [(2, 45), (0, a4), (0, w 41 10), (0, 0)]) (st := []) dX12_readTree_264 i38 rfl q2121 q2122 q2123 q377 q2124 rfl hmX10_build rfl rfl rfl rfl rfl rfl rfl rfl (k_mono h (fun r7 w8 h => ?_))
          refine x_goto 4 (q := 271) dX12_readTree_267 rfl ?_
          refine x_istore 6 (ls' := [(2, 41), (9, 0), (0, a2), (0, a3), (0, a4), (0, a5), (0, r7), (9, 0), (9, 0), (9, 0)]) dX12_readTree_271 rfl rfl rfl ?_
          refine x_aload_n 0 dX12_readTree_273 rfl rfl rfl rfl rfl ?_
          refine x_iload 4 dX12_readTree_274 rfl rfl ?_
          refine x_put 185 10 (c := 11) dX12_readTree_276 i41 rfl in_X12 tyX12_ok nmX12 q897 rfl rfl rfl (Or.inl rfl) (Or.inl ⟨rfl, rfl⟩) rfl ?_
          refine x_iload 6 dX12_readTree_279 rfl rfl ?_
          exact y_iret dX12_readTree_281 rfl h
    · refine x_iload_n 3 dX12_readTree_30 rfl rfl rfl ?_
      refine x_if_lt (t := 49) 18 dX12_readTree_31 rfl rfl (b_ite h (fun hc h => ?_) (fun hc h => ?_))
      · refine x_iconst 1 (z := 1) dX12_readTree_49 rfl (by decide) rfl ?_
        refine x_goto 4 (q := 54) dX12_readTree_50 rfl ?_
        exact x_fg (fgk (fgk (fgk (fgk (fgk (fgd (fgk (fgk (fgk (fgk (fg0))))))))))) h
      · refine x_aload_n 0 dX12_readTree_34 rfl rfl rfl rfl rfl ?_
        refine y_getF 28 0 (c := 11) (z := 6) dX12_readTree_35 i41 rfl in_X12 q887 rfl rfl rfl fn_41_0 (Nat.le_trans (Nat.le_of_ble_eq_true rfl) hn) rfl ?_
        refine x_iload 6 dX12_readTree_38 rfl rfl ?_
        refine x_bipush 27 (z := 27) dX12_readTree_40 rfl (by decide) rfl ?_
        refine x_iconst 2 (z := 2) dX12_readTree_42 rfl (by decide) rfl ?_
        refine y_Vi 191 (M := mX4_isBare) (As := [(0, a6), (0, 27), (0, 2)]) (st := []) dX12_readTree_43 i6 rfl q2074 q1838 q1839 q371 q1840 rfl hmX4_isBare rfl rfl rfl rfl rfl rfl rfl rfl (k_mono h (fun r9 w10 h => ?_))
        refine x_if_eq (t := 53) 7 dX12_readTree_46 rfl rfl (b_ite h (fun hc h => ?_) (fun hc h => ?_))
        · refine x_iconst 0 (z := 0) dX12_readTree_53 rfl (by decide) rfl ?_
          exact x_fg (fgk (fgk (fgk (fgk (fgk (fgd (fgk (fgk (fgk (fgk (fg0))))))))))) h
        · refine x_iconst 1 (z := 1) dX12_readTree_49 rfl (by decide) rfl ?_
          refine x_goto 4 (q := 54) dX12_readTree_50 rfl ?_
          exact x_fg (fgk (fgk (fgk (fgk (fgk (fgd (fgk (fgk (fgk (fgk (fg0))))))))))) h
theorem sX12_readTree_54 {d n : Nat} {w : bW} {Q : Int → bW → Prop} {X : String → bW → Prop} (hn : 143 ≤ n) (a2 : Int) (a3 : Int) (a4 : Int) (a6 : Int) (s0 : Int) (h : if s0 ≠ 0 then (if 0 ≤ a3 then ((0 ≤ a6 ∧ a6 < 4096) ∧ (b_K d mX12_read [(2, 41), (0, w 16 a6), (0, a2)] n w (fun r2 w3 => if r2 = 0 then (LX12_readTree_127 d n Q X a2 a3 a4 a6 r2 0 w3) else (if 0 ≤ a3 then ((0 ≤ w3 16 a6 ∧ w3 16 a6 < 4096) ∧ (b_K d mX12_read [(2, 41), (0, w3 17 (w3 16 a6)), (0, a3)] n w3 (fun r5 w6 => LX12_readTree_127 d n Q X a2 a3 a4 a6 r2 r5 w6) X)) else (LX12_readTree_127 d n Q X a2 a3 a4 a6 r2 0 w3))) X)) else (b_K d mX12_read [(2, 41), (0, a6), (0, a2)] n w (fun r7 w8 => if r7 = 0 then (LX12_readTree_127 d n Q X a2 a3 a4 a6 r7 0 w8) else (if 0 ≤ a3 then ((0 ≤ a6 ∧ a6 < 4096) ∧ ((0 ≤ w8 16 a6 ∧ w8 16 a6 < 4096) ∧ (b_K d mX12_read [(2, 41), (0, w8 17 (w8 16 a6)), (0, a3)] n w8 (fun r11 w12 => LX12_readTree_127 d n Q X a2 a3 a4 a6 r7 r11 w12) X))) else (LX12_readTree_127 d n Q X a2 a3 a4 a6 r7 0 w8))) X)) else (LX12_readTree_127 d n Q X a2 a3 a4 a6 0 0 w)) : LX12_readTree_54 d n Q X a2 a3 a4 a6 s0 w := by
  have i6 := iz6 (Nat.le_trans (Nat.le_of_ble_eq_true rfl) hn)
  have i16 := iz16 (Nat.le_trans (Nat.le_of_ble_eq_true rfl) hn)
  have i17 := iz17 (Nat.le_trans (Nat.le_of_ble_eq_true rfl) hn)
  have i41 := iz41 (Nat.le_trans (Nat.le_of_ble_eq_true rfl) hn)
  refine x_istore 7 (ls' := [(2, 41), (9, 0), (0, a2), (0, a3), (0, a4), (9, 0), (0, a6), (0, s0), (9, 0), (9, 0)]) dX12_readTree_54 rfl rfl rfl ?_
  refine x_iload 7 dX12_readTree_56 rfl rfl ?_
  refine x_if_ne (t := 65) 7 dX12_readTree_58 rfl rfl (b_ite h (fun hc h => ?_) (fun hc h => ?_))
  · refine x_aload_n 0 dX12_readTree_65 rfl rfl rfl rfl rfl ?_
    refine x_iload_n 3 dX12_readTree_66 rfl rfl rfl ?_
    refine x_if_ge (t := 75) 8 dX12_readTree_67 rfl rfl (b_ite h (fun hc h => ?_) (fun hc h => ?_))
    · refine x_aload_n 0 dX12_readTree_75 rfl rfl rfl rfl rfl ?_
      refine y_getF 28 0 (c := 11) (z := 6) dX12_readTree_76 i41 rfl in_X12 q887 rfl rfl rfl fn_41_0 (Nat.le_trans (Nat.le_of_ble_eq_true rfl) hn) rfl ?_
      refine y_getF 101 9 (c := 3) (z := 16) dX12_readTree_79 i6 rfl in_X4 q673 rfl rfl rfl fn_6_9 (Nat.le_trans (Nat.le_of_ble_eq_true rfl) hn) rfl ?_
      refine x_iload 6 dX12_readTree_82 rfl rfl ?_
      obtain ⟨e1, h⟩ := h
      refine y_iald (z := w 16 a6) dX12_readTree_84 ⟨4096, i16, e1⟩ rfl rfl ?_
      refine x_iload_n 2 dX12_readTree_85 rfl rfl rfl ?_
      refine y_Vi 118 (M := mX12_read) (As := [(0, w 16 a6), (0, a2)]) (st := []) dX12_readTree_86 i41 rfl q2022 q1937 q1938 q379 q1939 rfl hmX12_read rfl rfl rfl rfl rfl rfl rfl rfl (k_mono h (fun r2 w3 h => ?_))
      refine x_istore 8 (ls' := [(2, 41), (9, 0), (0, a2), (0, a3), (0, a4), (9, 0), (0, a6), (0, s0), (0, r2), (9, 0)]) dX12_readTree_89 rfl rfl rfl ?_
      refine x_iload 8 dX12_readTree_91 rfl rfl ?_
      refine x_if_eq (t := 100) 7 dX12_readTree_93 rfl rfl (b_ite h (fun hc h => ?_) (fun hc h => ?_))
      · refine x_iconst 0 (z := 0) dX12_readTree_100 rfl (by decide) rfl ?_
        refine x_goto 26 (q := 127) dX12_readTree_101 rfl ?_
        exact x_fg (fgk (fgk (fgk (fgk (fgk (fgk (fgk (fgd (fgk (fgk (fg0))))))))))) h
      · refine x_iload_n 3 dX12_readTree_96 rfl rfl rfl ?_
        refine x_if_ge (t := 104) 7 dX12_readTree_97 rfl rfl (b_ite h (fun hc h => ?_) (fun hc h => ?_))
        · refine x_aload_n 0 dX12_readTree_104 rfl rfl rfl rfl rfl ?_
          refine x_aload_n 0 dX12_readTree_105 rfl rfl rfl rfl rfl ?_
          refine y_getF 28 0 (c := 11) (z := 6) dX12_readTree_106 i41 rfl in_X12 q887 rfl rfl rfl fn_41_0 (Nat.le_trans (Nat.le_of_ble_eq_true rfl) hn) rfl ?_
          refine y_getF 124 10 (c := 3) (z := 17) dX12_readTree_109 i6 rfl in_X4 q677 rfl rfl rfl fn_6_10 (Nat.le_trans (Nat.le_of_ble_eq_true rfl) hn) rfl ?_
          refine x_aload_n 0 dX12_readTree_112 rfl rfl rfl rfl rfl ?_
          refine y_getF 28 0 (c := 11) (z := 6) dX12_readTree_113 i41 rfl in_X12 q887 rfl rfl rfl fn_41_0 (Nat.le_trans (Nat.le_of_ble_eq_true rfl) hn) rfl ?_
          refine y_getF 101 9 (c := 3) (z := 16) dX12_readTree_116 i6 rfl in_X4 q673 rfl rfl rfl fn_6_9 (Nat.le_trans (Nat.le_of_ble_eq_true rfl) hn) rfl ?_
          refine x_iload 6 dX12_readTree_119 rfl rfl ?_
          refine y_iald (z := w3 16 a6) dX12_readTree_121 ⟨4096, i16, e1⟩ rfl rfl ?_
          obtain ⟨e4, h⟩ := h
          refine y_iald (z := w3 17 (w3 16 a6)) dX12_readTree_122 ⟨4096, i17, e4⟩ rfl rfl ?_
          refine x_iload_n 3 dX12_readTree_123 rfl rfl rfl ?_
          refine y_Vi 118 (M := mX12_read) (As := [(0, w3 17 (w3 16 a6)), (0, a3)]) (st := []) dX12_readTree_124 i41 rfl q2022 q1937 q1938 q379 q1939 rfl hmX12_read rfl rfl rfl rfl rfl rfl rfl rfl (k_mono h (fun r5 w6 h => ?_))
          exact x_fg (fgk (fgk (fgk (fgk (fgk (fgk (fgk (fgd (fgk (fgk (fg0))))))))))) h
        · refine x_iconst 0 (z := 0) dX12_readTree_100 rfl (by decide) rfl ?_
          refine x_goto 26 (q := 127) dX12_readTree_101 rfl ?_
          exact x_fg (fgk (fgk (fgk (fgk (fgk (fgk (fgk (fgd (fgk (fgk (fg0))))))))))) h
    · refine x_iload 6 dX12_readTree_70 rfl rfl ?_
      refine x_goto 13 (q := 85) dX12_readTree_72 rfl ?_
      refine x_iload_n 2 dX12_readTree_85 rfl rfl rfl ?_
      refine y_Vi 118 (M := mX12_read) (As := [(0, a6), (0, a2)]) (st := []) dX12_readTree_86 i41 rfl q2022 q1937 q1938 q379 q1939 rfl hmX12_read rfl rfl rfl rfl rfl rfl rfl rfl (k_mono h (fun r7 w8 h => ?_))
      refine x_istore 8 (ls' := [(2, 41), (9, 0), (0, a2), (0, a3), (0, a4), (9, 0), (0, a6), (0, s0), (0, r7), (9, 0)]) dX12_readTree_89 rfl rfl rfl ?_
      refine x_iload 8 dX12_readTree_91 rfl rfl ?_
      refine x_if_eq (t := 100) 7 dX12_readTree_93 rfl rfl (b_ite h (fun hc h => ?_) (fun hc h => ?_))
      · refine x_iconst 0 (z := 0) dX12_readTree_100 rfl (by decide) rfl ?_
        refine x_goto 26 (q := 127) dX12_readTree_101 rfl ?_
        exact x_fg (fgk (fgk (fgk (fgk (fgk (fgk (fgk (fgd (fgk (fgk (fg0))))))))))) h
      · refine x_iload_n 3 dX12_readTree_96 rfl rfl rfl ?_
        refine x_if_ge (t := 104) 7 dX12_readTree_97 rfl rfl (b_ite h (fun hc h => ?_) (fun hc h => ?_))
        · refine x_aload_n 0 dX12_readTree_104 rfl rfl rfl rfl rfl ?_
          refine x_aload_n 0 dX12_readTree_105 rfl rfl rfl rfl rfl ?_
          refine y_getF 28 0 (c := 11) (z := 6) dX12_readTree_106 i41 rfl in_X12 q887 rfl rfl rfl fn_41_0 (Nat.le_trans (Nat.le_of_ble_eq_true rfl) hn) rfl ?_
          refine y_getF 124 10 (c := 3) (z := 17) dX12_readTree_109 i6 rfl in_X4 q677 rfl rfl rfl fn_6_10 (Nat.le_trans (Nat.le_of_ble_eq_true rfl) hn) rfl ?_
          refine x_aload_n 0 dX12_readTree_112 rfl rfl rfl rfl rfl ?_
          refine y_getF 28 0 (c := 11) (z := 6) dX12_readTree_113 i41 rfl in_X12 q887 rfl rfl rfl fn_41_0 (Nat.le_trans (Nat.le_of_ble_eq_true rfl) hn) rfl ?_
          refine y_getF 101 9 (c := 3) (z := 16) dX12_readTree_116 i6 rfl in_X4 q673 rfl rfl rfl fn_6_9 (Nat.le_trans (Nat.le_of_ble_eq_true rfl) hn) rfl ?_
          refine x_iload 6 dX12_readTree_119 rfl rfl ?_
          obtain ⟨e9, h⟩ := h
          refine y_iald (z := w8 16 a6) dX12_readTree_121 ⟨4096, i16, e9⟩ rfl rfl ?_
          obtain ⟨e10, h⟩ := h
          refine y_iald (z := w8 17 (w8 16 a6)) dX12_readTree_122 ⟨4096, i17, e10⟩ rfl rfl ?_
          refine x_iload_n 3 dX12_readTree_123 rfl rfl rfl ?_
          refine y_Vi 118 (M := mX12_read) (As := [(0, w8 17 (w8 16 a6)), (0, a3)]) (st := []) dX12_readTree_124 i41 rfl q2022 q1937 q1938 q379 q1939 rfl hmX12_read rfl rfl rfl rfl rfl rfl rfl rfl (k_mono h (fun r11 w12 h => ?_))
          exact x_fg (fgk (fgk (fgk (fgk (fgk (fgk (fgk (fgd (fgk (fgk (fg0))))))))))) h
        · refine x_iconst 0 (z := 0) dX12_readTree_100 rfl (by decide) rfl ?_
          refine x_goto 26 (q := 127) dX12_readTree_101 rfl ?_
          exact x_fg (fgk (fgk (fgk (fgk (fgk (fgk (fgk (fgd (fgk (fgk (fg0))))))))))) h
  · refine x_iconst 0 (z := 0) dX12_readTree_61 rfl (by decide) rfl ?_
    refine x_goto 27 (q := 89) dX12_readTree_62 rfl ?_
    refine x_istore 8 (ls' := [(2, 41), (9, 0), (0, a2), (0, a3), (0, a4), (9, 0), (0, a6), (0, s0), (0, 0), (9, 0)]) dX12_readTree_89 rfl rfl rfl ?_
    refine x_iload 8 dX12_readTree_91 rfl rfl ?_
    refine x_if_eq (t := 100) 7 dX12_readTree_93 rfl rfl (b_ifT (by decide) ?_)
    refine x_iconst 0 (z := 0) dX12_readTree_100 rfl (by decide) rfl ?_
    refine x_goto 26 (q := 127) dX12_readTree_101 rfl ?_
    exact x_fg (fgk (fgk (fgk (fgk (fgk (fgk (fgk (fgd (fgk (fgk (fg0))))))))))) h
theorem sX12_readTree_127 {d n : Nat} {w : bW} {Q : Int → bW → Prop} {X : String → bW → Prop} (hn : 143 ≤ n) (a2 : Int) (a3 : Int) (a4 : Int) (a6 : Int) (a8 : Int) (s0 : Int) (h : if a8 = 0 then ((0 ≤ w 41 10 ∧ w 41 10 < 8400) ∧ ((0 ≤ b_i ((w 41 10) + 4200) ∧ b_i ((w 41 10) + 4200) < 8400) ∧ ((0 ≤ a6 ∧ a6 < 4096) ∧ (LX12_readTree_20 d n Q X a2 a3 a4 0 (w 17 a6) (b_up (b_up (b_up w 45 (w 41 10) a8) 45 (b_i ((w 41 10) + 4200)) s0) 41 10 (b_i ((w 41 10) + 1))))))) else (if a3 < 0 then (LX12_readTree_143 d n Q X a2 a3 a4 a6 a8 s0 w) else (if s0 = 0 then ((0 ≤ w 41 10 ∧ w 41 10 < 8400) ∧ ((0 ≤ b_i ((w 41 10) + 4200) ∧ b_i ((w 41 10) + 4200) < 8400) ∧ ((0 ≤ a6 ∧ a6 < 4096) ∧ (LX12_readTree_20 d n Q X a2 a3 a4 0 (w 17 a6) (b_up (b_up (b_up w 45 (w 41 10) a8) 45 (b_i ((w 41 10) + 4200)) s0) 41 10 (b_i ((w 41 10) + 1))))))) else (LX12_readTree_143 d n Q X a2 a3 a4 a6 a8 s0 w)))) : LX12_readTree_127 d n Q X a2 a3 a4 a6 a8 s0 w := by
  have i6 := iz6 (Nat.le_trans (Nat.le_of_ble_eq_true rfl) hn)
  have i17 := iz17 (Nat.le_trans (Nat.le_of_ble_eq_true rfl) hn)
  have i41 := iz41 (Nat.le_trans (Nat.le_of_ble_eq_true rfl) hn)
  have i45 := iz45 (Nat.le_trans (Nat.le_of_ble_eq_true rfl) hn)
  refine x_istore 9 (ls' := [(2, 41), (9, 0), (0, a2), (0, a3), (0, a4), (9, 0), (0, a6), (9, 0), (0, a8), (0, s0)]) dX12_readTree_127 rfl rfl rfl ?_
  refine x_iload 8 dX12_readTree_129 rfl rfl ?_
  refine x_if_eq (t := 180) 49 dX12_readTree_131 rfl rfl (b_ite h (fun hc h => ?_) (fun hc h => ?_))
  · refine x_iconst 0 (z := 0) dX12_readTree_180 rfl (by decide) rfl ?_
    refine x_istore 5 (ls' := [(2, 41), (9, 0), (0, a2), (0, a3), (0, a4), (0, 0), (0, a6), (9, 0), (0, a8), (0, s0)]) dX12_readTree_181 rfl rfl rfl ?_
    refine x_aload_n 0 dX12_readTree_183 rfl rfl rfl rfl rfl ?_
    refine y_getF 24 9 (c := 11) (z := 45) dX12_readTree_184 i41 rfl in_X12 q896 rfl rfl rfl fn_41_9 (Nat.le_trans (Nat.le_of_ble_eq_true rfl) hn) rfl ?_
    refine x_aload_n 0 dX12_readTree_187 rfl rfl rfl rfl rfl ?_
    refine y_get 185 10 (c := 11) (z := w 41 10) dX12_readTree_188 i41 rfl in_X12 q897 rfl rfl rfl rfl rfl ?_
    refine x_iload 8 dX12_readTree_191 rfl rfl ?_
    obtain ⟨e1, h⟩ := h
    refine y_iast (x' := a8) dX12_readTree_193 ⟨8400, i45, e1⟩ rfl rfl ?_
    refine x_aload_n 0 dX12_readTree_194 rfl rfl rfl rfl rfl ?_
    refine y_getF 24 9 (c := 11) (z := 45) dX12_readTree_195 i41 rfl in_X12 q896 rfl rfl rfl fn_41_9 (Nat.le_trans (Nat.le_of_ble_eq_true rfl) hn) rfl ?_
    refine x_aload_n 0 dX12_readTree_198 rfl rfl rfl rfl rfl ?_
    refine y_get 185 10 (c := 11) (z := w 41 10) dX12_readTree_199 i41 rfl in_X12 q897 rfl rfl rfl rfl rfl ?_
    refine x_sipush 4200 (z := 4200) dX12_readTree_202 rfl (by decide) rfl ?_
    refine x_iadd dX12_readTree_205 rfl ?_
    refine x_iload 9 dX12_readTree_206 rfl rfl ?_
    obtain ⟨e2, h⟩ := h
    refine y_iast (x' := s0) dX12_readTree_208 ⟨8400, i45, e2⟩ rfl rfl ?_
    refine x_aload_n 0 dX12_readTree_209 rfl rfl rfl rfl rfl ?_
    refine x_dup dX12_readTree_210 rfl rfl ?_
    refine y_get 185 10 (c := 11) (z := w 41 10) dX12_readTree_211 i41 rfl in_X12 q897 rfl rfl rfl rfl rfl ?_
    refine x_iconst 1 (z := 1) dX12_readTree_214 rfl (by decide) rfl ?_
    refine x_iadd dX12_readTree_215 rfl ?_
    refine x_put 185 10 (c := 11) dX12_readTree_216 i41 rfl in_X12 tyX12_ok nmX12 q897 rfl rfl rfl (Or.inl rfl) (Or.inl ⟨rfl, rfl⟩) rfl ?_
    refine x_aload_n 0 dX12_readTree_219 rfl rfl rfl rfl rfl ?_
    refine y_getF 28 0 (c := 11) (z := 6) dX12_readTree_220 i41 rfl in_X12 q887 rfl rfl rfl fn_41_0 (Nat.le_trans (Nat.le_of_ble_eq_true rfl) hn) rfl ?_
    refine y_getF 124 10 (c := 3) (z := 17) dX12_readTree_223 i6 rfl in_X4 q677 rfl rfl rfl fn_6_10 (Nat.le_trans (Nat.le_of_ble_eq_true rfl) hn) rfl ?_
    refine x_iload 6 dX12_readTree_226 rfl rfl ?_
    obtain ⟨e3, h⟩ := h
    refine y_iald (z := w 17 a6) dX12_readTree_228 ⟨4096, i17, e3⟩ rfl rfl ?_
    refine x_istore 6 (ls' := [(2, 41), (9, 0), (0, a2), (0, a3), (0, a4), (0, 0), (0, w 17 a6), (9, 0), (0, a8), (0, s0)]) dX12_readTree_229 rfl rfl rfl ?_
    refine x_goto (-211) (q := 20) dX12_readTree_231 rfl ?_
    exact x_fg (fgk (fgk (fgk (fgk (fgk (fgk (fgk (fgk (fgd (fgd (fg0))))))))))) h
  · refine x_iload_n 3 dX12_readTree_134 rfl rfl rfl ?_
    refine x_if_lt (t := 143) 8 dX12_readTree_135 rfl rfl (b_ite h (fun hc h => ?_) (fun hc h => ?_))
    · exact x_fg (fgk (fgk (fgk (fgk (fgk (fgk (fgk (fgk (fgk (fgk (fg0))))))))))) h
    · refine x_iload 9 dX12_readTree_138 rfl rfl ?_
      refine x_if_eq (t := 180) 40 dX12_readTree_140 rfl rfl (b_ite h (fun hc h => ?_) (fun hc h => ?_))
      · refine x_iconst 0 (z := 0) dX12_readTree_180 rfl (by decide) rfl ?_
        refine x_istore 5 (ls' := [(2, 41), (9, 0), (0, a2), (0, a3), (0, a4), (0, 0), (0, a6), (9, 0), (0, a8), (0, s0)]) dX12_readTree_181 rfl rfl rfl ?_
        refine x_aload_n 0 dX12_readTree_183 rfl rfl rfl rfl rfl ?_
        refine y_getF 24 9 (c := 11) (z := 45) dX12_readTree_184 i41 rfl in_X12 q896 rfl rfl rfl fn_41_9 (Nat.le_trans (Nat.le_of_ble_eq_true rfl) hn) rfl ?_
        refine x_aload_n 0 dX12_readTree_187 rfl rfl rfl rfl rfl ?_
        refine y_get 185 10 (c := 11) (z := w 41 10) dX12_readTree_188 i41 rfl in_X12 q897 rfl rfl rfl rfl rfl ?_
        refine x_iload 8 dX12_readTree_191 rfl rfl ?_
        obtain ⟨e4, h⟩ := h
        refine y_iast (x' := a8) dX12_readTree_193 ⟨8400, i45, e4⟩ rfl rfl ?_
        refine x_aload_n 0 dX12_readTree_194 rfl rfl rfl rfl rfl ?_
        refine y_getF 24 9 (c := 11) (z := 45) dX12_readTree_195 i41 rfl in_X12 q896 rfl rfl rfl fn_41_9 (Nat.le_trans (Nat.le_of_ble_eq_true rfl) hn) rfl ?_
        refine x_aload_n 0 dX12_readTree_198 rfl rfl rfl rfl rfl ?_
        refine y_get 185 10 (c := 11) (z := w 41 10) dX12_readTree_199 i41 rfl in_X12 q897 rfl rfl rfl rfl rfl ?_
        refine x_sipush 4200 (z := 4200) dX12_readTree_202 rfl (by decide) rfl ?_
        refine x_iadd dX12_readTree_205 rfl ?_
        refine x_iload 9 dX12_readTree_206 rfl rfl ?_
        obtain ⟨e5, h⟩ := h
        refine y_iast (x' := s0) dX12_readTree_208 ⟨8400, i45, e5⟩ rfl rfl ?_
        refine x_aload_n 0 dX12_readTree_209 rfl rfl rfl rfl rfl ?_
        refine x_dup dX12_readTree_210 rfl rfl ?_
        refine y_get 185 10 (c := 11) (z := w 41 10) dX12_readTree_211 i41 rfl in_X12 q897 rfl rfl rfl rfl rfl ?_
        refine x_iconst 1 (z := 1) dX12_readTree_214 rfl (by decide) rfl ?_
        refine x_iadd dX12_readTree_215 rfl ?_
        refine x_put 185 10 (c := 11) dX12_readTree_216 i41 rfl in_X12 tyX12_ok nmX12 q897 rfl rfl rfl (Or.inl rfl) (Or.inl ⟨rfl, rfl⟩) rfl ?_
        refine x_aload_n 0 dX12_readTree_219 rfl rfl rfl rfl rfl ?_
        refine y_getF 28 0 (c := 11) (z := 6) dX12_readTree_220 i41 rfl in_X12 q887 rfl rfl rfl fn_41_0 (Nat.le_trans (Nat.le_of_ble_eq_true rfl) hn) rfl ?_
        refine y_getF 124 10 (c := 3) (z := 17) dX12_readTree_223 i6 rfl in_X4 q677 rfl rfl rfl fn_6_10 (Nat.le_trans (Nat.le_of_ble_eq_true rfl) hn) rfl ?_
        refine x_iload 6 dX12_readTree_226 rfl rfl ?_
        obtain ⟨e6, h⟩ := h
        refine y_iald (z := w 17 a6) dX12_readTree_228 ⟨4096, i17, e6⟩ rfl rfl ?_
        refine x_istore 6 (ls' := [(2, 41), (9, 0), (0, a2), (0, a3), (0, a4), (0, 0), (0, w 17 a6), (9, 0), (0, a8), (0, s0)]) dX12_readTree_229 rfl rfl rfl ?_
        refine x_goto (-211) (q := 20) dX12_readTree_231 rfl ?_
        exact x_fg (fgk (fgk (fgk (fgk (fgk (fgk (fgk (fgk (fgd (fgd (fg0))))))))))) h
      · exact x_fg (fgk (fgk (fgk (fgk (fgk (fgk (fgk (fgk (fgk (fgk (fg0))))))))))) h
theorem sX12_readTree_143 {d n : Nat} {w : bW} {Q : Int → bW → Prop} {X : String → bW → Prop} (hn : 143 ≤ n) (a2 : Int) (a3 : Int) (a4 : Int) (a6 : Int) (a8 : Int) (a9 : Int) (h : if w 41 10 = a4 then ((0 ≤ w 41 10 ∧ w 41 10 < 8400) ∧ ((0 ≤ b_i ((w 41 10) + 4200) ∧ b_i ((w 41 10) + 4200) < 8400) ∧ ((0 ≤ a6 ∧ a6 < 4096) ∧ (LX12_readTree_20 d n Q X a2 a3 a4 1 (w 17 a6) (b_up (b_up (b_up w 45 (w 41 10) a8) 45 (b_i ((w 41 10) + 4200)) a9) 41 10 (b_i ((w 41 10) + 1))))))) else ((0 ≤ b_i ((w 41 10) - 1) ∧ b_i ((w 41 10) - 1) < 8400) ∧ (b_K d mX9_compare [(2, 33), (0, w 45 (b_i ((w 41 10) - 1))), (0, a8), (0, a2)] n w (fun r5 w6 => if 0 ≤ r5 then ((0 ≤ w6 41 10 ∧ w6 41 10 < 8400) ∧ ((0 ≤ b_i ((w6 41 10) + 4200) ∧ b_i ((w6 41 10) + 4200) < 8400) ∧ ((0 ≤ a6 ∧ a6 < 4096) ∧ (LX12_readTree_20 d n Q X a2 a3 a4 0 (w6 17 a6) (b_up (b_up (b_up w6 45 (w6 41 10) a8) 45 (b_i ((w6 41 10) + 4200)) a9) 41 10 (b_i ((w6 41 10) + 1))))))) else ((0 ≤ w6 41 10 ∧ w6 41 10 < 8400) ∧ ((0 ≤ b_i ((w6 41 10) + 4200) ∧ b_i ((w6 41 10) + 4200) < 8400) ∧ ((0 ≤ a6 ∧ a6 < 4096) ∧ (LX12_readTree_20 d n Q X a2 a3 a4 1 (w6 17 a6) (b_up (b_up (b_up w6 45 (w6 41 10) a8) 45 (b_i ((w6 41 10) + 4200)) a9) 41 10 (b_i ((w6 41 10) + 1)))))))) X))) : LX12_readTree_143 d n Q X a2 a3 a4 a6 a8 a9 w := by
  have i6 := iz6 (Nat.le_trans (Nat.le_of_ble_eq_true rfl) hn)
  have i17 := iz17 (Nat.le_trans (Nat.le_of_ble_eq_true rfl) hn)
  have i33 := iz33 (Nat.le_trans (Nat.le_of_ble_eq_true rfl) hn)
  have i41 := iz41 (Nat.le_trans (Nat.le_of_ble_eq_true rfl) hn)
  have i45 := iz45 (Nat.le_trans (Nat.le_of_ble_eq_true rfl) hn)
  refine x_aload_n 0 dX12_readTree_143 rfl rfl rfl rfl rfl ?_
  refine y_get 185 10 (c := 11) (z := w 41 10) dX12_readTree_144 i41 rfl in_X12 q897 rfl rfl rfl rfl rfl ?_
  refine x_iload 4 dX12_readTree_147 rfl rfl ?_
  refine x_icmp_eq (t := 176) 27 dX12_readTree_149 rfl rfl (b_ite h (fun hc h => ?_) (fun hc h => ?_))
  · refine x_iconst 1 (z := 1) dX12_readTree_176 rfl (by decide) rfl ?_
    refine x_goto 4 (q := 181) dX12_readTree_177 rfl ?_
    refine x_istore 5 (ls' := [(2, 41), (9, 0), (0, a2), (0, a3), (0, a4), (0, 1), (0, a6), (9, 0), (0, a8), (0, a9)]) dX12_readTree_181 rfl rfl rfl ?_
    refine x_aload_n 0 dX12_readTree_183 rfl rfl rfl rfl rfl ?_
    refine y_getF 24 9 (c := 11) (z := 45) dX12_readTree_184 i41 rfl in_X12 q896 rfl rfl rfl fn_41_9 (Nat.le_trans (Nat.le_of_ble_eq_true rfl) hn) rfl ?_
    refine x_aload_n 0 dX12_readTree_187 rfl rfl rfl rfl rfl ?_
    refine y_get 185 10 (c := 11) (z := w 41 10) dX12_readTree_188 i41 rfl in_X12 q897 rfl rfl rfl rfl rfl ?_
    refine x_iload 8 dX12_readTree_191 rfl rfl ?_
    obtain ⟨e1, h⟩ := h
    refine y_iast (x' := a8) dX12_readTree_193 ⟨8400, i45, e1⟩ rfl rfl ?_
    refine x_aload_n 0 dX12_readTree_194 rfl rfl rfl rfl rfl ?_
    refine y_getF 24 9 (c := 11) (z := 45) dX12_readTree_195 i41 rfl in_X12 q896 rfl rfl rfl fn_41_9 (Nat.le_trans (Nat.le_of_ble_eq_true rfl) hn) rfl ?_
    refine x_aload_n 0 dX12_readTree_198 rfl rfl rfl rfl rfl ?_
    refine y_get 185 10 (c := 11) (z := w 41 10) dX12_readTree_199 i41 rfl in_X12 q897 rfl rfl rfl rfl rfl ?_
    refine x_sipush 4200 (z := 4200) dX12_readTree_202 rfl (by decide) rfl ?_
    refine x_iadd dX12_readTree_205 rfl ?_
    refine x_iload 9 dX12_readTree_206 rfl rfl ?_
    obtain ⟨e2, h⟩ := h
    refine y_iast (x' := a9) dX12_readTree_208 ⟨8400, i45, e2⟩ rfl rfl ?_
    refine x_aload_n 0 dX12_readTree_209 rfl rfl rfl rfl rfl ?_
    refine x_dup dX12_readTree_210 rfl rfl ?_
    refine y_get 185 10 (c := 11) (z := w 41 10) dX12_readTree_211 i41 rfl in_X12 q897 rfl rfl rfl rfl rfl ?_
    refine x_iconst 1 (z := 1) dX12_readTree_214 rfl (by decide) rfl ?_
    refine x_iadd dX12_readTree_215 rfl ?_
    refine x_put 185 10 (c := 11) dX12_readTree_216 i41 rfl in_X12 tyX12_ok nmX12 q897 rfl rfl rfl (Or.inl rfl) (Or.inl ⟨rfl, rfl⟩) rfl ?_
    refine x_aload_n 0 dX12_readTree_219 rfl rfl rfl rfl rfl ?_
    refine y_getF 28 0 (c := 11) (z := 6) dX12_readTree_220 i41 rfl in_X12 q887 rfl rfl rfl fn_41_0 (Nat.le_trans (Nat.le_of_ble_eq_true rfl) hn) rfl ?_
    refine y_getF 124 10 (c := 3) (z := 17) dX12_readTree_223 i6 rfl in_X4 q677 rfl rfl rfl fn_6_10 (Nat.le_trans (Nat.le_of_ble_eq_true rfl) hn) rfl ?_
    refine x_iload 6 dX12_readTree_226 rfl rfl ?_
    obtain ⟨e3, h⟩ := h
    refine y_iald (z := w 17 a6) dX12_readTree_228 ⟨4096, i17, e3⟩ rfl rfl ?_
    refine x_istore 6 (ls' := [(2, 41), (9, 0), (0, a2), (0, a3), (0, a4), (0, 1), (0, w 17 a6), (9, 0), (0, a8), (0, a9)]) dX12_readTree_229 rfl rfl rfl ?_
    refine x_goto (-211) (q := 20) dX12_readTree_231 rfl ?_
    exact x_fg (fgk (fgk (fgk (fgk (fgk (fgk (fgk (fgk (fgd (fgd (fg0))))))))))) h
  · refine x_aload_n 0 dX12_readTree_152 rfl rfl rfl rfl rfl ?_
    refine y_getF 40 3 (c := 11) (z := 33) dX12_readTree_153 i41 rfl in_X12 q890 rfl rfl rfl fn_41_3 (Nat.le_trans (Nat.le_of_ble_eq_true rfl) hn) rfl ?_
    refine x_aload_n 0 dX12_readTree_156 rfl rfl rfl rfl rfl ?_
    refine y_getF 24 9 (c := 11) (z := 45) dX12_readTree_157 i41 rfl in_X12 q896 rfl rfl rfl fn_41_9 (Nat.le_trans (Nat.le_of_ble_eq_true rfl) hn) rfl ?_
    refine x_aload_n 0 dX12_readTree_160 rfl rfl rfl rfl rfl ?_
    refine y_get 185 10 (c := 11) (z := w 41 10) dX12_readTree_161 i41 rfl in_X12 q897 rfl rfl rfl rfl rfl ?_
    refine x_iconst 1 (z := 1) dX12_readTree_164 rfl (by decide) rfl ?_
    refine x_isub dX12_readTree_165 rfl ?_
    obtain ⟨e4, h⟩ := h
    refine y_iald (z := w 45 (b_i ((w 41 10) - 1))) dX12_readTree_166 ⟨8400, i45, e4⟩ rfl rfl ?_
    refine x_iload 8 dX12_readTree_167 rfl rfl ?_
    refine x_iload_n 2 dX12_readTree_169 rfl rfl rfl ?_
    refine y_Vi 194 (M := mX9_compare) (As := [(0, w 45 (b_i ((w 41 10) - 1))), (0, a8), (0, a2)]) (st := []) dX12_readTree_170 i33 rfl q2075 q2076 q2077 q376 q2078 rfl hmX9_compare rfl rfl rfl rfl rfl rfl rfl rfl (k_mono h (fun r5 w6 h => ?_))
    refine x_if_ge (t := 180) 7 dX12_readTree_173 rfl rfl (b_ite h (fun hc h => ?_) (fun hc h => ?_))
    · refine x_iconst 0 (z := 0) dX12_readTree_180 rfl (by decide) rfl ?_
      refine x_istore 5 (ls' := [(2, 41), (9, 0), (0, a2), (0, a3), (0, a4), (0, 0), (0, a6), (9, 0), (0, a8), (0, a9)]) dX12_readTree_181 rfl rfl rfl ?_
      refine x_aload_n 0 dX12_readTree_183 rfl rfl rfl rfl rfl ?_
      refine y_getF 24 9 (c := 11) (z := 45) dX12_readTree_184 i41 rfl in_X12 q896 rfl rfl rfl fn_41_9 (Nat.le_trans (Nat.le_of_ble_eq_true rfl) hn) rfl ?_
      refine x_aload_n 0 dX12_readTree_187 rfl rfl rfl rfl rfl ?_
      refine y_get 185 10 (c := 11) (z := w6 41 10) dX12_readTree_188 i41 rfl in_X12 q897 rfl rfl rfl rfl rfl ?_
      refine x_iload 8 dX12_readTree_191 rfl rfl ?_
      obtain ⟨e7, h⟩ := h
      refine y_iast (x' := a8) dX12_readTree_193 ⟨8400, i45, e7⟩ rfl rfl ?_
      refine x_aload_n 0 dX12_readTree_194 rfl rfl rfl rfl rfl ?_
      refine y_getF 24 9 (c := 11) (z := 45) dX12_readTree_195 i41 rfl in_X12 q896 rfl rfl rfl fn_41_9 (Nat.le_trans (Nat.le_of_ble_eq_true rfl) hn) rfl ?_
      refine x_aload_n 0 dX12_readTree_198 rfl rfl rfl rfl rfl ?_
      refine y_get 185 10 (c := 11) (z := w6 41 10) dX12_readTree_199 i41 rfl in_X12 q897 rfl rfl rfl rfl rfl ?_
      refine x_sipush 4200 (z := 4200) dX12_readTree_202 rfl (by decide) rfl ?_
      refine x_iadd dX12_readTree_205 rfl ?_
      refine x_iload 9 dX12_readTree_206 rfl rfl ?_
      obtain ⟨e8, h⟩ := h
      refine y_iast (x' := a9) dX12_readTree_208 ⟨8400, i45, e8⟩ rfl rfl ?_
      refine x_aload_n 0 dX12_readTree_209 rfl rfl rfl rfl rfl ?_
      refine x_dup dX12_readTree_210 rfl rfl ?_
      refine y_get 185 10 (c := 11) (z := w6 41 10) dX12_readTree_211 i41 rfl in_X12 q897 rfl rfl rfl rfl rfl ?_
      refine x_iconst 1 (z := 1) dX12_readTree_214 rfl (by decide) rfl ?_
      refine x_iadd dX12_readTree_215 rfl ?_
      refine x_put 185 10 (c := 11) dX12_readTree_216 i41 rfl in_X12 tyX12_ok nmX12 q897 rfl rfl rfl (Or.inl rfl) (Or.inl ⟨rfl, rfl⟩) rfl ?_
      refine x_aload_n 0 dX12_readTree_219 rfl rfl rfl rfl rfl ?_
      refine y_getF 28 0 (c := 11) (z := 6) dX12_readTree_220 i41 rfl in_X12 q887 rfl rfl rfl fn_41_0 (Nat.le_trans (Nat.le_of_ble_eq_true rfl) hn) rfl ?_
      refine y_getF 124 10 (c := 3) (z := 17) dX12_readTree_223 i6 rfl in_X4 q677 rfl rfl rfl fn_6_10 (Nat.le_trans (Nat.le_of_ble_eq_true rfl) hn) rfl ?_
      refine x_iload 6 dX12_readTree_226 rfl rfl ?_
      obtain ⟨e9, h⟩ := h
      refine y_iald (z := w6 17 a6) dX12_readTree_228 ⟨4096, i17, e9⟩ rfl rfl ?_
      refine x_istore 6 (ls' := [(2, 41), (9, 0), (0, a2), (0, a3), (0, a4), (0, 0), (0, w6 17 a6), (9, 0), (0, a8), (0, a9)]) dX12_readTree_229 rfl rfl rfl ?_
      refine x_goto (-211) (q := 20) dX12_readTree_231 rfl ?_
      exact x_fg (fgk (fgk (fgk (fgk (fgk (fgk (fgk (fgk (fgd (fgd (fg0))))))))))) h
    · refine x_iconst 1 (z := 1) dX12_readTree_176 rfl (by decide) rfl ?_
      refine x_goto 4 (q := 181) dX12_readTree_177 rfl ?_
      refine x_istore 5 (ls' := [(2, 41), (9, 0), (0, a2), (0, a3), (0, a4), (0, 1), (0, a6), (9, 0), (0, a8), (0, a9)]) dX12_readTree_181 rfl rfl rfl ?_
      refine x_aload_n 0 dX12_readTree_183 rfl rfl rfl rfl rfl ?_
      refine y_getF 24 9 (c := 11) (z := 45) dX12_readTree_184 i41 rfl in_X12 q896 rfl rfl rfl fn_41_9 (Nat.le_trans (Nat.le_of_ble_eq_true rfl) hn) rfl ?_
      refine x_aload_n 0 dX12_readTree_187 rfl rfl rfl rfl rfl ?_
      refine y_get 185 10 (c := 11) (z := w6 41 10) dX12_readTree_188 i41 rfl in_X12 q897 rfl rfl rfl rfl rfl ?_
      refine x_iload 8 dX12_readTree_191 rfl rfl ?_
      obtain ⟨e10, h⟩ := h
      refine y_iast (x' := a8) dX12_readTree_193 ⟨8400, i45, e10⟩ rfl rfl ?_
      refine x_aload_n 0 dX12_readTree_194 rfl rfl rfl rfl rfl ?_
      refine y_getF 24 9 (c := 11) (z := 45) dX12_readTree_195 i41 rfl in_X12 q896 rfl rfl rfl fn_41_9 (Nat.le_trans (Nat.le_of_ble_eq_true rfl) hn) rfl ?_
      refine x_aload_n 0 dX12_readTree_198 rfl rfl rfl rfl rfl ?_
      refine y_get 185 10 (c := 11) (z := w6 41 10) dX12_readTree_199 i41 rfl in_X12 q897 rfl rfl rfl rfl rfl ?_
      refine x_sipush 4200 (z := 4200) dX12_readTree_202 rfl (by decide) rfl ?_
      refine x_iadd dX12_readTree_205 rfl ?_
      refine x_iload 9 dX12_readTree_206 rfl rfl ?_
      obtain ⟨e11, h⟩ := h
      refine y_iast (x' := a9) dX12_readTree_208 ⟨8400, i45, e11⟩ rfl rfl ?_
      refine x_aload_n 0 dX12_readTree_209 rfl rfl rfl rfl rfl ?_
      refine x_dup dX12_readTree_210 rfl rfl ?_
      refine y_get 185 10 (c := 11) (z := w6 41 10) dX12_readTree_211 i41 rfl in_X12 q897 rfl rfl rfl rfl rfl ?_
      refine x_iconst 1 (z := 1) dX12_readTree_214 rfl (by decide) rfl ?_
      refine x_iadd dX12_readTree_215 rfl ?_
      refine x_put 185 10 (c := 11) dX12_readTree_216 i41 rfl in_X12 tyX12_ok nmX12 q897 rfl rfl rfl (Or.inl rfl) (Or.inl ⟨rfl, rfl⟩) rfl ?_
      refine x_aload_n 0 dX12_readTree_219 rfl rfl rfl rfl rfl ?_
      refine y_getF 28 0 (c := 11) (z := 6) dX12_readTree_220 i41 rfl in_X12 q887 rfl rfl rfl fn_41_0 (Nat.le_trans (Nat.le_of_ble_eq_true rfl) hn) rfl ?_
      refine y_getF 124 10 (c := 3) (z := 17) dX12_readTree_223 i6 rfl in_X4 q677 rfl rfl rfl fn_6_10 (Nat.le_trans (Nat.le_of_ble_eq_true rfl) hn) rfl ?_
      refine x_iload 6 dX12_readTree_226 rfl rfl ?_
      obtain ⟨e12, h⟩ := h
      refine y_iald (z := w6 17 a6) dX12_readTree_228 ⟨4096, i17, e12⟩ rfl rfl ?_
      refine x_istore 6 (ls' := [(2, 41), (9, 0), (0, a2), (0, a3), (0, a4), (0, 1), (0, w6 17 a6), (9, 0), (0, a8), (0, a9)]) dX12_readTree_229 rfl rfl rfl ?_
      refine x_goto (-211) (q := 20) dX12_readTree_231 rfl ?_
      exact x_fg (fgk (fgk (fgk (fgk (fgk (fgk (fgk (fgk (fgd (fgd (fg0))))))))))) h
theorem rX12_address {d n : Nat} {w : bW} {Q : Int → bW → Prop} {X : String → bW → Prop} (hn : 143 ≤ n) (a1 : Int) (h : (0 ≤ a1 ∧ a1 < 4096) ∧ (if w 10 a1 ≠ 3 then (Q (-1) w) else (b_K d mX12_unescape [(2, 41), (0, a1)] n w (fun r2 w3 => if r2 = 0 then (Q (-1) w3) else (b_K d mX11_read [(2, 39), (2, 44), (0, 0), (0, w3 41 8)] n w3 (fun r4 w5 => Q r4 w5) X)) X))) : b_K (d + 1) mX12_address [(2, 41), (0, a1)] n w Q X := by
  have i6 := iz6 (Nat.le_trans (Nat.le_of_ble_eq_true rfl) hn)
  have i10 := iz10 (Nat.le_trans (Nat.le_of_ble_eq_true rfl) hn)
  have i39 := iz39 (Nat.le_trans (Nat.le_of_ble_eq_true rfl) hn)
  have i41 := iz41 (Nat.le_trans (Nat.le_of_ble_eq_true rfl) hn)
  refine k_of (by decide) rfl rfl rfl (ls := [(2, 41), (0, a1)]) rfl ?_
  refine x_aload_n 0 dX12_address_0 rfl rfl rfl rfl rfl ?_
  refine y_getF 28 0 (c := 11) (z := 6) dX12_address_1 i41 rfl in_X12 q887 rfl rfl rfl fn_41_0 (Nat.le_trans (Nat.le_of_ble_eq_true rfl) hn) rfl ?_
  refine y_getF 92 3 (c := 3) (z := 10) dX12_address_4 i6 rfl in_X4 q654 rfl rfl rfl fn_6_3 (Nat.le_trans (Nat.le_of_ble_eq_true rfl) hn) rfl ?_
  refine x_iload_n 1 dX12_address_7 rfl rfl rfl ?_
  obtain ⟨e1, h⟩ := h
  refine y_bald (z := w 10 a1) dX12_address_8 ⟨4096, i10, e1⟩ rfl rfl ?_
  refine x_iconst 3 (z := 3) dX12_address_9 rfl (by decide) rfl ?_
  refine x_icmp_ne (t := 40) 30 dX12_address_10 rfl rfl (b_ite h (fun hc h => ?_) (fun hc h => ?_))
  · refine x_iconst (-1) (z := (-1)) dX12_address_40 rfl (by decide) rfl ?_
    exact y_iret dX12_address_41 rfl h
  · refine x_aload_n 0 dX12_address_13 rfl rfl rfl rfl rfl ?_
    refine x_iload_n 1 dX12_address_14 rfl rfl rfl ?_
    refine y_Vi 157 (M := mX12_unescape) (As := [(0, a1)]) (st := []) dX12_address_15 i41 rfl q1984 q1986 qs40 q379 q1987 rfl hmX12_unescape rfl rfl rfl rfl rfl rfl rfl rfl (k_mono h (fun r2 w3 h => ?_))
    refine x_if_eq (t := 40) 22 dX12_address_18 rfl rfl (b_ite h (fun hc h => ?_) (fun hc h => ?_))
    · refine x_iconst (-1) (z := (-1)) dX12_address_40 rfl (by decide) rfl ?_
      exact y_iret dX12_address_41 rfl h
    · refine x_aload_n 0 dX12_address_21 rfl rfl rfl rfl rfl ?_
      refine y_getF 48 5 (c := 11) (z := 39) dX12_address_22 i41 rfl in_X12 q892 rfl rfl rfl fn_41_5 (Nat.le_trans (Nat.le_of_ble_eq_true rfl) hn) rfl ?_
      refine x_aload_n 0 dX12_address_25 rfl rfl rfl rfl rfl ?_
      refine y_getF 20 7 (c := 11) (z := 44) dX12_address_26 i41 rfl in_X12 q894 rfl rfl rfl fn_41_7 (Nat.le_trans (Nat.le_of_ble_eq_true rfl) hn) rfl ?_
      refine x_iconst 0 (z := 0) dX12_address_29 rfl (by decide) rfl ?_
      refine x_aload_n 0 dX12_address_30 rfl rfl rfl rfl rfl ?_
      refine y_get 160 8 (c := 11) (z := w3 41 8) dX12_address_31 i41 rfl in_X12 q895 rfl rfl rfl rfl rfl ?_
      refine y_Vi 164 (M := mX11_read) (As := [(2, 44), (0, 0), (0, w3 41 8)]) (st := []) dX12_address_34 i39 rfl q1988 q1989 q1990 q378 q1991 rfl hmX11_read rfl rfl rfl rfl rfl rfl rfl rfl (k_mono h (fun r4 w5 h => ?_))
      refine x_goto 4 (q := 41) dX12_address_37 rfl ?_
      exact y_iret dX12_address_41 rfl h
theorem rX12_entry {d n : Nat} {w : bW} {Q : Int → bW → Prop} {X : String → bW → Prop} (hn : 143 ≤ n) (h : if w 39 0 ≠ 0 then (b_K d mX14_find [(2, 50), (2, 44), (0, w 39 0), (0, w 41 8)] n w (fun r1 w2 => Q r1 w2) X) else (Q 0 w)) : b_K (d + 1) mX12_entry [(2, 41), (2, 50)] n w Q X := by
  have i39 := iz39 (Nat.le_trans (Nat.le_of_ble_eq_true rfl) hn)
  have i41 := iz41 (Nat.le_trans (Nat.le_of_ble_eq_true rfl) hn)
  have i50 := iz50 (Nat.le_trans (Nat.le_of_ble_eq_true rfl) hn)
  refine k_of (by decide) rfl rfl rfl (ls := [(2, 41), (2, 50)]) rfl ?_
  refine x_aload_n 0 dX12_entry_0 rfl rfl rfl rfl rfl ?_
  refine y_getF 48 5 (c := 11) (z := 39) dX12_entry_1 i41 rfl in_X12 q892 rfl rfl rfl fn_41_5 (Nat.le_trans (Nat.le_of_ble_eq_true rfl) hn) rfl ?_
  refine y_get 169 0 (c := 10) (z := w 39 0) dX12_entry_4 i39 rfl in_X11 q871 rfl rfl rfl rfl rfl ?_
  refine x_if_ne (t := 14) 7 dX12_entry_7 rfl rfl (b_ite h (fun hc h => ?_) (fun hc h => ?_))
  · refine x_aload_n 1 dX12_entry_14 rfl rfl rfl rfl rfl ?_
    refine x_aload_n 0 dX12_entry_15 rfl rfl rfl rfl rfl ?_
    refine y_getF 20 7 (c := 11) (z := 44) dX12_entry_16 i41 rfl in_X12 q894 rfl rfl rfl fn_41_7 (Nat.le_trans (Nat.le_of_ble_eq_true rfl) hn) rfl ?_
    refine x_aload_n 0 dX12_entry_19 rfl rfl rfl rfl rfl ?_
    refine y_getF 48 5 (c := 11) (z := 39) dX12_entry_20 i41 rfl in_X12 q892 rfl rfl rfl fn_41_5 (Nat.le_trans (Nat.le_of_ble_eq_true rfl) hn) rfl ?_
    refine y_get 169 0 (c := 10) (z := w 39 0) dX12_entry_23 i39 rfl in_X11 q871 rfl rfl rfl rfl rfl ?_
    refine x_aload_n 0 dX12_entry_26 rfl rfl rfl rfl rfl ?_
    refine y_get 160 8 (c := 11) (z := w 41 8) dX12_entry_27 i41 rfl in_X12 q895 rfl rfl rfl rfl rfl ?_
    refine y_Vi 174 (M := mX14_find) (As := [(2, 44), (0, w 39 0), (0, w 41 8)]) (st := []) dX12_entry_30 i50 rfl q2542 q1880 q1881 q381 q1882 rfl hmX14_find rfl rfl rfl rfl rfl rfl rfl rfl (k_mono h (fun r1 w2 h => ?_))
    exact y_iret dX12_entry_33 rfl h
  · refine x_iconst 0 (z := 0) dX12_entry_10 rfl (by decide) rfl ?_
    refine x_goto 22 (q := 33) dX12_entry_11 rfl ?_
    exact y_iret dX12_entry_33 rfl h
end RulesX12
