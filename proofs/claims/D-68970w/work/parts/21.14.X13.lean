section RulesX13
set_option maxRecDepth 100000
theorem rX13_write {d n : Nat} {w : bW} {Q : Int → bW → Prop} {X : String → bW → Prop} (hn : 47 ≤ n) (a1 : Int) (a2 : Int) (a3 : Int) (a4 : Int) (h : b_K d mX13_put [(2, 46), (0, a3), (0, a4)] n (b_up (b_up w 46 6 a1) 46 7 a2) (fun r1 w2 => Q 0 w2) X) : b_K (d + 1) mX13_write [(2, 46), (2, a1), (0, a2), (0, a3), (0, a4)] n w Q X := by
  have i46 := iz46 (Nat.le_trans (Nat.le_of_ble_eq_true rfl) hn)
  refine k_of (by decide) rfl rfl rfl (ls := [(2, 46), (2, a1), (0, a2), (0, a3), (0, a4)]) rfl ?_
  refine x_aload_n 0 dX13_write_0 rfl rfl rfl rfl rfl ?_
  refine x_aload_n 1 dX13_write_1 rfl rfl rfl rfl rfl ?_
  refine x_put 44 6 (c := 12) dX13_write_2 i46 rfl in_X13 tyX13_ok nmX13 q935 rfl rfl rfl (Or.inl rfl) (Or.inr (Or.inr (Or.inr ⟨rfl, Or.inr ⟨_, rfl⟩⟩))) rfl ?_
  refine x_aload_n 0 dX13_write_5 rfl rfl rfl rfl rfl ?_
  refine x_iload_n 2 dX13_write_6 rfl rfl rfl ?_
  refine x_put 48 7 (c := 12) dX13_write_7 i46 rfl in_X13 tyX13_ok nmX13 q936 rfl rfl rfl (Or.inl rfl) (Or.inl ⟨rfl, rfl⟩) rfl ?_
  refine x_aload_n 0 dX13_write_10 rfl rfl rfl rfl rfl ?_
  refine x_iload_n 3 dX13_write_11 rfl rfl rfl ?_
  refine x_iload 4 dX13_write_12 rfl rfl ?_
  refine y_Vv 52 (M := mX13_put) (As := [(0, a3), (0, a4)]) (st := []) dX13_write_14 i46 rfl q2386 q2388 qs87 q380 q2389 rfl hmX13_put rfl rfl rfl rfl rfl rfl rfl (k_mono h (fun r1 w2 h => ?_))
  exact y_vret dX13_write_17 rfl h
theorem rX13_put {d n : Nat} {w : bW} {Q : Int → bW → Prop} {X : String → bW → Prop} (hn : 143 ≤ n) (a1 : Int) (a2 : Int) (h : (0 ≤ a2 ∧ a2 < 60000) ∧ (if w 20 a2 = 0 then (b_K d mX13_two [(2, 46), (0, 3), (0, 11)] n w (fun r2 w3 => Q 0 w3) X) else (if w 20 a2 = 1 then (if a1 ≠ 6 then (b_K d mX13_two [(2, 46), (0, 3), (0, 3)] n w (fun r4 w5 => Q 0 w5) X) else (b_K d mX13_two [(2, 46), (0, 3), (0, 10)] n w (fun r6 w7 => Q 0 w7) X)) else (if w 20 a2 = 5 ∨ w 20 a2 = 6 ∨ w 20 a2 = 7 then (if w 20 a2 ≠ 6 then (b_K d mX13_putBytes [(2, 46), (0, 1), (0, a1)] n w (fun r8 w9 => Q 0 w9) X) else (b_K d mX13_putBytes [(2, 46), (0, 10), (0, a1)] n w (fun r10 w11 => Q 0 w11) X)) else (if w 20 a2 = 10 then (if a1 ≠ 8 then ((0 ≤ a2 ∧ a2 < 60000) ∧ (b_K d mX13_wrapped [(2, 46), (0, 9), (0, a1), (0, w 21 a2)] n w (fun r13 w14 => Q 0 w14) X)) else (b_K d mX13_two [(2, 46), (0, 3), (0, 6)] n w (fun r15 w16 => Q 0 w16) X)) else (if w 20 a2 = 11 then ((0 ≤ a2 ∧ a2 < 60000) ∧ (b_K d mX13_putList [(2, 46), (0, a1), (0, w 21 a2)] n w (fun r18 w19 => Q 0 w19) X)) else (if w 20 a2 = 12 ∨ w 20 a2 = 15 ∨ w 20 a2 = 16 then (b_K d mX13_put_2 [(2, 46), (0, 2)] n w (fun r20 w21 => b_K d mX8_length [(2, 27), (0, a1)] n w21 (fun r22 w23 => b_K d mX13_putInt [(2, 46), (0, b_i (r22 - 5))] n w23 (fun r24 w25 => (0 ≤ a2 ∧ a2 < 60000) ∧ ((0 ≤ a2 ∧ a2 < 60000) ∧ (b_K d mX13_putTree [(2, 46), (0, a1), (0, w25 21 a2), (0, w25 22 a2)] n w25 (fun r28 w29 => Q 0 w29) X))) X) X) X) else (if w 20 a2 = 14 then (b_K d mX8_kind [(2, 27), (0, a1)] n w (fun r30 w31 => if r30 ≠ 5 then ((0 ≤ a2 ∧ a2 < 60000) ∧ (b_K d mX13_wrapped [(2, 46), (0, 8), (0, a1), (0, w31 22 a2)] n w31 (fun r33 w34 => Q 0 w34) X)) else ((0 ≤ a2 ∧ a2 < 60000) ∧ (b_K d mX13_wrapped [(2, 46), (0, 5), (0, a1), (0, w31 21 a2)] n w31 (fun r36 w37 => Q 0 w37) X))) X) else (if w 20 a2 = 18 then (b_K d mX13_two [(2, 46), (0, 7), (0, 7)] n w (fun r38 w39 => b_K d mX8_cell [(2, 27), (0, a1), (0, 2)] n w39 (fun r40 w41 => (0 ≤ a2 ∧ a2 < 60000) ∧ (b_K d mX13_put [(2, 46), (0, r40), (0, w41 21 a2)] n w41 (fun r43 w44 => b_K d mX8_cell [(2, 27), (0, a1), (0, 3)] n w44 (fun r45 w46 => (0 ≤ a2 ∧ a2 < 60000) ∧ (b_K d mX13_put [(2, 46), (0, r45), (0, w46 22 a2)] n w46 (fun r48 w49 => Q 0 w49) X)) X) X)) X) X) else ((b_K d mX13_putNumber [(2, 46), (0, a1)] n w (fun r50 w51 => Q 0 w51) X))))))))))) : b_K (d + 1) mX13_put [(2, 46), (0, a1), (0, a2)] n w Q X := by
  have i19 := iz19 (Nat.le_trans (Nat.le_of_ble_eq_true rfl) hn)
  have i20 := iz20 (Nat.le_trans (Nat.le_of_ble_eq_true rfl) hn)
  have i21 := iz21 (Nat.le_trans (Nat.le_of_ble_eq_true rfl) hn)
  have i22 := iz22 (Nat.le_trans (Nat.le_of_ble_eq_true rfl) hn)
  have i27 := iz27 (Nat.le_trans (Nat.le_of_ble_eq_true rfl) hn)
  have i46 := iz46 (Nat.le_trans (Nat.le_of_ble_eq_true rfl) hn)
  refine k_of (by decide) rfl rfl rfl (ls := [(2, 46), (0, a1), (0, a2), (9, 0)]) rfl ?_
  refine x_aload_n 0 dX13_put_0 rfl rfl rfl rfl rfl ?_
  refine y_getF 24 0 (c := 12) (z := 19) dX13_put_1 i46 rfl in_X13 q929 rfl rfl rfl fn_46_0 (Nat.le_trans (Nat.le_of_ble_eq_true rfl) hn) rfl ?_
  refine y_getF 58 0 (c := 6) (z := 20) dX13_put_4 i19 rfl in_X7 q754 rfl rfl rfl fn_19_0 (Nat.le_trans (Nat.le_of_ble_eq_true rfl) hn) rfl ?_
  refine x_iload_n 2 dX13_put_7 rfl rfl rfl ?_
  obtain ⟨e1, h⟩ := h
  refine y_bald (z := w 20 a2) dX13_put_8 ⟨60000, i20, e1⟩ rfl rfl ?_
  refine x_istore_n 3 (ls' := [(2, 46), (0, a1), (0, a2), (0, w 20 a2)]) dX13_put_9 rfl rfl rfl rfl ?_
  refine x_iload_n 3 dX13_put_10 rfl rfl rfl ?_
  refine b_itc h (fun hc h => ?_) (fun hn0 h => ?_)
  · have key : b_Y (d + 1) mX13_put n Q X 100 [(2, 46), (0, a1), (0, a2), (0, w 20 a2)] [] w := by
      refine x_aload_n 0 dX13_put_100 rfl rfl rfl rfl rfl ?_
      refine x_iconst 3 (z := 3) dX13_put_101 rfl (by decide) rfl ?_
      refine x_bipush 11 (z := 11) dX13_put_102 rfl (by decide) rfl ?_
      refine y_Vv 63 (M := mX13_two) (As := [(0, 3), (0, 11)]) (st := []) dX13_put_104 i46 rfl q2390 q2392 qs88 q380 q2393 rfl hmX13_two rfl rfl rfl rfl rfl rfl rfl (k_mono h (fun r2 w3 h => ?_))
      refine x_goto 249 (q := 356) dX13_put_107 rfl ?_
      exact y_vret dX13_put_356 rfl h
    have e := hc
    exact x_tsI (off := 89) (t := 100) dX13_put_11 (by rw [e]; decide) (by rw [e]; decide) (by rw [e]; rfl) rfl key
  · refine b_itc h (fun hc h => ?_) (fun hn1 h => ?_)
    · have key : b_Y (d + 1) mX13_put n Q X 110 [(2, 46), (0, a1), (0, a2), (0, w 20 a2)] [] w := by
        refine x_aload_n 0 dX13_put_110 rfl rfl rfl rfl rfl ?_
        refine x_iconst 3 (z := 3) dX13_put_111 rfl (by decide) rfl ?_
        refine x_iload_n 1 dX13_put_112 rfl rfl rfl ?_
        refine x_bipush 6 (z := 6) dX13_put_113 rfl (by decide) rfl ?_
        refine x_icmp_ne (t := 123) 8 dX13_put_115 rfl rfl (b_ite h (fun hc h => ?_) (fun hc h => ?_))
        · refine x_iconst 3 (z := 3) dX13_put_123 rfl (by decide) rfl ?_
          refine y_Vv 63 (M := mX13_two) (As := [(0, 3), (0, 3)]) (st := []) dX13_put_124 i46 rfl q2390 q2392 qs88 q380 q2393 rfl hmX13_two rfl rfl rfl rfl rfl rfl rfl (k_mono h (fun r4 w5 h => ?_))
          refine x_goto 229 (q := 356) dX13_put_127 rfl ?_
          exact y_vret dX13_put_356 rfl h
        · refine x_bipush 10 (z := 10) dX13_put_118 rfl (by decide) rfl ?_
          refine x_goto 4 (q := 124) dX13_put_120 rfl ?_
          refine y_Vv 63 (M := mX13_two) (As := [(0, 3), (0, 10)]) (st := []) dX13_put_124 i46 rfl q2390 q2392 qs88 q380 q2393 rfl hmX13_two rfl rfl rfl rfl rfl rfl rfl (k_mono h (fun r6 w7 h => ?_))
          refine x_goto 229 (q := 356) dX13_put_127 rfl ?_
          exact y_vret dX13_put_356 rfl h
      have e := hc
      exact x_tsI (off := 99) (t := 110) dX13_put_11 (by rw [e]; decide) (by rw [e]; decide) (by rw [e]; rfl) rfl key
    · refine b_itc h (fun hc h => ?_) (fun hn2 h => ?_)
      · have key : b_Y (d + 1) mX13_put n Q X 130 [(2, 46), (0, a1), (0, a2), (0, w 20 a2)] [] w := by
          refine x_aload_n 0 dX13_put_130 rfl rfl rfl rfl rfl ?_
          refine x_iload_n 3 dX13_put_131 rfl rfl rfl ?_
          refine x_bipush 6 (z := 6) dX13_put_132 rfl (by decide) rfl ?_
          refine x_icmp_ne (t := 142) 8 dX13_put_134 rfl rfl (b_ite h (fun hc h => ?_) (fun hc h => ?_))
          · refine x_iconst 1 (z := 1) dX13_put_142 rfl (by decide) rfl ?_
            refine x_iload_n 1 dX13_put_143 rfl rfl rfl ?_
            refine y_Vv 70 (M := mX13_putBytes) (As := [(0, 1), (0, a1)]) (st := []) dX13_put_144 i46 rfl q2398 q2400 qs90 q380 q2401 rfl hmX13_putBytes rfl rfl rfl rfl rfl rfl rfl (k_mono h (fun r8 w9 h => ?_))
            refine x_goto 209 (q := 356) dX13_put_147 rfl ?_
            exact y_vret dX13_put_356 rfl h
          · refine x_bipush 10 (z := 10) dX13_put_137 rfl (by decide) rfl ?_
            refine x_goto 4 (q := 143) dX13_put_139 rfl ?_
            refine x_iload_n 1 dX13_put_143 rfl rfl rfl ?_
            refine y_Vv 70 (M := mX13_putBytes) (As := [(0, 10), (0, a1)]) (st := []) dX13_put_144 i46 rfl q2398 q2400 qs90 q380 q2401 rfl hmX13_putBytes rfl rfl rfl rfl rfl rfl rfl (k_mono h (fun r10 w11 h => ?_))
            refine x_goto 209 (q := 356) dX13_put_147 rfl ?_
            exact y_vret dX13_put_356 rfl h
        rcases hc with e | e | e
        · exact x_tsI (off := 119) (t := 130) dX13_put_11 (by rw [e]; decide) (by rw [e]; decide) (by rw [e]; rfl) rfl key
        · exact x_tsI (off := 119) (t := 130) dX13_put_11 (by rw [e]; decide) (by rw [e]; decide) (by rw [e]; rfl) rfl key
        · exact x_tsI (off := 119) (t := 130) dX13_put_11 (by rw [e]; decide) (by rw [e]; decide) (by rw [e]; rfl) rfl key
      · refine b_itc h (fun hc h => ?_) (fun hn3 h => ?_)
        · have key : b_Y (d + 1) mX13_put n Q X 150 [(2, 46), (0, a1), (0, a2), (0, w 20 a2)] [] w := by
            refine x_iload_n 1 dX13_put_150 rfl rfl rfl ?_
            refine x_bipush 8 (z := 8) dX13_put_151 rfl (by decide) rfl ?_
            refine x_icmp_ne (t := 166) 13 dX13_put_153 rfl rfl (b_ite h (fun hc h => ?_) (fun hc h => ?_))
            · refine x_aload_n 0 dX13_put_166 rfl rfl rfl rfl rfl ?_
              refine x_bipush 9 (z := 9) dX13_put_167 rfl (by decide) rfl ?_
              refine x_iload_n 1 dX13_put_169 rfl rfl rfl ?_
              refine x_aload_n 0 dX13_put_170 rfl rfl rfl rfl rfl ?_
              refine y_getF 24 0 (c := 12) (z := 19) dX13_put_171 i46 rfl in_X13 q929 rfl rfl rfl fn_46_0 (Nat.le_trans (Nat.le_of_ble_eq_true rfl) hn) rfl ?_
              refine y_getF 73 1 (c := 6) (z := 21) dX13_put_174 i19 rfl in_X7 q759 rfl rfl rfl fn_19_1 (Nat.le_trans (Nat.le_of_ble_eq_true rfl) hn) rfl ?_
              refine x_iload_n 2 dX13_put_177 rfl rfl rfl ?_
              obtain ⟨e12, h⟩ := h
              refine y_iald (z := w 21 a2) dX13_put_178 ⟨60000, i21, e12⟩ rfl rfl ?_
              refine y_Vv 76 (M := mX13_wrapped) (As := [(0, 9), (0, a1), (0, w 21 a2)]) (st := []) dX13_put_179 i46 rfl q2408 q2410 qs92 q380 q2411 rfl hmX13_wrapped rfl rfl rfl rfl rfl rfl rfl (k_mono h (fun r13 w14 h => ?_))
              refine x_goto 174 (q := 356) dX13_put_182 rfl ?_
              exact y_vret dX13_put_356 rfl h
            · refine x_aload_n 0 dX13_put_156 rfl rfl rfl rfl rfl ?_
              refine x_iconst 3 (z := 3) dX13_put_157 rfl (by decide) rfl ?_
              refine x_bipush 6 (z := 6) dX13_put_158 rfl (by decide) rfl ?_
              refine y_Vv 63 (M := mX13_two) (As := [(0, 3), (0, 6)]) (st := []) dX13_put_160 i46 rfl q2390 q2392 qs88 q380 q2393 rfl hmX13_two rfl rfl rfl rfl rfl rfl rfl (k_mono h (fun r15 w16 h => ?_))
              refine x_goto 193 (q := 356) dX13_put_163 rfl ?_
              exact y_vret dX13_put_356 rfl h
          have e := hc
          exact x_tsI (off := 139) (t := 150) dX13_put_11 (by rw [e]; decide) (by rw [e]; decide) (by rw [e]; rfl) rfl key
        · refine b_itc h (fun hc h => ?_) (fun hn4 h => ?_)
          · have key : b_Y (d + 1) mX13_put n Q X 289 [(2, 46), (0, a1), (0, a2), (0, w 20 a2)] [] w := by
              refine x_aload_n 0 dX13_put_289 rfl rfl rfl rfl rfl ?_
              refine x_iload_n 1 dX13_put_290 rfl rfl rfl ?_
              refine x_aload_n 0 dX13_put_291 rfl rfl rfl rfl rfl ?_
              refine y_getF 24 0 (c := 12) (z := 19) dX13_put_292 i46 rfl in_X13 q929 rfl rfl rfl fn_46_0 (Nat.le_trans (Nat.le_of_ble_eq_true rfl) hn) rfl ?_
              refine y_getF 73 1 (c := 6) (z := 21) dX13_put_295 i19 rfl in_X7 q759 rfl rfl rfl fn_19_1 (Nat.le_trans (Nat.le_of_ble_eq_true rfl) hn) rfl ?_
              refine x_iload_n 2 dX13_put_298 rfl rfl rfl ?_
              obtain ⟨e17, h⟩ := h
              refine y_iald (z := w 21 a2) dX13_put_299 ⟨60000, i21, e17⟩ rfl rfl ?_
              refine y_Vv 91 (M := mX13_putList) (As := [(0, a1), (0, w 21 a2)]) (st := []) dX13_put_300 i46 rfl q2414 q2416 qs93 q380 q2417 rfl hmX13_putList rfl rfl rfl rfl rfl rfl rfl (k_mono h (fun r18 w19 h => ?_))
              refine x_goto 53 (q := 356) dX13_put_303 rfl ?_
              exact y_vret dX13_put_356 rfl h
            have e := hc
            exact x_tsI (off := 278) (t := 289) dX13_put_11 (by rw [e]; decide) (by rw [e]; decide) (by rw [e]; rfl) rfl key
          · refine b_itc h (fun hc h => ?_) (fun hn5 h => ?_)
            · have key : b_Y (d + 1) mX13_put n Q X 306 [(2, 46), (0, a1), (0, a2), (0, w 20 a2)] [] w := by
                refine x_aload_n 0 dX13_put_306 rfl rfl rfl rfl rfl ?_
                refine x_iconst 2 (z := 2) dX13_put_307 rfl (by decide) rfl ?_
                refine y_Vv 56 (M := mX13_put_2) (As := [(0, 2)]) (st := []) dX13_put_308 i46 rfl q2394 q2396 qs89 q380 q2397 rfl hmX13_put_2 rfl rfl rfl rfl rfl rfl rfl (k_mono h (fun r20 w21 h => ?_))
                refine x_aload_n 0 dX13_put_311 rfl rfl rfl rfl rfl ?_
                refine x_aload_n 0 dX13_put_312 rfl rfl rfl rfl rfl ?_
                refine y_getF 28 1 (c := 12) (z := 27) dX13_put_313 i46 rfl in_X13 q930 rfl rfl rfl fn_46_1 (Nat.le_trans (Nat.le_of_ble_eq_true rfl) hn) rfl ?_
                refine x_iload_n 1 dX13_put_316 rfl rfl rfl ?_
                refine y_Vi 94 (M := mX8_length) (As := [(0, a1)]) (st := [(2, 46)]) dX13_put_317 i27 rfl q2418 q2028 q2029 q375 q2030 rfl hmX8_length rfl rfl rfl rfl rfl rfl rfl rfl (k_mono h (fun r22 w23 h => ?_))
                refine x_iconst 5 (z := 5) dX13_put_320 rfl (by decide) rfl ?_
                refine x_isub dX13_put_321 rfl ?_
                refine y_Vv 97 (M := mX13_putInt) (As := [(0, b_i (r22 - 5))]) (st := []) dX13_put_322 i46 rfl q2403 q2405 qs91 q380 q2406 rfl hmX13_putInt rfl rfl rfl rfl rfl rfl rfl (k_mono h (fun r24 w25 h => ?_))
                refine x_aload_n 0 dX13_put_325 rfl rfl rfl rfl rfl ?_
                refine x_iload_n 1 dX13_put_326 rfl rfl rfl ?_
                refine x_aload_n 0 dX13_put_327 rfl rfl rfl rfl rfl ?_
                refine y_getF 24 0 (c := 12) (z := 19) dX13_put_328 i46 rfl in_X13 q929 rfl rfl rfl fn_46_0 (Nat.le_trans (Nat.le_of_ble_eq_true rfl) hn) rfl ?_
                refine y_getF 73 1 (c := 6) (z := 21) dX13_put_331 i19 rfl in_X7 q759 rfl rfl rfl fn_19_1 (Nat.le_trans (Nat.le_of_ble_eq_true rfl) hn) rfl ?_
                refine x_iload_n 2 dX13_put_334 rfl rfl rfl ?_
                obtain ⟨e26, h⟩ := h
                refine y_iald (z := w25 21 a2) dX13_put_335 ⟨60000, i21, e26⟩ rfl rfl ?_
                refine x_aload_n 0 dX13_put_336 rfl rfl rfl rfl rfl ?_
                refine y_getF 24 0 (c := 12) (z := 19) dX13_put_337 i46 rfl in_X13 q929 rfl rfl rfl fn_46_0 (Nat.le_trans (Nat.le_of_ble_eq_true rfl) hn) rfl ?_
                refine y_getF 84 2 (c := 6) (z := 22) dX13_put_340 i19 rfl in_X7 q765 rfl rfl rfl fn_19_2 (Nat.le_trans (Nat.le_of_ble_eq_true rfl) hn) rfl ?_
                refine x_iload_n 2 dX13_put_343 rfl rfl rfl ?_
                obtain ⟨e27, h⟩ := h
                refine y_iald (z := w25 22 a2) dX13_put_344 ⟨60000, i22, e27⟩ rfl rfl ?_
                refine y_Vv 100 (M := mX13_putTree) (As := [(0, a1), (0, w25 21 a2), (0, w25 22 a2)]) (st := []) dX13_put_345 i46 rfl q2419 q2421 qs94 q380 q2422 rfl hmX13_putTree rfl rfl rfl rfl rfl rfl rfl (k_mono h (fun r28 w29 h => ?_))
                refine x_goto 8 (q := 356) dX13_put_348 rfl ?_
                exact y_vret dX13_put_356 rfl h
              rcases hc with e | e | e
              · exact x_tsI (off := 295) (t := 306) dX13_put_11 (by rw [e]; decide) (by rw [e]; decide) (by rw [e]; rfl) rfl key
              · exact x_tsI (off := 295) (t := 306) dX13_put_11 (by rw [e]; decide) (by rw [e]; decide) (by rw [e]; rfl) rfl key
              · exact x_tsI (off := 295) (t := 306) dX13_put_11 (by rw [e]; decide) (by rw [e]; decide) (by rw [e]; rfl) rfl key
            · refine b_itc h (fun hc h => ?_) (fun hn6 h => ?_)
              · have key : b_Y (d + 1) mX13_put n Q X 185 [(2, 46), (0, a1), (0, a2), (0, w 20 a2)] [] w := by
                  refine x_aload_n 0 dX13_put_185 rfl rfl rfl rfl rfl ?_
                  refine y_getF 28 1 (c := 12) (z := 27) dX13_put_186 i46 rfl in_X13 q930 rfl rfl rfl fn_46_1 (Nat.le_trans (Nat.le_of_ble_eq_true rfl) hn) rfl ?_
                  refine x_iload_n 1 dX13_put_189 rfl rfl rfl ?_
                  refine y_Vi 80 (M := mX8_kind) (As := [(0, a1)]) (st := []) dX13_put_190 i27 rfl q2413 q2042 q2043 q375 q2044 rfl hmX8_kind rfl rfl rfl rfl rfl rfl rfl rfl (k_mono h (fun r30 w31 h => ?_))
                  refine x_iconst 5 (z := 5) dX13_put_193 rfl (by decide) rfl ?_
                  refine x_icmp_ne (t := 215) 21 dX13_put_194 rfl rfl (b_ite h (fun hc h => ?_) (fun hc h => ?_))
                  · refine x_aload_n 0 dX13_put_215 rfl rfl rfl rfl rfl ?_
                    refine x_bipush 8 (z := 8) dX13_put_216 rfl (by decide) rfl ?_
                    refine x_iload_n 1 dX13_put_218 rfl rfl rfl ?_
                    refine x_aload_n 0 dX13_put_219 rfl rfl rfl rfl rfl ?_
                    refine y_getF 24 0 (c := 12) (z := 19) dX13_put_220 i46 rfl in_X13 q929 rfl rfl rfl fn_46_0 (Nat.le_trans (Nat.le_of_ble_eq_true rfl) hn) rfl ?_
                    refine y_getF 84 2 (c := 6) (z := 22) dX13_put_223 i19 rfl in_X7 q765 rfl rfl rfl fn_19_2 (Nat.le_trans (Nat.le_of_ble_eq_true rfl) hn) rfl ?_
                    refine x_iload_n 2 dX13_put_226 rfl rfl rfl ?_
                    obtain ⟨e32, h⟩ := h
                    refine y_iald (z := w31 22 a2) dX13_put_227 ⟨60000, i22, e32⟩ rfl rfl ?_
                    refine y_Vv 76 (M := mX13_wrapped) (As := [(0, 8), (0, a1), (0, w31 22 a2)]) (st := []) dX13_put_228 i46 rfl q2408 q2410 qs92 q380 q2411 rfl hmX13_wrapped rfl rfl rfl rfl rfl rfl rfl (k_mono h (fun r33 w34 h => ?_))
                    refine x_goto 125 (q := 356) dX13_put_231 rfl ?_
                    exact y_vret dX13_put_356 rfl h
                  · refine x_aload_n 0 dX13_put_197 rfl rfl rfl rfl rfl ?_
                    refine x_iconst 5 (z := 5) dX13_put_198 rfl (by decide) rfl ?_
                    refine x_iload_n 1 dX13_put_199 rfl rfl rfl ?_
                    refine x_aload_n 0 dX13_put_200 rfl rfl rfl rfl rfl ?_
                    refine y_getF 24 0 (c := 12) (z := 19) dX13_put_201 i46 rfl in_X13 q929 rfl rfl rfl fn_46_0 (Nat.le_trans (Nat.le_of_ble_eq_true rfl) hn) rfl ?_
                    refine y_getF 73 1 (c := 6) (z := 21) dX13_put_204 i19 rfl in_X7 q759 rfl rfl rfl fn_19_1 (Nat.le_trans (Nat.le_of_ble_eq_true rfl) hn) rfl ?_
                    refine x_iload_n 2 dX13_put_207 rfl rfl rfl ?_
                    obtain ⟨e35, h⟩ := h
                    refine y_iald (z := w31 21 a2) dX13_put_208 ⟨60000, i21, e35⟩ rfl rfl ?_
                    refine y_Vv 76 (M := mX13_wrapped) (As := [(0, 5), (0, a1), (0, w31 21 a2)]) (st := []) dX13_put_209 i46 rfl q2408 q2410 qs92 q380 q2411 rfl hmX13_wrapped rfl rfl rfl rfl rfl rfl rfl (k_mono h (fun r36 w37 h => ?_))
                    refine x_goto 144 (q := 356) dX13_put_212 rfl ?_
                    exact y_vret dX13_put_356 rfl h
                have e := hc
                exact x_tsI (off := 174) (t := 185) dX13_put_11 (by rw [e]; decide) (by rw [e]; decide) (by rw [e]; rfl) rfl key
              · refine b_itc h (fun hc h => ?_) (fun hn7 h => ?_)
                · have key : b_Y (d + 1) mX13_put n Q X 234 [(2, 46), (0, a1), (0, a2), (0, w 20 a2)] [] w := by
                    refine x_aload_n 0 dX13_put_234 rfl rfl rfl rfl rfl ?_
                    refine x_bipush 7 (z := 7) dX13_put_235 rfl (by decide) rfl ?_
                    refine x_bipush 7 (z := 7) dX13_put_237 rfl (by decide) rfl ?_
                    refine y_Vv 63 (M := mX13_two) (As := [(0, 7), (0, 7)]) (st := []) dX13_put_239 i46 rfl q2390 q2392 qs88 q380 q2393 rfl hmX13_two rfl rfl rfl rfl rfl rfl rfl (k_mono h (fun r38 w39 h => ?_))
                    refine x_aload_n 0 dX13_put_242 rfl rfl rfl rfl rfl ?_
                    refine x_aload_n 0 dX13_put_243 rfl rfl rfl rfl rfl ?_
                    refine y_getF 28 1 (c := 12) (z := 27) dX13_put_244 i46 rfl in_X13 q930 rfl rfl rfl fn_46_1 (Nat.le_trans (Nat.le_of_ble_eq_true rfl) hn) rfl ?_
                    refine x_iload_n 1 dX13_put_247 rfl rfl rfl ?_
                    refine x_iconst 2 (z := 2) dX13_put_248 rfl (by decide) rfl ?_
                    refine y_Vi 87 (M := mX8_cell) (As := [(0, a1), (0, 2)]) (st := [(2, 46)]) dX13_put_249 i27 rfl q2412 q2010 q2011 q375 q2012 rfl hmX8_cell rfl rfl rfl rfl rfl rfl rfl rfl (k_mono h (fun r40 w41 h => ?_))
                    refine x_aload_n 0 dX13_put_252 rfl rfl rfl rfl rfl ?_
                    refine y_getF 24 0 (c := 12) (z := 19) dX13_put_253 i46 rfl in_X13 q929 rfl rfl rfl fn_46_0 (Nat.le_trans (Nat.le_of_ble_eq_true rfl) hn) rfl ?_
                    refine y_getF 73 1 (c := 6) (z := 21) dX13_put_256 i19 rfl in_X7 q759 rfl rfl rfl fn_19_1 (Nat.le_trans (Nat.le_of_ble_eq_true rfl) hn) rfl ?_
                    refine x_iload_n 2 dX13_put_259 rfl rfl rfl ?_
                    obtain ⟨e42, h⟩ := h
                    refine y_iald (z := w41 21 a2) dX13_put_260 ⟨60000, i21, e42⟩ rfl rfl ?_
                    refine y_Vv 52 (M := mX13_put) (As := [(0, r40), (0, w41 21 a2)]) (st := []) dX13_put_261 i46 rfl q2386 q2388 qs87 q380 q2389 rfl hmX13_put rfl rfl rfl rfl rfl rfl rfl (k_mono h (fun r43 w44 h => ?_))
                    refine x_aload_n 0 dX13_put_264 rfl rfl rfl rfl rfl ?_
                    refine x_aload_n 0 dX13_put_265 rfl rfl rfl rfl rfl ?_
                    refine y_getF 28 1 (c := 12) (z := 27) dX13_put_266 i46 rfl in_X13 q930 rfl rfl rfl fn_46_1 (Nat.le_trans (Nat.le_of_ble_eq_true rfl) hn) rfl ?_
                    refine x_iload_n 1 dX13_put_269 rfl rfl rfl ?_
                    refine x_iconst 3 (z := 3) dX13_put_270 rfl (by decide) rfl ?_
                    refine y_Vi 87 (M := mX8_cell) (As := [(0, a1), (0, 3)]) (st := [(2, 46)]) dX13_put_271 i27 rfl q2412 q2010 q2011 q375 q2012 rfl hmX8_cell rfl rfl rfl rfl rfl rfl rfl rfl (k_mono h (fun r45 w46 h => ?_))
                    refine x_aload_n 0 dX13_put_274 rfl rfl rfl rfl rfl ?_
                    refine y_getF 24 0 (c := 12) (z := 19) dX13_put_275 i46 rfl in_X13 q929 rfl rfl rfl fn_46_0 (Nat.le_trans (Nat.le_of_ble_eq_true rfl) hn) rfl ?_
                    refine y_getF 84 2 (c := 6) (z := 22) dX13_put_278 i19 rfl in_X7 q765 rfl rfl rfl fn_19_2 (Nat.le_trans (Nat.le_of_ble_eq_true rfl) hn) rfl ?_
                    refine x_iload_n 2 dX13_put_281 rfl rfl rfl ?_
                    obtain ⟨e47, h⟩ := h
                    refine y_iald (z := w46 22 a2) dX13_put_282 ⟨60000, i22, e47⟩ rfl rfl ?_
                    refine y_Vv 52 (M := mX13_put) (As := [(0, r45), (0, w46 22 a2)]) (st := []) dX13_put_283 i46 rfl q2386 q2388 qs87 q380 q2389 rfl hmX13_put rfl rfl rfl rfl rfl rfl rfl (k_mono h (fun r48 w49 h => ?_))
                    refine x_goto 70 (q := 356) dX13_put_286 rfl ?_
                    exact y_vret dX13_put_356 rfl h
                  have e := hc
                  exact x_tsI (off := 223) (t := 234) dX13_put_11 (by rw [e]; decide) (by rw [e]; decide) (by rw [e]; rfl) rfl key
                · have key : b_Y (d + 1) mX13_put n Q X 351 [(2, 46), (0, a1), (0, a2), (0, w 20 a2)] [] w := by
                    refine x_aload_n 0 dX13_put_351 rfl rfl rfl rfl rfl ?_
                    refine x_iload_n 1 dX13_put_352 rfl rfl rfl ?_
                    refine y_Vv 103 (M := mX13_putNumber) (As := [(0, a1)]) (st := []) dX13_put_353 i46 rfl q2423 q2425 qs95 q380 q2426 rfl hmX13_putNumber rfl rfl rfl rfl rfl rfl rfl (k_mono h (fun r50 w51 h => ?_))
                    exact y_vret dX13_put_356 rfl h
                  by_cases e : w 20 a2 = 2
                  · exact x_tsI (off := 340) (t := 351) dX13_put_11 (by rw [e]; decide) (by rw [e]; decide) (by rw [e]; rfl) rfl key
                  have hx2 := e
                  by_cases e : w 20 a2 = 3
                  · exact x_tsI (off := 340) (t := 351) dX13_put_11 (by rw [e]; decide) (by rw [e]; decide) (by rw [e]; rfl) rfl key
                  have hx3 := e
                  by_cases e : w 20 a2 = 4
                  · exact x_tsI (off := 340) (t := 351) dX13_put_11 (by rw [e]; decide) (by rw [e]; decide) (by rw [e]; rfl) rfl key
                  have hx4 := e
                  by_cases e : w 20 a2 = 8
                  · exact x_tsI (off := 340) (t := 351) dX13_put_11 (by rw [e]; decide) (by rw [e]; decide) (by rw [e]; rfl) rfl key
                  have hx8 := e
                  by_cases e : w 20 a2 = 9
                  · exact x_tsI (off := 340) (t := 351) dX13_put_11 (by rw [e]; decide) (by rw [e]; decide) (by rw [e]; rfl) rfl key
                  have hx9 := e
                  by_cases e : w 20 a2 = 13
                  · exact x_tsI (off := 340) (t := 351) dX13_put_11 (by rw [e]; decide) (by rw [e]; decide) (by rw [e]; rfl) rfl key
                  have hx13 := e
                  by_cases e : w 20 a2 = 17
                  · exact x_tsI (off := 340) (t := 351) dX13_put_11 (by rw [e]; decide) (by rw [e]; decide) (by rw [e]; rfl) rfl key
                  have hx17 := e
                  exact x_tsO (t := 351) dX13_put_11 (by omega) rfl key
theorem rX13_two {d n : Nat} {w : bW} {Q : Int → bW → Prop} {X : String → bW → Prop} (hn : 47 ≤ n) (a1 : Int) (a2 : Int) (h : b_K d mX13_put_2 [(2, 46), (0, a1)] n w (fun r1 w2 => b_K d mX13_put_2 [(2, 46), (0, a2)] n w2 (fun r3 w4 => Q 0 w4) X) X) : b_K (d + 1) mX13_two [(2, 46), (0, a1), (0, a2)] n w Q X := by
  have i46 := iz46 (Nat.le_trans (Nat.le_of_ble_eq_true rfl) hn)
  refine k_of (by decide) rfl rfl rfl (ls := [(2, 46), (0, a1), (0, a2)]) rfl ?_
  refine x_aload_n 0 dX13_two_0 rfl rfl rfl rfl rfl ?_
  refine x_iload_n 1 dX13_two_1 rfl rfl rfl ?_
  refine y_Vv 56 (M := mX13_put_2) (As := [(0, a1)]) (st := []) dX13_two_2 i46 rfl q2394 q2396 qs89 q380 q2397 rfl hmX13_put_2 rfl rfl rfl rfl rfl rfl rfl (k_mono h (fun r1 w2 h => ?_))
  refine x_aload_n 0 dX13_two_5 rfl rfl rfl rfl rfl ?_
  refine x_iload_n 2 dX13_two_6 rfl rfl rfl ?_
  refine y_Vv 56 (M := mX13_put_2) (As := [(0, a2)]) (st := []) dX13_two_7 i46 rfl q2394 q2396 qs89 q380 q2397 rfl hmX13_put_2 rfl rfl rfl rfl rfl rfl rfl (k_mono h (fun r3 w4 h => ?_))
  exact y_vret dX13_two_10 rfl h
theorem rX13_put_2 {d n : Nat} {w : bW} {Q : Int → bW → Prop} {X : String → bW → Prop} (hn : 47 ≤ n) (a1 : Int) (h : b_ai n (w 46 6) 1 1 (w 46 7) ∧ (Q 0 (b_up (b_up w 46 7 (b_i ((w 46 7) + 1))) (w 46 6) (w 46 7) (b_b8 a1)))) : b_K (d + 1) mX13_put_2 [(2, 46), (0, a1)] n w Q X := by
  have i46 := iz46 (Nat.le_trans (Nat.le_of_ble_eq_true rfl) hn)
  refine k_of (by decide) rfl rfl rfl (ls := [(2, 46), (0, a1)]) rfl ?_
  refine x_aload_n 0 dX13_put_2_0 rfl rfl rfl rfl rfl ?_
  refine y_get 44 6 (c := 12) (z := w 46 6) dX13_put_2_1 i46 rfl in_X13 q935 rfl rfl rfl rfl rfl ?_
  refine x_aload_n 0 dX13_put_2_4 rfl rfl rfl rfl rfl ?_
  refine x_dup dX13_put_2_5 rfl rfl ?_
  refine y_get 48 7 (c := 12) (z := w 46 7) dX13_put_2_6 i46 rfl in_X13 q936 rfl rfl rfl rfl rfl ?_
  refine x_dup_x1 dX13_put_2_9 rfl rfl rfl ?_
  refine x_iconst 1 (z := 1) dX13_put_2_10 rfl (by decide) rfl ?_
  refine x_iadd dX13_put_2_11 rfl ?_
  refine x_put 48 7 (c := 12) dX13_put_2_12 i46 rfl in_X13 tyX13_ok nmX13 q936 rfl rfl rfl (Or.inl rfl) (Or.inl ⟨rfl, rfl⟩) rfl ?_
  refine x_iload_n 1 dX13_put_2_15 rfl rfl rfl ?_
  refine x_i2b dX13_put_2_16 rfl ?_
  obtain ⟨e1, h⟩ := h
  refine y_bast (x' := b_b8 a1) dX13_put_2_17 e1 (b_b8_i _) rfl ?_
  exact y_vret dX13_put_2_18 rfl h
abbrev LX13_putBytes_22 (d n : Nat) (Q : Int → bW → Prop) (X : String → bW → Prop) (a2 : Int) (a3 : Int) (a4 : Int) (w : bW) : Prop := b_Y (d + 1) mX13_putBytes n Q X 22 [(2, 46), (9, 0), (0, a2), (0, a3), (0, a4)] [] w
theorem rX13_putBytes {d n : Nat} {w : bW} {Q : Int → bW → Prop} {X : String → bW → Prop} (hn : 143 ≤ n) (a1 : Int) (a2 : Int) (h : b_K d mX13_put_2 [(2, 46), (0, a1)] n w (fun r1 w2 => b_K d mX8_count [(2, 27), (0, a2)] n w2 (fun r3 w4 => b_K d mX13_putInt [(2, 46), (0, r3)] n w4 (fun r5 w6 => LX13_putBytes_22 d n Q X a2 r3 0 w6) X) X) X) : b_K (d + 1) mX13_putBytes [(2, 46), (0, a1), (0, a2)] n w Q X := by
  have i27 := iz27 (Nat.le_trans (Nat.le_of_ble_eq_true rfl) hn)
  have i46 := iz46 (Nat.le_trans (Nat.le_of_ble_eq_true rfl) hn)
  refine k_of (by decide) rfl rfl rfl (ls := [(2, 46), (0, a1), (0, a2), (9, 0), (9, 0)]) rfl ?_
  refine x_aload_n 0 dX13_putBytes_0 rfl rfl rfl rfl rfl ?_
  refine x_iload_n 1 dX13_putBytes_1 rfl rfl rfl ?_
  refine y_Vv 56 (M := mX13_put_2) (As := [(0, a1)]) (st := []) dX13_putBytes_2 i46 rfl q2394 q2396 qs89 q380 q2397 rfl hmX13_put_2 rfl rfl rfl rfl rfl rfl rfl (k_mono h (fun r1 w2 h => ?_))
  refine x_aload_n 0 dX13_putBytes_5 rfl rfl rfl rfl rfl ?_
  refine y_getF 28 1 (c := 12) (z := 27) dX13_putBytes_6 i46 rfl in_X13 q930 rfl rfl rfl fn_46_1 (Nat.le_trans (Nat.le_of_ble_eq_true rfl) hn) rfl ?_
  refine x_iload_n 2 dX13_putBytes_9 rfl rfl rfl ?_
  refine y_Vi 106 (M := mX8_count) (As := [(0, a2)]) (st := []) dX13_putBytes_10 i27 rfl q2402 q2087 q2088 q375 q2089 rfl hmX8_count rfl rfl rfl rfl rfl rfl rfl rfl (k_mono h (fun r3 w4 h => ?_))
  refine x_istore_n 3 (ls' := [(2, 46), (0, a1), (0, a2), (0, r3), (9, 0)]) dX13_putBytes_13 rfl rfl rfl rfl ?_
  refine x_aload_n 0 dX13_putBytes_14 rfl rfl rfl rfl rfl ?_
  refine x_iload_n 3 dX13_putBytes_15 rfl rfl rfl ?_
  refine y_Vv 97 (M := mX13_putInt) (As := [(0, r3)]) (st := []) dX13_putBytes_16 i46 rfl q2403 q2405 qs91 q380 q2406 rfl hmX13_putInt rfl rfl rfl rfl rfl rfl rfl (k_mono h (fun r5 w6 h => ?_))
  refine x_iconst 0 (z := 0) dX13_putBytes_19 rfl (by decide) rfl ?_
  refine x_istore 4 (ls' := [(2, 46), (0, a1), (0, a2), (0, r3), (0, 0)]) dX13_putBytes_20 rfl rfl rfl ?_
  exact x_fg (fgk (fgd (fgk (fgk (fgk (fg0)))))) h
theorem sX13_putBytes_22 {d n : Nat} {w : bW} {Q : Int → bW → Prop} {X : String → bW → Prop} (hn : 143 ≤ n) (a2 : Int) (a3 : Int) (a4 : Int) (h : if a3 ≤ a4 then (Q 0 w) else (b_K d mX8_byteAt [(2, 27), (0, a2), (0, a4)] n w (fun r1 w2 => b_K d mX13_put_2 [(2, 46), (0, r1)] n w2 (fun r3 w4 => LX13_putBytes_22 d n Q X a2 a3 (b_i (a4 + 1)) w4) X) X)) : LX13_putBytes_22 d n Q X a2 a3 a4 w := by
  have i27 := iz27 (Nat.le_trans (Nat.le_of_ble_eq_true rfl) hn)
  have i46 := iz46 (Nat.le_trans (Nat.le_of_ble_eq_true rfl) hn)
  refine x_iload 4 dX13_putBytes_22 rfl rfl ?_
  refine x_iload_n 3 dX13_putBytes_24 rfl rfl rfl ?_
  refine x_icmp_ge (t := 48) 23 dX13_putBytes_25 rfl rfl (b_ite h (fun hc h => ?_) (fun hc h => ?_))
  · exact y_vret dX13_putBytes_48 rfl h
  · refine x_aload_n 0 dX13_putBytes_28 rfl rfl rfl rfl rfl ?_
    refine x_aload_n 0 dX13_putBytes_29 rfl rfl rfl rfl rfl ?_
    refine y_getF 28 1 (c := 12) (z := 27) dX13_putBytes_30 i46 rfl in_X13 q930 rfl rfl rfl fn_46_1 (Nat.le_trans (Nat.le_of_ble_eq_true rfl) hn) rfl ?_
    refine x_iload_n 2 dX13_putBytes_33 rfl rfl rfl ?_
    refine x_iload 4 dX13_putBytes_34 rfl rfl ?_
    refine y_Vi 109 (M := mX8_byteAt) (As := [(0, a2), (0, a4)]) (st := [(2, 46)]) dX13_putBytes_36 i27 rfl q2407 q2092 q2093 q375 q2094 rfl hmX8_byteAt rfl rfl rfl rfl rfl rfl rfl rfl (k_mono h (fun r1 w2 h => ?_))
    refine y_Vv 56 (M := mX13_put_2) (As := [(0, r1)]) (st := []) dX13_putBytes_39 i46 rfl q2394 q2396 qs89 q380 q2397 rfl hmX13_put_2 rfl rfl rfl rfl rfl rfl rfl (k_mono h (fun r3 w4 h => ?_))
    refine x_iinc 4 1 (ls' := [(2, 46), (9, 0), (0, a2), (0, a3), (0, b_i (a4 + 1))]) dX13_putBytes_42 rfl rfl rfl rfl ?_
    refine x_goto (-23) (q := 22) dX13_putBytes_45 rfl ?_
    exact x_fg (fgk (fgk (fgk (fgk (fgk (fg0)))))) h
abbrev LX13_putInt_3 (d n : Nat) (Q : Int → bW → Prop) (X : String → bW → Prop) (a1 : Int) (a2 : Int) (w : bW) : Prop := b_Y (d + 1) mX13_putInt n Q X 3 [(2, 46), (0, a1), (0, a2)] [] w
theorem rX13_putInt {d n : Nat} {w : bW} {Q : Int → bW → Prop} {X : String → bW → Prop} (hn : 47 ≤ n) (a1 : Int) (h : LX13_putInt_3 d n Q X a1 24 w) : b_K (d + 1) mX13_putInt [(2, 46), (0, a1)] n w Q X := by
  refine k_of (by decide) rfl rfl rfl (ls := [(2, 46), (0, a1), (9, 0)]) rfl ?_
  refine x_bipush 24 (z := 24) dX13_putInt_0 rfl (by decide) rfl ?_
  refine x_istore_n 2 (ls' := [(2, 46), (0, a1), (0, 24)]) dX13_putInt_2 rfl rfl rfl rfl ?_
  exact x_fg (fgk (fgk (fgk (fg0)))) h
theorem sX13_putInt_3 {d n : Nat} {w : bW} {Q : Int → bW → Prop} {X : String → bW → Prop} (hn : 47 ≤ n) (a1 : Int) (a2 : Int) (h : if a2 < 0 then (Q 0 w) else (b_K d mX13_put_2 [(2, 46), (0, b_shr a1 a2)] n w (fun r1 w2 => LX13_putInt_3 d n Q X a1 (b_i (a2 + (-8))) w2) X)) : LX13_putInt_3 d n Q X a1 a2 w := by
  have i46 := iz46 (Nat.le_trans (Nat.le_of_ble_eq_true rfl) hn)
  refine x_iload_n 2 dX13_putInt_3 rfl rfl rfl ?_
  refine x_if_lt (t := 20) 16 dX13_putInt_4 rfl rfl (b_ite h (fun hc h => ?_) (fun hc h => ?_))
  · exact y_vret dX13_putInt_20 rfl h
  · refine x_aload_n 0 dX13_putInt_7 rfl rfl rfl rfl rfl ?_
    refine x_iload_n 1 dX13_putInt_8 rfl rfl rfl ?_
    refine x_iload_n 2 dX13_putInt_9 rfl rfl rfl ?_
    refine x_ishr dX13_putInt_10 rfl ?_
    refine y_Vv 56 (M := mX13_put_2) (As := [(0, b_shr a1 a2)]) (st := []) dX13_putInt_11 i46 rfl q2394 q2396 qs89 q380 q2397 rfl hmX13_put_2 rfl rfl rfl rfl rfl rfl rfl (k_mono h (fun r1 w2 h => ?_))
    refine x_iinc 2 (-8) (ls' := [(2, 46), (0, a1), (0, b_i (a2 + (-8)))]) dX13_putInt_14 rfl rfl rfl rfl ?_
    refine x_goto (-14) (q := 3) dX13_putInt_17 rfl ?_
    exact x_fg (fgk (fgk (fgk (fg0)))) h
theorem rX13_wrapped {d n : Nat} {w : bW} {Q : Int → bW → Prop} {X : String → bW → Prop} (hn : 143 ≤ n) (a1 : Int) (a2 : Int) (a3 : Int) (h : b_K d mX13_two [(2, 46), (0, 5), (0, a1)] n w (fun r1 w2 => b_K d mX8_cell [(2, 27), (0, a2), (0, 2)] n w2 (fun r3 w4 => b_K d mX13_put [(2, 46), (0, r3), (0, a3)] n w4 (fun r5 w6 => Q 0 w6) X) X) X) : b_K (d + 1) mX13_wrapped [(2, 46), (0, a1), (0, a2), (0, a3)] n w Q X := by
  have i27 := iz27 (Nat.le_trans (Nat.le_of_ble_eq_true rfl) hn)
  have i46 := iz46 (Nat.le_trans (Nat.le_of_ble_eq_true rfl) hn)
  refine k_of (by decide) rfl rfl rfl (ls := [(2, 46), (0, a1), (0, a2), (0, a3)]) rfl ?_
  refine x_aload_n 0 dX13_wrapped_0 rfl rfl rfl rfl rfl ?_
  refine x_iconst 5 (z := 5) dX13_wrapped_1 rfl (by decide) rfl ?_
  refine x_iload_n 1 dX13_wrapped_2 rfl rfl rfl ?_
  refine y_Vv 63 (M := mX13_two) (As := [(0, 5), (0, a1)]) (st := []) dX13_wrapped_3 i46 rfl q2390 q2392 qs88 q380 q2393 rfl hmX13_two rfl rfl rfl rfl rfl rfl rfl (k_mono h (fun r1 w2 h => ?_))
  refine x_aload_n 0 dX13_wrapped_6 rfl rfl rfl rfl rfl ?_
  refine x_aload_n 0 dX13_wrapped_7 rfl rfl rfl rfl rfl ?_
  refine y_getF 28 1 (c := 12) (z := 27) dX13_wrapped_8 i46 rfl in_X13 q930 rfl rfl rfl fn_46_1 (Nat.le_trans (Nat.le_of_ble_eq_true rfl) hn) rfl ?_
  refine x_iload_n 2 dX13_wrapped_11 rfl rfl rfl ?_
  refine x_iconst 2 (z := 2) dX13_wrapped_12 rfl (by decide) rfl ?_
  refine y_Vi 87 (M := mX8_cell) (As := [(0, a2), (0, 2)]) (st := [(2, 46)]) dX13_wrapped_13 i27 rfl q2412 q2010 q2011 q375 q2012 rfl hmX8_cell rfl rfl rfl rfl rfl rfl rfl rfl (k_mono h (fun r3 w4 h => ?_))
  refine x_iload_n 3 dX13_wrapped_16 rfl rfl rfl ?_
  refine y_Vv 52 (M := mX13_put) (As := [(0, r3), (0, a3)]) (st := []) dX13_wrapped_17 i46 rfl q2386 q2388 qs87 q380 q2389 rfl hmX13_put rfl rfl rfl rfl rfl rfl rfl (k_mono h (fun r5 w6 h => ?_))
  exact y_vret dX13_wrapped_20 rfl h
abbrev LX13_putList_21 (d n : Nat) (Q : Int → bW → Prop) (X : String → bW → Prop) (a2 : Int) (a3 : Int) (w : bW) : Prop := b_Y (d + 1) mX13_putList n Q X 21 [(2, 46), (9, 0), (0, a2), (0, a3)] [] w
theorem rX13_putList {d n : Nat} {w : bW} {Q : Int → bW → Prop} {X : String → bW → Prop} (hn : 143 ≤ n) (a1 : Int) (a2 : Int) (h : b_K d mX13_put_2 [(2, 46), (0, 2)] n w (fun r1 w2 => b_K d mX8_length [(2, 27), (0, a1)] n w2 (fun r3 w4 => b_K d mX13_putInt [(2, 46), (0, b_i (r3 - 5))] n w4 (fun r5 w6 => LX13_putList_21 d n Q X a2 a1 w6) X) X) X) : b_K (d + 1) mX13_putList [(2, 46), (0, a1), (0, a2)] n w Q X := by
  have i27 := iz27 (Nat.le_trans (Nat.le_of_ble_eq_true rfl) hn)
  have i46 := iz46 (Nat.le_trans (Nat.le_of_ble_eq_true rfl) hn)
  refine k_of (by decide) rfl rfl rfl (ls := [(2, 46), (0, a1), (0, a2), (9, 0)]) rfl ?_
  refine x_aload_n 0 dX13_putList_0 rfl rfl rfl rfl rfl ?_
  refine x_iconst 2 (z := 2) dX13_putList_1 rfl (by decide) rfl ?_
  refine y_Vv 56 (M := mX13_put_2) (As := [(0, 2)]) (st := []) dX13_putList_2 i46 rfl q2394 q2396 qs89 q380 q2397 rfl hmX13_put_2 rfl rfl rfl rfl rfl rfl rfl (k_mono h (fun r1 w2 h => ?_))
  refine x_aload_n 0 dX13_putList_5 rfl rfl rfl rfl rfl ?_
  refine x_aload_n 0 dX13_putList_6 rfl rfl rfl rfl rfl ?_
  refine y_getF 28 1 (c := 12) (z := 27) dX13_putList_7 i46 rfl in_X13 q930 rfl rfl rfl fn_46_1 (Nat.le_trans (Nat.le_of_ble_eq_true rfl) hn) rfl ?_
  refine x_iload_n 1 dX13_putList_10 rfl rfl rfl ?_
  refine y_Vi 94 (M := mX8_length) (As := [(0, a1)]) (st := [(2, 46)]) dX13_putList_11 i27 rfl q2418 q2028 q2029 q375 q2030 rfl hmX8_length rfl rfl rfl rfl rfl rfl rfl rfl (k_mono h (fun r3 w4 h => ?_))
  refine x_iconst 5 (z := 5) dX13_putList_14 rfl (by decide) rfl ?_
  refine x_isub dX13_putList_15 rfl ?_
  refine y_Vv 97 (M := mX13_putInt) (As := [(0, b_i (r3 - 5))]) (st := []) dX13_putList_16 i46 rfl q2403 q2405 qs91 q380 q2406 rfl hmX13_putInt rfl rfl rfl rfl rfl rfl rfl (k_mono h (fun r5 w6 h => ?_))
  refine x_iload_n 1 dX13_putList_19 rfl rfl rfl ?_
  refine x_istore_n 3 (ls' := [(2, 46), (0, a1), (0, a2), (0, a1)]) dX13_putList_20 rfl rfl rfl rfl ?_
  exact x_fg (fgk (fgd (fgk (fgk (fg0))))) h
theorem sX13_putList_21 {d n : Nat} {w : bW} {Q : Int → bW → Prop} {X : String → bW → Prop} (hn : 143 ≤ n) (a2 : Int) (a3 : Int) (h : if a3 = 10 then (Q 0 w) else (b_K d mX8_cell [(2, 27), (0, a3), (0, 2)] n w (fun r1 w2 => b_K d mX13_put [(2, 46), (0, r1), (0, a2)] n w2 (fun r3 w4 => b_K d mX8_cell [(2, 27), (0, a3), (0, 3)] n w4 (fun r5 w6 => LX13_putList_21 d n Q X a2 r5 w6) X) X) X)) : LX13_putList_21 d n Q X a2 a3 w := by
  have i27 := iz27 (Nat.le_trans (Nat.le_of_ble_eq_true rfl) hn)
  have i46 := iz46 (Nat.le_trans (Nat.le_of_ble_eq_true rfl) hn)
  refine x_iload_n 3 dX13_putList_21 rfl rfl rfl ?_
  refine x_bipush 10 (z := 10) dX13_putList_22 rfl (by decide) rfl ?_
  refine x_icmp_eq (t := 54) 30 dX13_putList_24 rfl rfl (b_ite h (fun hc h => ?_) (fun hc h => ?_))
  · exact y_vret dX13_putList_54 rfl h
  · refine x_aload_n 0 dX13_putList_27 rfl rfl rfl rfl rfl ?_
    refine x_aload_n 0 dX13_putList_28 rfl rfl rfl rfl rfl ?_
    refine y_getF 28 1 (c := 12) (z := 27) dX13_putList_29 i46 rfl in_X13 q930 rfl rfl rfl fn_46_1 (Nat.le_trans (Nat.le_of_ble_eq_true rfl) hn) rfl ?_
    refine x_iload_n 3 dX13_putList_32 rfl rfl rfl ?_
    refine x_iconst 2 (z := 2) dX13_putList_33 rfl (by decide) rfl ?_
    refine y_Vi 87 (M := mX8_cell) (As := [(0, a3), (0, 2)]) (st := [(2, 46)]) dX13_putList_34 i27 rfl q2412 q2010 q2011 q375 q2012 rfl hmX8_cell rfl rfl rfl rfl rfl rfl rfl rfl (k_mono h (fun r1 w2 h => ?_))
    refine x_iload_n 2 dX13_putList_37 rfl rfl rfl ?_
    refine y_Vv 52 (M := mX13_put) (As := [(0, r1), (0, a2)]) (st := []) dX13_putList_38 i46 rfl q2386 q2388 qs87 q380 q2389 rfl hmX13_put rfl rfl rfl rfl rfl rfl rfl (k_mono h (fun r3 w4 h => ?_))
    refine x_aload_n 0 dX13_putList_41 rfl rfl rfl rfl rfl ?_
    refine y_getF 28 1 (c := 12) (z := 27) dX13_putList_42 i46 rfl in_X13 q930 rfl rfl rfl fn_46_1 (Nat.le_trans (Nat.le_of_ble_eq_true rfl) hn) rfl ?_
    refine x_iload_n 3 dX13_putList_45 rfl rfl rfl ?_
    refine x_iconst 3 (z := 3) dX13_putList_46 rfl (by decide) rfl ?_
    refine y_Vi 87 (M := mX8_cell) (As := [(0, a3), (0, 3)]) (st := []) dX13_putList_47 i27 rfl q2412 q2010 q2011 q375 q2012 rfl hmX8_cell rfl rfl rfl rfl rfl rfl rfl rfl (k_mono h (fun r5 w6 h => ?_))
    refine x_istore_n 3 (ls' := [(2, 46), (9, 0), (0, a2), (0, r5)]) dX13_putList_50 rfl rfl rfl rfl ?_
    refine x_goto (-30) (q := 21) dX13_putList_51 rfl ?_
    exact x_fg (fgk (fgk (fgk (fgk (fg0))))) h
theorem rX13_putTree {d n : Nat} {w : bW} {Q : Int → bW → Prop} {X : String → bW → Prop} (hn : 143 ≤ n) (a1 : Int) (a2 : Int) (a3 : Int) (h : if a1 ≠ 12 then (b_K d mX8_cell [(2, 27), (0, a1), (0, 4)] n w (fun r1 w2 => b_K d mX13_putTree [(2, 46), (0, r1), (0, a2), (0, a3)] n w2 (fun r3 w4 => b_K d mX8_cell [(2, 27), (0, a1), (0, 3)] n w4 (fun r5 w6 => if r5 ≠ 0 then (b_K d mX13_two [(2, 46), (0, 7), (0, 4)] n w6 (fun r7 w8 => b_K d mX8_cell [(2, 27), (0, a1), (0, 2)] n w8 (fun r9 w10 => b_K d mX13_put [(2, 46), (0, r9), (0, a2)] n w10 (fun r11 w12 => b_K d mX8_cell [(2, 27), (0, a1), (0, 3)] n w12 (fun r13 w14 => b_K d mX13_put [(2, 46), (0, r13), (0, a3)] n w14 (fun r15 w16 => b_K d mX8_cell [(2, 27), (0, a1), (0, 5)] n w16 (fun r17 w18 => b_K d mX13_putTree [(2, 46), (0, r17), (0, a2), (0, a3)] n w18 (fun r19 w20 => Q 0 w20) X) X) X) X) X) X) X) else (b_K d mX8_cell [(2, 27), (0, a1), (0, 2)] n w6 (fun r21 w22 => b_K d mX13_put [(2, 46), (0, r21), (0, a2)] n w22 (fun r23 w24 => b_K d mX8_cell [(2, 27), (0, a1), (0, 5)] n w24 (fun r25 w26 => b_K d mX13_putTree [(2, 46), (0, r25), (0, a2), (0, a3)] n w26 (fun r27 w28 => Q 0 w28) X) X) X) X)) X) X) X) else (Q 0 w)) : b_K (d + 1) mX13_putTree [(2, 46), (0, a1), (0, a2), (0, a3)] n w Q X := by
  have i27 := iz27 (Nat.le_trans (Nat.le_of_ble_eq_true rfl) hn)
  have i46 := iz46 (Nat.le_trans (Nat.le_of_ble_eq_true rfl) hn)
  refine k_of (by decide) rfl rfl rfl (ls := [(2, 46), (0, a1), (0, a2), (0, a3)]) rfl ?_
  refine x_iload_n 1 dX13_putTree_0 rfl rfl rfl ?_
  refine x_bipush 12 (z := 12) dX13_putTree_1 rfl (by decide) rfl ?_
  refine x_icmp_ne (t := 7) 4 dX13_putTree_3 rfl rfl (b_ite h (fun hc h => ?_) (fun hc h => ?_))
  · refine x_aload_n 0 dX13_putTree_7 rfl rfl rfl rfl rfl ?_
    refine x_aload_n 0 dX13_putTree_8 rfl rfl rfl rfl rfl ?_
    refine y_getF 28 1 (c := 12) (z := 27) dX13_putTree_9 i46 rfl in_X13 q930 rfl rfl rfl fn_46_1 (Nat.le_trans (Nat.le_of_ble_eq_true rfl) hn) rfl ?_
    refine x_iload_n 1 dX13_putTree_12 rfl rfl rfl ?_
    refine x_iconst 4 (z := 4) dX13_putTree_13 rfl (by decide) rfl ?_
    refine y_Vi 87 (M := mX8_cell) (As := [(0, a1), (0, 4)]) (st := [(2, 46)]) dX13_putTree_14 i27 rfl q2412 q2010 q2011 q375 q2012 rfl hmX8_cell rfl rfl rfl rfl rfl rfl rfl rfl (k_mono h (fun r1 w2 h => ?_))
    refine x_iload_n 2 dX13_putTree_17 rfl rfl rfl ?_
    refine x_iload_n 3 dX13_putTree_18 rfl rfl rfl ?_
    refine y_Vv 100 (M := mX13_putTree) (As := [(0, r1), (0, a2), (0, a3)]) (st := []) dX13_putTree_19 i46 rfl q2419 q2421 qs94 q380 q2422 rfl hmX13_putTree rfl rfl rfl rfl rfl rfl rfl (k_mono h (fun r3 w4 h => ?_))
    refine x_aload_n 0 dX13_putTree_22 rfl rfl rfl rfl rfl ?_
    refine y_getF 28 1 (c := 12) (z := 27) dX13_putTree_23 i46 rfl in_X13 q930 rfl rfl rfl fn_46_1 (Nat.le_trans (Nat.le_of_ble_eq_true rfl) hn) rfl ?_
    refine x_iload_n 1 dX13_putTree_26 rfl rfl rfl ?_
    refine x_iconst 3 (z := 3) dX13_putTree_27 rfl (by decide) rfl ?_
    refine y_Vi 87 (M := mX8_cell) (As := [(0, a1), (0, 3)]) (st := []) dX13_putTree_28 i27 rfl q2412 q2010 q2011 q375 q2012 rfl hmX8_cell rfl rfl rfl rfl rfl rfl rfl rfl (k_mono h (fun r5 w6 h => ?_))
    refine x_if_ne (t := 51) 20 dX13_putTree_31 rfl rfl (b_ite h (fun hc h => ?_) (fun hc h => ?_))
    · refine x_aload_n 0 dX13_putTree_51 rfl rfl rfl rfl rfl ?_
      refine x_bipush 7 (z := 7) dX13_putTree_52 rfl (by decide) rfl ?_
      refine x_iconst 4 (z := 4) dX13_putTree_54 rfl (by decide) rfl ?_
      refine y_Vv 63 (M := mX13_two) (As := [(0, 7), (0, 4)]) (st := []) dX13_putTree_55 i46 rfl q2390 q2392 qs88 q380 q2393 rfl hmX13_two rfl rfl rfl rfl rfl rfl rfl (k_mono h (fun r7 w8 h => ?_))
      refine x_aload_n 0 dX13_putTree_58 rfl rfl rfl rfl rfl ?_
      refine x_aload_n 0 dX13_putTree_59 rfl rfl rfl rfl rfl ?_
      refine y_getF 28 1 (c := 12) (z := 27) dX13_putTree_60 i46 rfl in_X13 q930 rfl rfl rfl fn_46_1 (Nat.le_trans (Nat.le_of_ble_eq_true rfl) hn) rfl ?_
      refine x_iload_n 1 dX13_putTree_63 rfl rfl rfl ?_
      refine x_iconst 2 (z := 2) dX13_putTree_64 rfl (by decide) rfl ?_
      refine y_Vi 87 (M := mX8_cell) (As := [(0, a1), (0, 2)]) (st := [(2, 46)]) dX13_putTree_65 i27 rfl q2412 q2010 q2011 q375 q2012 rfl hmX8_cell rfl rfl rfl rfl rfl rfl rfl rfl (k_mono h (fun r9 w10 h => ?_))
      refine x_iload_n 2 dX13_putTree_68 rfl rfl rfl ?_
      refine y_Vv 52 (M := mX13_put) (As := [(0, r9), (0, a2)]) (st := []) dX13_putTree_69 i46 rfl q2386 q2388 qs87 q380 q2389 rfl hmX13_put rfl rfl rfl rfl rfl rfl rfl (k_mono h (fun r11 w12 h => ?_))
      refine x_aload_n 0 dX13_putTree_72 rfl rfl rfl rfl rfl ?_
      refine x_aload_n 0 dX13_putTree_73 rfl rfl rfl rfl rfl ?_
      refine y_getF 28 1 (c := 12) (z := 27) dX13_putTree_74 i46 rfl in_X13 q930 rfl rfl rfl fn_46_1 (Nat.le_trans (Nat.le_of_ble_eq_true rfl) hn) rfl ?_
      refine x_iload_n 1 dX13_putTree_77 rfl rfl rfl ?_
      refine x_iconst 3 (z := 3) dX13_putTree_78 rfl (by decide) rfl ?_
      refine y_Vi 87 (M := mX8_cell) (As := [(0, a1), (0, 3)]) (st := [(2, 46)]) dX13_putTree_79 i27 rfl q2412 q2010 q2011 q375 q2012 rfl hmX8_cell rfl rfl rfl rfl rfl rfl rfl rfl (k_mono h (fun r13 w14 h => ?_))
      refine x_iload_n 3 dX13_putTree_82 rfl rfl rfl ?_
      refine y_Vv 52 (M := mX13_put) (As := [(0, r13), (0, a3)]) (st := []) dX13_putTree_83 i46 rfl q2386 q2388 qs87 q380 q2389 rfl hmX13_put rfl rfl rfl rfl rfl rfl rfl (k_mono h (fun r15 w16 h => ?_))
      refine x_aload_n 0 dX13_putTree_86 rfl rfl rfl rfl rfl ?_
      refine x_aload_n 0 dX13_putTree_87 rfl rfl rfl rfl rfl ?_
      refine y_getF 28 1 (c := 12) (z := 27) dX13_putTree_88 i46 rfl in_X13 q930 rfl rfl rfl fn_46_1 (Nat.le_trans (Nat.le_of_ble_eq_true rfl) hn) rfl ?_
      refine x_iload_n 1 dX13_putTree_91 rfl rfl rfl ?_
      refine x_iconst 5 (z := 5) dX13_putTree_92 rfl (by decide) rfl ?_
      refine y_Vi 87 (M := mX8_cell) (As := [(0, a1), (0, 5)]) (st := [(2, 46)]) dX13_putTree_93 i27 rfl q2412 q2010 q2011 q375 q2012 rfl hmX8_cell rfl rfl rfl rfl rfl rfl rfl rfl (k_mono h (fun r17 w18 h => ?_))
      refine x_iload_n 2 dX13_putTree_96 rfl rfl rfl ?_
      refine x_iload_n 3 dX13_putTree_97 rfl rfl rfl ?_
      refine y_Vv 100 (M := mX13_putTree) (As := [(0, r17), (0, a2), (0, a3)]) (st := []) dX13_putTree_98 i46 rfl q2419 q2421 qs94 q380 q2422 rfl hmX13_putTree rfl rfl rfl rfl rfl rfl rfl (k_mono h (fun r19 w20 h => ?_))
      exact y_vret dX13_putTree_101 rfl h
    · refine x_aload_n 0 dX13_putTree_34 rfl rfl rfl rfl rfl ?_
      refine x_aload_n 0 dX13_putTree_35 rfl rfl rfl rfl rfl ?_
      refine y_getF 28 1 (c := 12) (z := 27) dX13_putTree_36 i46 rfl in_X13 q930 rfl rfl rfl fn_46_1 (Nat.le_trans (Nat.le_of_ble_eq_true rfl) hn) rfl ?_
      refine x_iload_n 1 dX13_putTree_39 rfl rfl rfl ?_
      refine x_iconst 2 (z := 2) dX13_putTree_40 rfl (by decide) rfl ?_
      refine y_Vi 87 (M := mX8_cell) (As := [(0, a1), (0, 2)]) (st := [(2, 46)]) dX13_putTree_41 i27 rfl q2412 q2010 q2011 q375 q2012 rfl hmX8_cell rfl rfl rfl rfl rfl rfl rfl rfl (k_mono h (fun r21 w22 h => ?_))
      refine x_iload_n 2 dX13_putTree_44 rfl rfl rfl ?_
      refine y_Vv 52 (M := mX13_put) (As := [(0, r21), (0, a2)]) (st := []) dX13_putTree_45 i46 rfl q2386 q2388 qs87 q380 q2389 rfl hmX13_put rfl rfl rfl rfl rfl rfl rfl (k_mono h (fun r23 w24 h => ?_))
      refine x_goto 38 (q := 86) dX13_putTree_48 rfl ?_
      refine x_aload_n 0 dX13_putTree_86 rfl rfl rfl rfl rfl ?_
      refine x_aload_n 0 dX13_putTree_87 rfl rfl rfl rfl rfl ?_
      refine y_getF 28 1 (c := 12) (z := 27) dX13_putTree_88 i46 rfl in_X13 q930 rfl rfl rfl fn_46_1 (Nat.le_trans (Nat.le_of_ble_eq_true rfl) hn) rfl ?_
      refine x_iload_n 1 dX13_putTree_91 rfl rfl rfl ?_
      refine x_iconst 5 (z := 5) dX13_putTree_92 rfl (by decide) rfl ?_
      refine y_Vi 87 (M := mX8_cell) (As := [(0, a1), (0, 5)]) (st := [(2, 46)]) dX13_putTree_93 i27 rfl q2412 q2010 q2011 q375 q2012 rfl hmX8_cell rfl rfl rfl rfl rfl rfl rfl rfl (k_mono h (fun r25 w26 h => ?_))
      refine x_iload_n 2 dX13_putTree_96 rfl rfl rfl ?_
      refine x_iload_n 3 dX13_putTree_97 rfl rfl rfl ?_
      refine y_Vv 100 (M := mX13_putTree) (As := [(0, r25), (0, a2), (0, a3)]) (st := []) dX13_putTree_98 i46 rfl q2419 q2421 qs94 q380 q2422 rfl hmX13_putTree rfl rfl rfl rfl rfl rfl rfl (k_mono h (fun r27 w28 h => ?_))
      exact y_vret dX13_putTree_101 rfl h
  · exact y_vret dX13_putTree_6 rfl h
abbrev LX13_putNumber_77 (d n : Nat) (Q : Int → bW → Prop) (X : String → bW → Prop) (a2 : Int) (a4 : Int) (w : bW) : Prop := b_Y (d + 1) mX13_putNumber n Q X 77 [(2, 46), (9, 0), (0, a2), (9, 0), (0, a4)] [] w
theorem rX13_putNumber {d n : Nat} {w : bW} {Q : Int → bW → Prop} {X : String → bW → Prop} (hn : 143 ≤ n) (a1 : Int) (h : b_K d mX13_put_2 [(2, 46), (0, 0)] n w (fun r1 w2 => b_K d mX8_load [(2, 27), (0, a1), (2, 47)] n w2 (fun r3 w4 => b_K d mX6_bits [(2, 47)] n w4 (fun r5 w6 => b_K d mX6_at [(2, 47), (0, 0)] n w6 (fun r7 w8 => if w8 47 2 = 0 then (if r5 ≤ 6 then (b_K d mX13_put_2 [(2, 46), (0, b_or (b_or (b_and r7 63) 0) 0)] n w8 (fun r9 w10 => LX13_putNumber_77 d n Q X r5 6 w10) X) else (b_K d mX13_put_2 [(2, 46), (0, b_or (b_or (b_and r7 63) 0) 128)] n w8 (fun r11 w12 => LX13_putNumber_77 d n Q X r5 6 w12) X)) else (if r5 ≤ 6 then (b_K d mX13_put_2 [(2, 46), (0, b_or (b_or (b_and r7 63) 64) 0)] n w8 (fun r13 w14 => LX13_putNumber_77 d n Q X r5 6 w14) X) else (b_K d mX13_put_2 [(2, 46), (0, b_or (b_or (b_and r7 63) 64) 128)] n w8 (fun r15 w16 => LX13_putNumber_77 d n Q X r5 6 w16) X))) X) X) X) X) : b_K (d + 1) mX13_putNumber [(2, 46), (0, a1)] n w Q X := by
  have i27 := iz27 (Nat.le_trans (Nat.le_of_ble_eq_true rfl) hn)
  have i46 := iz46 (Nat.le_trans (Nat.le_of_ble_eq_true rfl) hn)
  have i47 := iz47 (Nat.le_trans (Nat.le_of_ble_eq_true rfl) hn)
  refine k_of (by decide) rfl rfl rfl (ls := [(2, 46), (0, a1), (9, 0), (9, 0), (9, 0)]) rfl ?_
  refine x_aload_n 0 dX13_putNumber_0 rfl rfl rfl rfl rfl ?_
  refine x_iconst 0 (z := 0) dX13_putNumber_1 rfl (by decide) rfl ?_
  refine y_Vv 56 (M := mX13_put_2) (As := [(0, 0)]) (st := []) dX13_putNumber_2 i46 rfl q2394 q2396 qs89 q380 q2397 rfl hmX13_put_2 rfl rfl rfl rfl rfl rfl rfl (k_mono h (fun r1 w2 h => ?_))
  refine x_aload_n 0 dX13_putNumber_5 rfl rfl rfl rfl rfl ?_
  refine y_getF 28 1 (c := 12) (z := 27) dX13_putNumber_6 i46 rfl in_X13 q930 rfl rfl rfl fn_46_1 (Nat.le_trans (Nat.le_of_ble_eq_true rfl) hn) rfl ?_
  refine x_iload_n 1 dX13_putNumber_9 rfl rfl rfl ?_
  refine x_aload_n 0 dX13_putNumber_10 rfl rfl rfl rfl rfl ?_
  refine y_getF 14 5 (c := 12) (z := 47) dX13_putNumber_11 i46 rfl in_X13 q934 rfl rfl rfl fn_46_5 (Nat.le_trans (Nat.le_of_ble_eq_true rfl) hn) rfl ?_
  refine y_Vv 112 (M := mX8_load) (As := [(0, a1), (2, 47)]) (st := []) dX13_putNumber_14 i27 rfl q2427 q2104 q2105 q375 q2106 rfl hmX8_load rfl rfl rfl rfl rfl rfl rfl (k_mono h (fun r3 w4 h => ?_))
  refine x_aload_n 0 dX13_putNumber_17 rfl rfl rfl rfl rfl ?_
  refine y_getF 14 5 (c := 12) (z := 47) dX13_putNumber_18 i46 rfl in_X13 q934 rfl rfl rfl fn_46_5 (Nat.le_trans (Nat.le_of_ble_eq_true rfl) hn) rfl ?_
  refine y_Vi 116 (M := mX6_bits) (As := []) (st := []) dX13_putNumber_21 i47 rfl q2428 q1752 q1753 q373 q1754 rfl hmX6_bits rfl rfl rfl rfl rfl rfl rfl rfl (k_mono h (fun r5 w6 h => ?_))
  refine x_istore_n 2 (ls' := [(2, 46), (0, a1), (0, r5), (9, 0), (9, 0)]) dX13_putNumber_24 rfl rfl rfl rfl ?_
  refine x_aload_n 0 dX13_putNumber_25 rfl rfl rfl rfl rfl ?_
  refine y_getF 14 5 (c := 12) (z := 47) dX13_putNumber_26 i46 rfl in_X13 q934 rfl rfl rfl fn_46_5 (Nat.le_trans (Nat.le_of_ble_eq_true rfl) hn) rfl ?_
  refine x_iconst 0 (z := 0) dX13_putNumber_29 rfl (by decide) rfl ?_
  refine y_Vi 120 (M := mX6_at) (As := [(0, 0)]) (st := []) dX13_putNumber_30 i47 rfl q2429 q1962 q1963 q373 q1964 rfl hmX6_at rfl rfl rfl rfl rfl rfl rfl rfl (k_mono h (fun r7 w8 h => ?_))
  refine x_bipush 63 (z := 63) dX13_putNumber_33 rfl (by decide) rfl ?_
  refine x_iand dX13_putNumber_35 rfl ?_
  refine x_istore_n 3 (ls' := [(2, 46), (0, a1), (0, r5), (0, b_and r7 63), (9, 0)]) dX13_putNumber_36 rfl rfl rfl rfl ?_
  refine x_aload_n 0 dX13_putNumber_37 rfl rfl rfl rfl rfl ?_
  refine x_iload_n 3 dX13_putNumber_38 rfl rfl rfl ?_
  refine x_aload_n 0 dX13_putNumber_39 rfl rfl rfl rfl rfl ?_
  refine y_getF 14 5 (c := 12) (z := 47) dX13_putNumber_40 i46 rfl in_X13 q934 rfl rfl rfl fn_46_5 (Nat.le_trans (Nat.le_of_ble_eq_true rfl) hn) rfl ?_
  refine y_get 123 2 (c := 5) (z := w8 47 2) dX13_putNumber_43 i47 rfl in_X6 q639 rfl rfl rfl rfl rfl ?_
  refine x_if_eq (t := 54) 8 dX13_putNumber_46 rfl rfl (b_ite h (fun hc h => ?_) (fun hc h => ?_))
  · refine x_iconst 0 (z := 0) dX13_putNumber_54 rfl (by decide) rfl ?_
    refine x_ior dX13_putNumber_55 rfl ?_
    refine x_iload_n 2 dX13_putNumber_56 rfl rfl rfl ?_
    refine x_bipush 6 (z := 6) dX13_putNumber_57 rfl (by decide) rfl ?_
    refine x_icmp_le (t := 68) 9 dX13_putNumber_59 rfl rfl (b_ite h (fun hc h => ?_) (fun hc h => ?_))
    · refine x_iconst 0 (z := 0) dX13_putNumber_68 rfl (by decide) rfl ?_
      refine x_ior dX13_putNumber_69 rfl ?_
      refine y_Vv 56 (M := mX13_put_2) (As := [(0, b_or (b_or (b_and r7 63) 0) 0)]) (st := []) dX13_putNumber_70 i46 rfl q2394 q2396 qs89 q380 q2397 rfl hmX13_put_2 rfl rfl rfl rfl rfl rfl rfl (k_mono h (fun r9 w10 h => ?_))
      refine x_bipush 6 (z := 6) dX13_putNumber_73 rfl (by decide) rfl ?_
      refine x_istore 4 (ls' := [(2, 46), (0, a1), (0, r5), (0, b_and r7 63), (0, 6)]) dX13_putNumber_75 rfl rfl rfl ?_
      exact x_fg (fgk (fgd (fgk (fgd (fgk (fg0)))))) h
    · refine x_sipush 128 (z := 128) dX13_putNumber_62 rfl (by decide) rfl ?_
      refine x_goto 4 (q := 69) dX13_putNumber_65 rfl ?_
      refine x_ior dX13_putNumber_69 rfl ?_
      refine y_Vv 56 (M := mX13_put_2) (As := [(0, b_or (b_or (b_and r7 63) 0) 128)]) (st := []) dX13_putNumber_70 i46 rfl q2394 q2396 qs89 q380 q2397 rfl hmX13_put_2 rfl rfl rfl rfl rfl rfl rfl (k_mono h (fun r11 w12 h => ?_))
      refine x_bipush 6 (z := 6) dX13_putNumber_73 rfl (by decide) rfl ?_
      refine x_istore 4 (ls' := [(2, 46), (0, a1), (0, r5), (0, b_and r7 63), (0, 6)]) dX13_putNumber_75 rfl rfl rfl ?_
      exact x_fg (fgk (fgd (fgk (fgd (fgk (fg0)))))) h
  · refine x_bipush 64 (z := 64) dX13_putNumber_49 rfl (by decide) rfl ?_
    refine x_goto 4 (q := 55) dX13_putNumber_51 rfl ?_
    refine x_ior dX13_putNumber_55 rfl ?_
    refine x_iload_n 2 dX13_putNumber_56 rfl rfl rfl ?_
    refine x_bipush 6 (z := 6) dX13_putNumber_57 rfl (by decide) rfl ?_
    refine x_icmp_le (t := 68) 9 dX13_putNumber_59 rfl rfl (b_ite h (fun hc h => ?_) (fun hc h => ?_))
    · refine x_iconst 0 (z := 0) dX13_putNumber_68 rfl (by decide) rfl ?_
      refine x_ior dX13_putNumber_69 rfl ?_
      refine y_Vv 56 (M := mX13_put_2) (As := [(0, b_or (b_or (b_and r7 63) 64) 0)]) (st := []) dX13_putNumber_70 i46 rfl q2394 q2396 qs89 q380 q2397 rfl hmX13_put_2 rfl rfl rfl rfl rfl rfl rfl (k_mono h (fun r13 w14 h => ?_))
      refine x_bipush 6 (z := 6) dX13_putNumber_73 rfl (by decide) rfl ?_
      refine x_istore 4 (ls' := [(2, 46), (0, a1), (0, r5), (0, b_and r7 63), (0, 6)]) dX13_putNumber_75 rfl rfl rfl ?_
      exact x_fg (fgk (fgd (fgk (fgd (fgk (fg0)))))) h
    · refine x_sipush 128 (z := 128) dX13_putNumber_62 rfl (by decide) rfl ?_
      refine x_goto 4 (q := 69) dX13_putNumber_65 rfl ?_
      refine x_ior dX13_putNumber_69 rfl ?_
      refine y_Vv 56 (M := mX13_put_2) (As := [(0, b_or (b_or (b_and r7 63) 64) 128)]) (st := []) dX13_putNumber_70 i46 rfl q2394 q2396 qs89 q380 q2397 rfl hmX13_put_2 rfl rfl rfl rfl rfl rfl rfl (k_mono h (fun r15 w16 h => ?_))
      refine x_bipush 6 (z := 6) dX13_putNumber_73 rfl (by decide) rfl ?_
      refine x_istore 4 (ls' := [(2, 46), (0, a1), (0, r5), (0, b_and r7 63), (0, 6)]) dX13_putNumber_75 rfl rfl rfl ?_
      exact x_fg (fgk (fgd (fgk (fgd (fgk (fg0)))))) h
theorem sX13_putNumber_77 {d n : Nat} {w : bW} {Q : Int → bW → Prop} {X : String → bW → Prop} (hn : 143 ≤ n) (a2 : Int) (a4 : Int) (h : if a2 ≤ a4 then (Q 0 w) else (b_K d mX13_bitsAt [(2, 46), (0, a4)] n w (fun r1 w2 => if a2 ≤ b_i (a4 + 7) then (b_K d mX13_put_2 [(2, 46), (0, b_or r1 0)] n w2 (fun r3 w4 => LX13_putNumber_77 d n Q X a2 (b_i (a4 + 7)) w4) X) else (b_K d mX13_put_2 [(2, 46), (0, b_or r1 128)] n w2 (fun r5 w6 => LX13_putNumber_77 d n Q X a2 (b_i (a4 + 7)) w6) X)) X)) : LX13_putNumber_77 d n Q X a2 a4 w := by
  have i46 := iz46 (Nat.le_trans (Nat.le_of_ble_eq_true rfl) hn)
  refine x_iload 4 dX13_putNumber_77 rfl rfl ?_
  refine x_iload_n 2 dX13_putNumber_79 rfl rfl rfl ?_
  refine x_icmp_ge (t := 116) 36 dX13_putNumber_80 rfl rfl (b_ite h (fun hc h => ?_) (fun hc h => ?_))
  · exact y_vret dX13_putNumber_116 rfl h
  · refine x_aload_n 0 dX13_putNumber_83 rfl rfl rfl rfl rfl ?_
    refine x_aload_n 0 dX13_putNumber_84 rfl rfl rfl rfl rfl ?_
    refine x_iload 4 dX13_putNumber_85 rfl rfl ?_
    refine y_Vi 127 (M := mX13_bitsAt) (As := [(0, a4)]) (st := [(2, 46)]) dX13_putNumber_87 i46 rfl q2430 q2432 qs96 q380 q2433 rfl hmX13_bitsAt rfl rfl rfl rfl rfl rfl rfl rfl (k_mono h (fun r1 w2 h => ?_))
    refine x_iload_n 2 dX13_putNumber_90 rfl rfl rfl ?_
    refine x_iload 4 dX13_putNumber_91 rfl rfl ?_
    refine x_bipush 7 (z := 7) dX13_putNumber_93 rfl (by decide) rfl ?_
    refine x_iadd dX13_putNumber_95 rfl ?_
    refine x_icmp_le (t := 105) 9 dX13_putNumber_96 rfl rfl (b_ite h (fun hc h => ?_) (fun hc h => ?_))
    · refine x_iconst 0 (z := 0) dX13_putNumber_105 rfl (by decide) rfl ?_
      refine x_ior dX13_putNumber_106 rfl ?_
      refine y_Vv 56 (M := mX13_put_2) (As := [(0, b_or r1 0)]) (st := []) dX13_putNumber_107 i46 rfl q2394 q2396 qs89 q380 q2397 rfl hmX13_put_2 rfl rfl rfl rfl rfl rfl rfl (k_mono h (fun r3 w4 h => ?_))
      refine x_iinc 4 7 (ls' := [(2, 46), (9, 0), (0, a2), (9, 0), (0, b_i (a4 + 7))]) dX13_putNumber_110 rfl rfl rfl rfl ?_
      refine x_goto (-36) (q := 77) dX13_putNumber_113 rfl ?_
      exact x_fg (fgk (fgk (fgk (fgk (fgk (fg0)))))) h
    · refine x_sipush 128 (z := 128) dX13_putNumber_99 rfl (by decide) rfl ?_
      refine x_goto 4 (q := 106) dX13_putNumber_102 rfl ?_
      refine x_ior dX13_putNumber_106 rfl ?_
      refine y_Vv 56 (M := mX13_put_2) (As := [(0, b_or r1 128)]) (st := []) dX13_putNumber_107 i46 rfl q2394 q2396 qs89 q380 q2397 rfl hmX13_put_2 rfl rfl rfl rfl rfl rfl rfl (k_mono h (fun r5 w6 h => ?_))
      refine x_iinc 4 7 (ls' := [(2, 46), (9, 0), (0, a2), (9, 0), (0, b_i (a4 + 7))]) dX13_putNumber_110 rfl rfl rfl rfl ?_
      refine x_goto (-36) (q := 77) dX13_putNumber_113 rfl ?_
      exact x_fg (fgk (fgk (fgk (fgk (fgk (fg0)))))) h
theorem rX13_bitsAt {d n : Nat} {w : bW} {Q : Int → bW → Prop} {X : String → bW → Prop} (hn : 143 ≤ n) (a1 : Int) (h : b_K d mX6_at [(2, 47), (0, b_shr a1 4)] n w (fun r1 w2 => b_K d mX6_at [(2, 47), (0, b_i ((b_shr a1 4) + 1))] n w2 (fun r3 w4 => Q (b_and (b_ush (b_or r1 (b_shl r3 16)) (b_and a1 15)) 127) w4) X) X) : b_K (d + 1) mX13_bitsAt [(2, 46), (0, a1)] n w Q X := by
  have i46 := iz46 (Nat.le_trans (Nat.le_of_ble_eq_true rfl) hn)
  have i47 := iz47 (Nat.le_trans (Nat.le_of_ble_eq_true rfl) hn)
  refine k_of (by decide) rfl rfl rfl (ls := [(2, 46), (0, a1), (9, 0)]) rfl ?_
  refine x_aload_n 0 dX13_bitsAt_0 rfl rfl rfl rfl rfl ?_
  refine y_getF 14 5 (c := 12) (z := 47) dX13_bitsAt_1 i46 rfl in_X13 q934 rfl rfl rfl fn_46_5 (Nat.le_trans (Nat.le_of_ble_eq_true rfl) hn) rfl ?_
  refine x_iload_n 1 dX13_bitsAt_4 rfl rfl rfl ?_
  refine x_iconst 4 (z := 4) dX13_bitsAt_5 rfl (by decide) rfl ?_
  refine x_ishr dX13_bitsAt_6 rfl ?_
  refine y_Vi 120 (M := mX6_at) (As := [(0, b_shr a1 4)]) (st := []) dX13_bitsAt_7 i47 rfl q2429 q1962 q1963 q373 q1964 rfl hmX6_at rfl rfl rfl rfl rfl rfl rfl rfl (k_mono h (fun r1 w2 h => ?_))
  refine x_aload_n 0 dX13_bitsAt_10 rfl rfl rfl rfl rfl ?_
  refine y_getF 14 5 (c := 12) (z := 47) dX13_bitsAt_11 i46 rfl in_X13 q934 rfl rfl rfl fn_46_5 (Nat.le_trans (Nat.le_of_ble_eq_true rfl) hn) rfl ?_
  refine x_iload_n 1 dX13_bitsAt_14 rfl rfl rfl ?_
  refine x_iconst 4 (z := 4) dX13_bitsAt_15 rfl (by decide) rfl ?_
  refine x_ishr dX13_bitsAt_16 rfl ?_
  refine x_iconst 1 (z := 1) dX13_bitsAt_17 rfl (by decide) rfl ?_
  refine x_iadd dX13_bitsAt_18 rfl ?_
  refine y_Vi 120 (M := mX6_at) (As := [(0, b_i ((b_shr a1 4) + 1))]) (st := [(0, r1)]) dX13_bitsAt_19 i47 rfl q2429 q1962 q1963 q373 q1964 rfl hmX6_at rfl rfl rfl rfl rfl rfl rfl rfl (k_mono h (fun r3 w4 h => ?_))
  refine x_bipush 16 (z := 16) dX13_bitsAt_22 rfl (by decide) rfl ?_
  refine x_ishl dX13_bitsAt_24 rfl ?_
  refine x_ior dX13_bitsAt_25 rfl ?_
  refine x_istore_n 2 (ls' := [(2, 46), (0, a1), (0, b_or r1 (b_shl r3 16))]) dX13_bitsAt_26 rfl rfl rfl rfl ?_
  refine x_iload_n 2 dX13_bitsAt_27 rfl rfl rfl ?_
  refine x_iload_n 1 dX13_bitsAt_28 rfl rfl rfl ?_
  refine x_bipush 15 (z := 15) dX13_bitsAt_29 rfl (by decide) rfl ?_
  refine x_iand dX13_bitsAt_31 rfl ?_
  refine x_iushr dX13_bitsAt_32 rfl ?_
  refine x_bipush 127 (z := 127) dX13_bitsAt_33 rfl (by decide) rfl ?_
  refine x_iand dX13_bitsAt_35 rfl ?_
  exact y_iret dX13_bitsAt_36 rfl h
theorem rX13_read {d n : Nat} {w : bW} {Q : Int → bW → Prop} {X : String → bW → Prop} (hn : 143 ≤ n) (a1 : Int) (a2 : Int) (h : b_K d mX8_count [(2, 27), (0, a1)] n (b_up (b_up w 46 8 a1) 46 9 1) (fun r1 w2 => if r1 = 0 then (Q 0 (b_up (b_up w2 46 10 r1) 46 12 0)) else (b_K d mX8_byteAt [(2, 27), (0, a1), (0, 0)] n (b_up (b_up w2 46 10 r1) 46 12 0) (fun r3 w4 => if r3 = 5 then (b_K d mX13_get [(2, 46), (0, a2)] n w4 (fun r5 w6 => if r5 = 0 then (Q 0 w6) else (if w6 46 9 ≠ w6 46 10 then (Q 0 w6) else (Q r5 w6))) X) else (Q 0 w4)) X)) X) : b_K (d + 1) mX13_read [(2, 46), (0, a1), (0, a2)] n w Q X := by
  have i27 := iz27 (Nat.le_trans (Nat.le_of_ble_eq_true rfl) hn)
  have i46 := iz46 (Nat.le_trans (Nat.le_of_ble_eq_true rfl) hn)
  refine k_of (by decide) rfl rfl rfl (ls := [(2, 46), (0, a1), (0, a2), (9, 0)]) rfl ?_
  refine x_aload_n 0 dX13_read_0 rfl rfl rfl rfl rfl ?_
  refine x_iload_n 1 dX13_read_1 rfl rfl rfl ?_
  refine x_put 135 8 (c := 12) dX13_read_2 i46 rfl in_X13 tyX13_ok nmX13 q939 rfl rfl rfl (Or.inl rfl) (Or.inl ⟨rfl, rfl⟩) rfl ?_
  refine x_aload_n 0 dX13_read_5 rfl rfl rfl rfl rfl ?_
  refine x_iconst 1 (z := 1) dX13_read_6 rfl (by decide) rfl ?_
  refine x_put 130 9 (c := 12) dX13_read_7 i46 rfl in_X13 tyX13_ok nmX13 q940 rfl rfl rfl (Or.inl rfl) (Or.inl ⟨rfl, rfl⟩) rfl ?_
  refine x_aload_n 0 dX13_read_10 rfl rfl rfl rfl rfl ?_
  refine x_aload_n 0 dX13_read_11 rfl rfl rfl rfl rfl ?_
  refine y_getF 28 1 (c := 12) (z := 27) dX13_read_12 i46 rfl in_X13 q930 rfl rfl rfl fn_46_1 (Nat.le_trans (Nat.le_of_ble_eq_true rfl) hn) rfl ?_
  refine x_iload_n 1 dX13_read_15 rfl rfl rfl ?_
  refine y_Vi 106 (M := mX8_count) (As := [(0, a1)]) (st := [(2, 46)]) dX13_read_16 i27 rfl q2402 q2087 q2088 q375 q2089 rfl hmX8_count rfl rfl rfl rfl rfl rfl rfl rfl (k_mono h (fun r1 w2 h => ?_))
  refine x_put 132 10 (c := 12) dX13_read_19 i46 rfl in_X13 tyX13_ok nmX13 q941 rfl rfl rfl (Or.inl rfl) (Or.inl ⟨rfl, rfl⟩) rfl ?_
  refine x_aload_n 0 dX13_read_22 rfl rfl rfl rfl rfl ?_
  refine x_iconst 0 (z := 0) dX13_read_23 rfl (by decide) rfl ?_
  refine x_put 138 12 (c := 12) dX13_read_24 i46 rfl in_X13 tyX13_ok nmX13 q943 rfl rfl rfl (Or.inl rfl) (Or.inl ⟨rfl, rfl⟩) rfl ?_
  refine x_aload_n 0 dX13_read_27 rfl rfl rfl rfl rfl ?_
  refine y_get 132 10 (c := 12) (z := r1) dX13_read_28 i46 rfl in_X13 q941 rfl rfl rfl rfl rfl ?_
  refine x_if_eq (t := 47) 16 dX13_read_31 rfl rfl (b_ite h (fun hc h => ?_) (fun hc h => ?_))
  · refine x_iconst 0 (z := 0) dX13_read_47 rfl (by decide) rfl ?_
    exact y_iret dX13_read_48 rfl h
  · refine x_aload_n 0 dX13_read_34 rfl rfl rfl rfl rfl ?_
    refine y_getF 28 1 (c := 12) (z := 27) dX13_read_35 i46 rfl in_X13 q930 rfl rfl rfl fn_46_1 (Nat.le_trans (Nat.le_of_ble_eq_true rfl) hn) rfl ?_
    refine x_iload_n 1 dX13_read_38 rfl rfl rfl ?_
    refine x_iconst 0 (z := 0) dX13_read_39 rfl (by decide) rfl ?_
    refine y_Vi 109 (M := mX8_byteAt) (As := [(0, a1), (0, 0)]) (st := []) dX13_read_40 i27 rfl q2407 q2092 q2093 q375 q2094 rfl hmX8_byteAt rfl rfl rfl rfl rfl rfl rfl rfl (k_mono h (fun r3 w4 h => ?_))
    refine x_iconst 5 (z := 5) dX13_read_43 rfl (by decide) rfl ?_
    refine x_icmp_eq (t := 49) 5 dX13_read_44 rfl rfl (b_ite h (fun hc h => ?_) (fun hc h => ?_))
    · refine x_aload_n 0 dX13_read_49 rfl rfl rfl rfl rfl ?_
      refine x_iload_n 2 dX13_read_50 rfl rfl rfl ?_
      refine y_Vi 141 (M := mX13_get) (As := [(0, a2)]) (st := []) dX13_read_51 i46 rfl q2867 q2869 qs152 q380 q2870 rfl hmX13_get rfl rfl rfl rfl rfl rfl rfl rfl (k_mono h (fun r5 w6 h => ?_))
      refine x_istore_n 3 (ls' := [(2, 46), (0, a1), (0, a2), (0, r5)]) dX13_read_54 rfl rfl rfl rfl ?_
      refine x_iload_n 3 dX13_read_55 rfl rfl rfl ?_
      refine x_if_eq (t := 74) 18 dX13_read_56 rfl rfl (b_ite h (fun hc h => ?_) (fun hc h => ?_))
      · refine x_iconst 0 (z := 0) dX13_read_74 rfl (by decide) rfl ?_
        exact y_iret dX13_read_75 rfl h
      · refine x_aload_n 0 dX13_read_59 rfl rfl rfl rfl rfl ?_
        refine y_get 130 9 (c := 12) (z := w6 46 9) dX13_read_60 i46 rfl in_X13 q940 rfl rfl rfl rfl rfl ?_
        refine x_aload_n 0 dX13_read_63 rfl rfl rfl rfl rfl ?_
        refine y_get 132 10 (c := 12) (z := w6 46 10) dX13_read_64 i46 rfl in_X13 q941 rfl rfl rfl rfl rfl ?_
        refine x_icmp_ne (t := 74) 7 dX13_read_67 rfl rfl (b_ite h (fun hc h => ?_) (fun hc h => ?_))
        · refine x_iconst 0 (z := 0) dX13_read_74 rfl (by decide) rfl ?_
          exact y_iret dX13_read_75 rfl h
        · refine x_iload_n 3 dX13_read_70 rfl rfl rfl ?_
          refine x_goto 4 (q := 75) dX13_read_71 rfl ?_
          exact y_iret dX13_read_75 rfl h
    · refine x_iconst 0 (z := 0) dX13_read_47 rfl (by decide) rfl ?_
      exact y_iret dX13_read_48 rfl h
theorem rX13_get {d n : Nat} {w : bW} {Q : Int → bW → Prop} {X : String → bW → Prop} (hn : 143 ≤ n) (a1 : Int) (h : (0 ≤ a1 ∧ a1 < 60000) ∧ (if w 20 a1 = 0 then (b_K d mX13_eat [(2, 46), (0, 3), (0, 11)] n w (fun r2 w3 => if r2 = 0 then (Q 0 w3) else (Q 2 w3)) X) else (if w 20 a1 = 1 then (b_K d mX13_eat [(2, 46), (0, 3), (0, 10)] n w (fun r4 w5 => if r4 = 0 then (b_K d mX13_eat [(2, 46), (0, 3), (0, 3)] n w5 (fun r6 w7 => if r6 = 0 then (Q 0 w7) else (Q 4 w7)) X) else (Q 6 w5)) X) else (if w 20 a1 = 5 ∨ w 20 a1 = 6 ∨ w 20 a1 = 7 then (b_K d mX13_getBytes [(2, 46), (0, w 20 a1)] n w (fun r8 w9 => Q r8 w9) X) else (if w 20 a1 = 10 then (b_K d mX13_eat [(2, 46), (0, 3), (0, 6)] n w (fun r10 w11 => if r10 = 0 then (b_K d mX13_eat [(2, 46), (0, 5), (0, 9)] n w11 (fun r12 w13 => if r12 = 0 then (Q 0 w13) else ((0 ≤ a1 ∧ a1 < 60000) ∧ (b_K d mX13_getWrapped [(2, 46), (0, 4), (0, w13 21 a1)] n w13 (fun r15 w16 => Q r15 w16) X))) X) else (Q 8 w11)) X) else (if w 20 a1 = 11 ∨ w 20 a1 = 12 ∨ w 20 a1 = 15 then (b_K d mX13_getSequence [(2, 46), (0, a1), (0, w 20 a1)] n w (fun r17 w18 => Q r17 w18) X) else (if w 20 a1 = 14 then (b_K d mX13_eat [(2, 46), (0, 5), (0, 5)] n w (fun r19 w20 => if r19 = 0 then (b_K d mX13_eat [(2, 46), (0, 5), (0, 8)] n w20 (fun r21 w22 => if r21 = 0 then (Q 0 w22) else ((0 ≤ a1 ∧ a1 < 60000) ∧ (b_K d mX13_getWrapped [(2, 46), (0, 6), (0, w22 22 a1)] n w22 (fun r24 w25 => Q r24 w25) X))) X) else ((0 ≤ a1 ∧ a1 < 60000) ∧ (b_K d mX13_getWrapped [(2, 46), (0, 5), (0, w20 21 a1)] n w20 (fun r27 w28 => Q r27 w28) X))) X) else (if w 20 a1 = 18 then (b_K d mX13_eat [(2, 46), (0, 7), (0, 7)] n w (fun r29 w30 => if r29 = 0 then (Q 0 w30) else ((0 ≤ a1 ∧ a1 < 60000) ∧ (b_K d mX13_get [(2, 46), (0, w30 21 a1)] n w30 (fun r32 w33 => if r32 ≠ 0 then ((0 ≤ a1 ∧ a1 < 60000) ∧ (b_K d mX13_get [(2, 46), (0, w33 22 a1)] n w33 (fun r35 w36 => if r35 ≠ 0 then (b_K d mX8_pair [(2, 27), (0, r32), (0, r35)] n w36 (fun r37 w38 => Q r37 w38) X) else (Q 0 w36)) X)) else (Q 0 w33)) X))) X) else ((b_K d mX13_getNumber [(2, 46), (0, w 20 a1)] n w (fun r39 w40 => Q r39 w40) X)))))))))) : b_K (d + 1) mX13_get [(2, 46), (0, a1)] n w Q X := by
  have i19 := iz19 (Nat.le_trans (Nat.le_of_ble_eq_true rfl) hn)
  have i20 := iz20 (Nat.le_trans (Nat.le_of_ble_eq_true rfl) hn)
  have i21 := iz21 (Nat.le_trans (Nat.le_of_ble_eq_true rfl) hn)
  have i22 := iz22 (Nat.le_trans (Nat.le_of_ble_eq_true rfl) hn)
  have i27 := iz27 (Nat.le_trans (Nat.le_of_ble_eq_true rfl) hn)
  have i46 := iz46 (Nat.le_trans (Nat.le_of_ble_eq_true rfl) hn)
  refine k_of (by decide) rfl rfl rfl (ls := [(2, 46), (0, a1), (9, 0), (9, 0), (9, 0)]) rfl ?_
  refine x_aload_n 0 dX13_get_0 rfl rfl rfl rfl rfl ?_
  refine y_getF 24 0 (c := 12) (z := 19) dX13_get_1 i46 rfl in_X13 q929 rfl rfl rfl fn_46_0 (Nat.le_trans (Nat.le_of_ble_eq_true rfl) hn) rfl ?_
  refine y_getF 58 0 (c := 6) (z := 20) dX13_get_4 i19 rfl in_X7 q754 rfl rfl rfl fn_19_0 (Nat.le_trans (Nat.le_of_ble_eq_true rfl) hn) rfl ?_
  refine x_iload_n 1 dX13_get_7 rfl rfl rfl ?_
  obtain ⟨e1, h⟩ := h
  refine y_bald (z := w 20 a1) dX13_get_8 ⟨60000, i20, e1⟩ rfl rfl ?_
  refine x_istore_n 2 (ls' := [(2, 46), (0, a1), (0, w 20 a1), (9, 0), (9, 0)]) dX13_get_9 rfl rfl rfl rfl ?_
  refine x_iload_n 2 dX13_get_10 rfl rfl rfl ?_
  refine b_itc h (fun hc h => ?_) (fun hn0 h => ?_)
  · have key : b_Y (d + 1) mX13_get n Q X 100 [(2, 46), (0, a1), (0, w 20 a1), (9, 0), (9, 0)] [] w := by
      refine x_aload_n 0 dX13_get_100 rfl rfl rfl rfl rfl ?_
      refine x_iconst 3 (z := 3) dX13_get_101 rfl (by decide) rfl ?_
      refine x_bipush 11 (z := 11) dX13_get_102 rfl (by decide) rfl ?_
      refine y_Vi 147 (M := mX13_eat) (As := [(0, 3), (0, 11)]) (st := []) dX13_get_104 i46 rfl q2871 q2873 qs153 q380 q2874 rfl hmX13_eat rfl rfl rfl rfl rfl rfl rfl rfl (k_mono h (fun r2 w3 h => ?_))
      refine x_if_eq (t := 114) 7 dX13_get_107 rfl rfl (b_ite h (fun hc h => ?_) (fun hc h => ?_))
      · refine x_iconst 0 (z := 0) dX13_get_114 rfl (by decide) rfl ?_
        exact y_iret dX13_get_115 rfl h
      · refine x_iconst 2 (z := 2) dX13_get_110 rfl (by decide) rfl ?_
        refine x_goto 4 (q := 115) dX13_get_111 rfl ?_
        exact y_iret dX13_get_115 rfl h
    have e := hc
    exact x_tsI (off := 89) (t := 100) dX13_get_11 (by rw [e]; decide) (by rw [e]; decide) (by rw [e]; rfl) rfl key
  · refine b_itc h (fun hc h => ?_) (fun hn1 h => ?_)
    · have key : b_Y (d + 1) mX13_get n Q X 116 [(2, 46), (0, a1), (0, w 20 a1), (9, 0), (9, 0)] [] w := by
        refine x_aload_n 0 dX13_get_116 rfl rfl rfl rfl rfl ?_
        refine x_iconst 3 (z := 3) dX13_get_117 rfl (by decide) rfl ?_
        refine x_bipush 10 (z := 10) dX13_get_118 rfl (by decide) rfl ?_
        refine y_Vi 147 (M := mX13_eat) (As := [(0, 3), (0, 10)]) (st := []) dX13_get_120 i46 rfl q2871 q2873 qs153 q380 q2874 rfl hmX13_eat rfl rfl rfl rfl rfl rfl rfl rfl (k_mono h (fun r4 w5 h => ?_))
        refine x_if_eq (t := 131) 8 dX13_get_123 rfl rfl (b_ite h (fun hc h => ?_) (fun hc h => ?_))
        · refine x_aload_n 0 dX13_get_131 rfl rfl rfl rfl rfl ?_
          refine x_iconst 3 (z := 3) dX13_get_132 rfl (by decide) rfl ?_
          refine x_iconst 3 (z := 3) dX13_get_133 rfl (by decide) rfl ?_
          refine y_Vi 147 (M := mX13_eat) (As := [(0, 3), (0, 3)]) (st := []) dX13_get_134 i46 rfl q2871 q2873 qs153 q380 q2874 rfl hmX13_eat rfl rfl rfl rfl rfl rfl rfl rfl (k_mono h (fun r6 w7 h => ?_))
          refine x_if_eq (t := 144) 7 dX13_get_137 rfl rfl (b_ite h (fun hc h => ?_) (fun hc h => ?_))
          · refine x_iconst 0 (z := 0) dX13_get_144 rfl (by decide) rfl ?_
            exact y_iret dX13_get_145 rfl h
          · refine x_iconst 4 (z := 4) dX13_get_140 rfl (by decide) rfl ?_
            refine x_goto 4 (q := 145) dX13_get_141 rfl ?_
            exact y_iret dX13_get_145 rfl h
        · refine x_bipush 6 (z := 6) dX13_get_126 rfl (by decide) rfl ?_
          refine x_goto 17 (q := 145) dX13_get_128 rfl ?_
          exact y_iret dX13_get_145 rfl h
      have e := hc
      exact x_tsI (off := 105) (t := 116) dX13_get_11 (by rw [e]; decide) (by rw [e]; decide) (by rw [e]; rfl) rfl key
    · refine b_itc h (fun hc h => ?_) (fun hn2 h => ?_)
      · have key : b_Y (d + 1) mX13_get n Q X 146 [(2, 46), (0, a1), (0, w 20 a1), (9, 0), (9, 0)] [] w := by
          refine x_aload_n 0 dX13_get_146 rfl rfl rfl rfl rfl ?_
          refine x_iload_n 2 dX13_get_147 rfl rfl rfl ?_
          refine y_Vi 151 (M := mX13_getBytes) (As := [(0, w 20 a1)]) (st := []) dX13_get_148 i46 rfl q2879 q2881 qs155 q380 q2882 rfl hmX13_getBytes rfl rfl rfl rfl rfl rfl rfl rfl (k_mono h (fun r8 w9 h => ?_))
          exact y_iret dX13_get_151 rfl h
        rcases hc with e | e | e
        · exact x_tsI (off := 135) (t := 146) dX13_get_11 (by rw [e]; decide) (by rw [e]; decide) (by rw [e]; rfl) rfl key
        · exact x_tsI (off := 135) (t := 146) dX13_get_11 (by rw [e]; decide) (by rw [e]; decide) (by rw [e]; rfl) rfl key
        · exact x_tsI (off := 135) (t := 146) dX13_get_11 (by rw [e]; decide) (by rw [e]; decide) (by rw [e]; rfl) rfl key
      · refine b_itc h (fun hc h => ?_) (fun hn3 h => ?_)
        · have key : b_Y (d + 1) mX13_get n Q X 152 [(2, 46), (0, a1), (0, w 20 a1), (9, 0), (9, 0)] [] w := by
            refine x_aload_n 0 dX13_get_152 rfl rfl rfl rfl rfl ?_
            refine x_iconst 3 (z := 3) dX13_get_153 rfl (by decide) rfl ?_
            refine x_bipush 6 (z := 6) dX13_get_154 rfl (by decide) rfl ?_
            refine y_Vi 147 (M := mX13_eat) (As := [(0, 3), (0, 6)]) (st := []) dX13_get_156 i46 rfl q2871 q2873 qs153 q380 q2874 rfl hmX13_eat rfl rfl rfl rfl rfl rfl rfl rfl (k_mono h (fun r10 w11 h => ?_))
            refine x_if_eq (t := 167) 8 dX13_get_159 rfl rfl (b_ite h (fun hc h => ?_) (fun hc h => ?_))
            · refine x_aload_n 0 dX13_get_167 rfl rfl rfl rfl rfl ?_
              refine x_iconst 5 (z := 5) dX13_get_168 rfl (by decide) rfl ?_
              refine x_bipush 9 (z := 9) dX13_get_169 rfl (by decide) rfl ?_
              refine y_Vi 147 (M := mX13_eat) (As := [(0, 5), (0, 9)]) (st := []) dX13_get_171 i46 rfl q2871 q2873 qs153 q380 q2874 rfl hmX13_eat rfl rfl rfl rfl rfl rfl rfl rfl (k_mono h (fun r12 w13 h => ?_))
              refine x_if_eq (t := 194) 20 dX13_get_174 rfl rfl (b_ite h (fun hc h => ?_) (fun hc h => ?_))
              · refine x_iconst 0 (z := 0) dX13_get_194 rfl (by decide) rfl ?_
                exact y_iret dX13_get_195 rfl h
              · refine x_aload_n 0 dX13_get_177 rfl rfl rfl rfl rfl ?_
                refine x_iconst 4 (z := 4) dX13_get_178 rfl (by decide) rfl ?_
                refine x_aload_n 0 dX13_get_179 rfl rfl rfl rfl rfl ?_
                refine y_getF 24 0 (c := 12) (z := 19) dX13_get_180 i46 rfl in_X13 q929 rfl rfl rfl fn_46_0 (Nat.le_trans (Nat.le_of_ble_eq_true rfl) hn) rfl ?_
                refine y_getF 73 1 (c := 6) (z := 21) dX13_get_183 i19 rfl in_X7 q759 rfl rfl rfl fn_19_1 (Nat.le_trans (Nat.le_of_ble_eq_true rfl) hn) rfl ?_
                refine x_iload_n 1 dX13_get_186 rfl rfl rfl ?_
                obtain ⟨e14, h⟩ := h
                refine y_iald (z := w13 21 a1) dX13_get_187 ⟨60000, i21, e14⟩ rfl rfl ?_
                refine y_Vi 154 (M := mX13_getWrapped) (As := [(0, 4), (0, w13 21 a1)]) (st := []) dX13_get_188 i46 rfl q2897 q2899 qs157 q380 q2900 rfl hmX13_getWrapped rfl rfl rfl rfl rfl rfl rfl rfl (k_mono h (fun r15 w16 h => ?_))
                refine x_goto 4 (q := 195) dX13_get_191 rfl ?_
                exact y_iret dX13_get_195 rfl h
            · refine x_bipush 8 (z := 8) dX13_get_162 rfl (by decide) rfl ?_
              refine x_goto 31 (q := 195) dX13_get_164 rfl ?_
              exact y_iret dX13_get_195 rfl h
          have e := hc
          exact x_tsI (off := 141) (t := 152) dX13_get_11 (by rw [e]; decide) (by rw [e]; decide) (by rw [e]; rfl) rfl key
        · refine b_itc h (fun hc h => ?_) (fun hn4 h => ?_)
          · have key : b_Y (d + 1) mX13_get n Q X 324 [(2, 46), (0, a1), (0, w 20 a1), (9, 0), (9, 0)] [] w := by
              refine x_aload_n 0 dX13_get_324 rfl rfl rfl rfl rfl ?_
              refine x_iload_n 1 dX13_get_325 rfl rfl rfl ?_
              refine x_iload_n 2 dX13_get_326 rfl rfl rfl ?_
              refine y_Vi 160 (M := mX13_getSequence) (As := [(0, a1), (0, w 20 a1)]) (st := []) dX13_get_327 i46 rfl q2903 q2905 qs158 q380 q2906 rfl hmX13_getSequence rfl rfl rfl rfl rfl rfl rfl rfl (k_mono h (fun r17 w18 h => ?_))
              exact y_iret dX13_get_330 rfl h
            rcases hc with e | e | e
            · exact x_tsI (off := 313) (t := 324) dX13_get_11 (by rw [e]; decide) (by rw [e]; decide) (by rw [e]; rfl) rfl key
            · exact x_tsI (off := 313) (t := 324) dX13_get_11 (by rw [e]; decide) (by rw [e]; decide) (by rw [e]; rfl) rfl key
            · exact x_tsI (off := 313) (t := 324) dX13_get_11 (by rw [e]; decide) (by rw [e]; decide) (by rw [e]; rfl) rfl key
          · refine b_itc h (fun hc h => ?_) (fun hn5 h => ?_)
            · have key : b_Y (d + 1) mX13_get n Q X 196 [(2, 46), (0, a1), (0, w 20 a1), (9, 0), (9, 0)] [] w := by
                refine x_aload_n 0 dX13_get_196 rfl rfl rfl rfl rfl ?_
                refine x_iconst 5 (z := 5) dX13_get_197 rfl (by decide) rfl ?_
                refine x_iconst 5 (z := 5) dX13_get_198 rfl (by decide) rfl ?_
                refine y_Vi 147 (M := mX13_eat) (As := [(0, 5), (0, 5)]) (st := []) dX13_get_199 i46 rfl q2871 q2873 qs153 q380 q2874 rfl hmX13_eat rfl rfl rfl rfl rfl rfl rfl rfl (k_mono h (fun r19 w20 h => ?_))
                refine x_if_eq (t := 222) 20 dX13_get_202 rfl rfl (b_ite h (fun hc h => ?_) (fun hc h => ?_))
                · refine x_aload_n 0 dX13_get_222 rfl rfl rfl rfl rfl ?_
                  refine x_iconst 5 (z := 5) dX13_get_223 rfl (by decide) rfl ?_
                  refine x_bipush 8 (z := 8) dX13_get_224 rfl (by decide) rfl ?_
                  refine y_Vi 147 (M := mX13_eat) (As := [(0, 5), (0, 8)]) (st := []) dX13_get_226 i46 rfl q2871 q2873 qs153 q380 q2874 rfl hmX13_eat rfl rfl rfl rfl rfl rfl rfl rfl (k_mono h (fun r21 w22 h => ?_))
                  refine x_if_eq (t := 250) 21 dX13_get_229 rfl rfl (b_ite h (fun hc h => ?_) (fun hc h => ?_))
                  · refine x_iconst 0 (z := 0) dX13_get_250 rfl (by decide) rfl ?_
                    exact y_iret dX13_get_251 rfl h
                  · refine x_aload_n 0 dX13_get_232 rfl rfl rfl rfl rfl ?_
                    refine x_bipush 6 (z := 6) dX13_get_233 rfl (by decide) rfl ?_
                    refine x_aload_n 0 dX13_get_235 rfl rfl rfl rfl rfl ?_
                    refine y_getF 24 0 (c := 12) (z := 19) dX13_get_236 i46 rfl in_X13 q929 rfl rfl rfl fn_46_0 (Nat.le_trans (Nat.le_of_ble_eq_true rfl) hn) rfl ?_
                    refine y_getF 84 2 (c := 6) (z := 22) dX13_get_239 i19 rfl in_X7 q765 rfl rfl rfl fn_19_2 (Nat.le_trans (Nat.le_of_ble_eq_true rfl) hn) rfl ?_
                    refine x_iload_n 1 dX13_get_242 rfl rfl rfl ?_
                    obtain ⟨e23, h⟩ := h
                    refine y_iald (z := w22 22 a1) dX13_get_243 ⟨60000, i22, e23⟩ rfl rfl ?_
                    refine y_Vi 154 (M := mX13_getWrapped) (As := [(0, 6), (0, w22 22 a1)]) (st := []) dX13_get_244 i46 rfl q2897 q2899 qs157 q380 q2900 rfl hmX13_getWrapped rfl rfl rfl rfl rfl rfl rfl rfl (k_mono h (fun r24 w25 h => ?_))
                    refine x_goto 4 (q := 251) dX13_get_247 rfl ?_
                    exact y_iret dX13_get_251 rfl h
                · refine x_aload_n 0 dX13_get_205 rfl rfl rfl rfl rfl ?_
                  refine x_iconst 5 (z := 5) dX13_get_206 rfl (by decide) rfl ?_
                  refine x_aload_n 0 dX13_get_207 rfl rfl rfl rfl rfl ?_
                  refine y_getF 24 0 (c := 12) (z := 19) dX13_get_208 i46 rfl in_X13 q929 rfl rfl rfl fn_46_0 (Nat.le_trans (Nat.le_of_ble_eq_true rfl) hn) rfl ?_
                  refine y_getF 73 1 (c := 6) (z := 21) dX13_get_211 i19 rfl in_X7 q759 rfl rfl rfl fn_19_1 (Nat.le_trans (Nat.le_of_ble_eq_true rfl) hn) rfl ?_
                  refine x_iload_n 1 dX13_get_214 rfl rfl rfl ?_
                  obtain ⟨e26, h⟩ := h
                  refine y_iald (z := w20 21 a1) dX13_get_215 ⟨60000, i21, e26⟩ rfl rfl ?_
                  refine y_Vi 154 (M := mX13_getWrapped) (As := [(0, 5), (0, w20 21 a1)]) (st := []) dX13_get_216 i46 rfl q2897 q2899 qs157 q380 q2900 rfl hmX13_getWrapped rfl rfl rfl rfl rfl rfl rfl rfl (k_mono h (fun r27 w28 h => ?_))
                  refine x_goto 32 (q := 251) dX13_get_219 rfl ?_
                  exact y_iret dX13_get_251 rfl h
              have e := hc
              exact x_tsI (off := 185) (t := 196) dX13_get_11 (by rw [e]; decide) (by rw [e]; decide) (by rw [e]; rfl) rfl key
            · refine b_itc h (fun hc h => ?_) (fun hn6 h => ?_)
              · have key : b_Y (d + 1) mX13_get n Q X 252 [(2, 46), (0, a1), (0, w 20 a1), (9, 0), (9, 0)] [] w := by
                  refine x_aload_n 0 dX13_get_252 rfl rfl rfl rfl rfl ?_
                  refine x_bipush 7 (z := 7) dX13_get_253 rfl (by decide) rfl ?_
                  refine x_bipush 7 (z := 7) dX13_get_255 rfl (by decide) rfl ?_
                  refine y_Vi 147 (M := mX13_eat) (As := [(0, 7), (0, 7)]) (st := []) dX13_get_257 i46 rfl q2871 q2873 qs153 q380 q2874 rfl hmX13_eat rfl rfl rfl rfl rfl rfl rfl rfl (k_mono h (fun r29 w30 h => ?_))
                  refine x_if_eq (t := 279) 19 dX13_get_260 rfl rfl (b_ite h (fun hc h => ?_) (fun hc h => ?_))
                  · refine x_iconst 0 (z := 0) dX13_get_279 rfl (by decide) rfl ?_
                    refine x_istore_n 3 (ls' := [(2, 46), (0, a1), (0, w 20 a1), (0, 0), (9, 0)]) dX13_get_280 rfl rfl rfl rfl ?_
                    refine x_iload_n 3 dX13_get_281 rfl rfl rfl ?_
                    refine x_if_ne (t := 289) 7 dX13_get_282 rfl rfl (b_ifF (by decide) ?_)
                    refine x_iconst 0 (z := 0) dX13_get_285 rfl (by decide) rfl ?_
                    refine x_goto 16 (q := 302) dX13_get_286 rfl ?_
                    refine x_istore 4 (ls' := [(2, 46), (0, a1), (0, w 20 a1), (0, 0), (0, 0)]) dX13_get_302 rfl rfl rfl ?_
                    refine x_iload 4 dX13_get_304 rfl rfl ?_
                    refine x_if_ne (t := 313) 7 dX13_get_306 rfl rfl (b_ifF (by decide) ?_)
                    refine x_iconst 0 (z := 0) dX13_get_309 rfl (by decide) rfl ?_
                    refine x_goto 13 (q := 323) dX13_get_310 rfl ?_
                    exact y_iret dX13_get_323 rfl h
                  · refine x_aload_n 0 dX13_get_263 rfl rfl rfl rfl rfl ?_
                    refine x_aload_n 0 dX13_get_264 rfl rfl rfl rfl rfl ?_
                    refine y_getF 24 0 (c := 12) (z := 19) dX13_get_265 i46 rfl in_X13 q929 rfl rfl rfl fn_46_0 (Nat.le_trans (Nat.le_of_ble_eq_true rfl) hn) rfl ?_
                    refine y_getF 73 1 (c := 6) (z := 21) dX13_get_268 i19 rfl in_X7 q759 rfl rfl rfl fn_19_1 (Nat.le_trans (Nat.le_of_ble_eq_true rfl) hn) rfl ?_
                    refine x_iload_n 1 dX13_get_271 rfl rfl rfl ?_
                    obtain ⟨e31, h⟩ := h
                    refine y_iald (z := w30 21 a1) dX13_get_272 ⟨60000, i21, e31⟩ rfl rfl ?_
                    refine y_Vi 141 (M := mX13_get) (As := [(0, w30 21 a1)]) (st := []) dX13_get_273 i46 rfl q2867 q2869 qs152 q380 q2870 rfl hmX13_get rfl rfl rfl rfl rfl rfl rfl rfl (k_mono h (fun r32 w33 h => ?_))
                    refine x_goto 4 (q := 280) dX13_get_276 rfl ?_
                    refine x_istore_n 3 (ls' := [(2, 46), (0, a1), (0, w 20 a1), (0, r32), (9, 0)]) dX13_get_280 rfl rfl rfl rfl ?_
                    refine x_iload_n 3 dX13_get_281 rfl rfl rfl ?_
                    refine x_if_ne (t := 289) 7 dX13_get_282 rfl rfl (b_ite h (fun hc h => ?_) (fun hc h => ?_))
                    · refine x_aload_n 0 dX13_get_289 rfl rfl rfl rfl rfl ?_
                      refine x_aload_n 0 dX13_get_290 rfl rfl rfl rfl rfl ?_
                      refine y_getF 24 0 (c := 12) (z := 19) dX13_get_291 i46 rfl in_X13 q929 rfl rfl rfl fn_46_0 (Nat.le_trans (Nat.le_of_ble_eq_true rfl) hn) rfl ?_
                      refine y_getF 84 2 (c := 6) (z := 22) dX13_get_294 i19 rfl in_X7 q765 rfl rfl rfl fn_19_2 (Nat.le_trans (Nat.le_of_ble_eq_true rfl) hn) rfl ?_
                      refine x_iload_n 1 dX13_get_297 rfl rfl rfl ?_
                      obtain ⟨e34, h⟩ := h
                      refine y_iald (z := w33 22 a1) dX13_get_298 ⟨60000, i22, e34⟩ rfl rfl ?_
                      refine y_Vi 141 (M := mX13_get) (As := [(0, w33 22 a1)]) (st := []) dX13_get_299 i46 rfl q2867 q2869 qs152 q380 q2870 rfl hmX13_get rfl rfl rfl rfl rfl rfl rfl rfl (k_mono h (fun r35 w36 h => ?_))
                      refine x_istore 4 (ls' := [(2, 46), (0, a1), (0, w 20 a1), (0, r32), (0, r35)]) dX13_get_302 rfl rfl rfl ?_
                      refine x_iload 4 dX13_get_304 rfl rfl ?_
                      refine x_if_ne (t := 313) 7 dX13_get_306 rfl rfl (b_ite h (fun hc h => ?_) (fun hc h => ?_))
                      · refine x_aload_n 0 dX13_get_313 rfl rfl rfl rfl rfl ?_
                        refine y_getF 28 1 (c := 12) (z := 27) dX13_get_314 i46 rfl in_X13 q930 rfl rfl rfl fn_46_1 (Nat.le_trans (Nat.le_of_ble_eq_true rfl) hn) rfl ?_
                        refine x_iload_n 3 dX13_get_317 rfl rfl rfl ?_
                        refine x_iload 4 dX13_get_318 rfl rfl ?_
                        refine y_Vi 157 (M := mX8_pair) (As := [(0, r32), (0, r35)]) (st := []) dX13_get_320 i27 rfl q2902 q2054 q2055 q375 q2056 rfl hmX8_pair rfl rfl rfl rfl rfl rfl rfl rfl (k_mono h (fun r37 w38 h => ?_))
                        exact y_iret dX13_get_323 rfl h
                      · refine x_iconst 0 (z := 0) dX13_get_309 rfl (by decide) rfl ?_
                        refine x_goto 13 (q := 323) dX13_get_310 rfl ?_
                        exact y_iret dX13_get_323 rfl h
                    · refine x_iconst 0 (z := 0) dX13_get_285 rfl (by decide) rfl ?_
                      refine x_goto 16 (q := 302) dX13_get_286 rfl ?_
                      refine x_istore 4 (ls' := [(2, 46), (0, a1), (0, w 20 a1), (0, r32), (0, 0)]) dX13_get_302 rfl rfl rfl ?_
                      refine x_iload 4 dX13_get_304 rfl rfl ?_
                      refine x_if_ne (t := 313) 7 dX13_get_306 rfl rfl (b_ifF (by decide) ?_)
                      refine x_iconst 0 (z := 0) dX13_get_309 rfl (by decide) rfl ?_
                      refine x_goto 13 (q := 323) dX13_get_310 rfl ?_
                      exact y_iret dX13_get_323 rfl h
                have e := hc
                exact x_tsI (off := 241) (t := 252) dX13_get_11 (by rw [e]; decide) (by rw [e]; decide) (by rw [e]; rfl) rfl key
              · have key : b_Y (d + 1) mX13_get n Q X 331 [(2, 46), (0, a1), (0, w 20 a1), (9, 0), (9, 0)] [] w := by
                  refine x_aload_n 0 dX13_get_331 rfl rfl rfl rfl rfl ?_
                  refine x_iload_n 2 dX13_get_332 rfl rfl rfl ?_
                  refine y_Vi 163 (M := mX13_getNumber) (As := [(0, w 20 a1)]) (st := []) dX13_get_333 i46 rfl q2918 q2920 qs161 q380 q2921 rfl hmX13_getNumber rfl rfl rfl rfl rfl rfl rfl rfl (k_mono h (fun r39 w40 h => ?_))
                  exact y_iret dX13_get_336 rfl h
                by_cases e : w 20 a1 = 2
                · exact x_tsI (off := 320) (t := 331) dX13_get_11 (by rw [e]; decide) (by rw [e]; decide) (by rw [e]; rfl) rfl key
                have hx2 := e
                by_cases e : w 20 a1 = 3
                · exact x_tsI (off := 320) (t := 331) dX13_get_11 (by rw [e]; decide) (by rw [e]; decide) (by rw [e]; rfl) rfl key
                have hx3 := e
                by_cases e : w 20 a1 = 4
                · exact x_tsI (off := 320) (t := 331) dX13_get_11 (by rw [e]; decide) (by rw [e]; decide) (by rw [e]; rfl) rfl key
                have hx4 := e
                by_cases e : w 20 a1 = 8
                · exact x_tsI (off := 320) (t := 331) dX13_get_11 (by rw [e]; decide) (by rw [e]; decide) (by rw [e]; rfl) rfl key
                have hx8 := e
                by_cases e : w 20 a1 = 9
                · exact x_tsI (off := 320) (t := 331) dX13_get_11 (by rw [e]; decide) (by rw [e]; decide) (by rw [e]; rfl) rfl key
                have hx9 := e
                by_cases e : w 20 a1 = 13
                · exact x_tsI (off := 320) (t := 331) dX13_get_11 (by rw [e]; decide) (by rw [e]; decide) (by rw [e]; rfl) rfl key
                have hx13 := e
                by_cases e : w 20 a1 = 16
                · exact x_tsI (off := 320) (t := 331) dX13_get_11 (by rw [e]; decide) (by rw [e]; decide) (by rw [e]; rfl) rfl key
                have hx16 := e
                by_cases e : w 20 a1 = 17
                · exact x_tsI (off := 320) (t := 331) dX13_get_11 (by rw [e]; decide) (by rw [e]; decide) (by rw [e]; rfl) rfl key
                have hx17 := e
                exact x_tsO (t := 331) dX13_get_11 (by omega) rfl key
theorem rX13_eat {d n : Nat} {w : bW} {Q : Int → bW → Prop} {X : String → bW → Prop} (hn : 47 ≤ n) (a1 : Int) (a2 : Int) (h : b_K d mX13_peek [(2, 46), (0, 0)] n w (fun r1 w2 => if r1 ≠ a1 then (Q 0 (b_up w2 46 9 (b_i ((w2 46 9) + 0)))) else (b_K d mX13_peek [(2, 46), (0, 1)] n w2 (fun r3 w4 => if r3 ≠ a2 then (Q 0 (b_up w4 46 9 (b_i ((w4 46 9) + 0)))) else (Q 1 (b_up w4 46 9 (b_i ((w4 46 9) + 2))))) X)) X) : b_K (d + 1) mX13_eat [(2, 46), (0, a1), (0, a2)] n w Q X := by
  have i46 := iz46 (Nat.le_trans (Nat.le_of_ble_eq_true rfl) hn)
  refine k_of (by decide) rfl rfl rfl (ls := [(2, 46), (0, a1), (0, a2), (9, 0)]) rfl ?_
  refine x_aload_n 0 dX13_eat_0 rfl rfl rfl rfl rfl ?_
  refine x_iconst 0 (z := 0) dX13_eat_1 rfl (by decide) rfl ?_
  refine y_Vi 144 (M := mX13_peek) (As := [(0, 0)]) (st := []) dX13_eat_2 i46 rfl q2875 q2877 qs154 q380 q2878 rfl hmX13_peek rfl rfl rfl rfl rfl rfl rfl rfl (k_mono h (fun r1 w2 h => ?_))
  refine x_iload_n 1 dX13_eat_5 rfl rfl rfl ?_
  refine x_icmp_ne (t := 22) 16 dX13_eat_6 rfl rfl (b_ite h (fun hc h => ?_) (fun hc h => ?_))
  · refine x_iconst 0 (z := 0) dX13_eat_22 rfl (by decide) rfl ?_
    refine x_istore_n 3 (ls' := [(2, 46), (0, a1), (0, a2), (0, 0)]) dX13_eat_23 rfl rfl rfl rfl ?_
    refine x_aload_n 0 dX13_eat_24 rfl rfl rfl rfl rfl ?_
    refine x_dup dX13_eat_25 rfl rfl ?_
    refine y_get 130 9 (c := 12) (z := w2 46 9) dX13_eat_26 i46 rfl in_X13 q940 rfl rfl rfl rfl rfl ?_
    refine x_iload_n 3 dX13_eat_29 rfl rfl rfl ?_
    refine x_if_eq (t := 37) 7 dX13_eat_30 rfl rfl (b_ifT (by decide) ?_)
    refine x_iconst 0 (z := 0) dX13_eat_37 rfl (by decide) rfl ?_
    refine x_iadd dX13_eat_38 rfl ?_
    refine x_put 130 9 (c := 12) dX13_eat_39 i46 rfl in_X13 tyX13_ok nmX13 q940 rfl rfl rfl (Or.inl rfl) (Or.inl ⟨rfl, rfl⟩) rfl ?_
    refine x_iload_n 3 dX13_eat_42 rfl rfl rfl ?_
    exact y_zret dX13_eat_43 rfl (by decide) h
  · refine x_aload_n 0 dX13_eat_9 rfl rfl rfl rfl rfl ?_
    refine x_iconst 1 (z := 1) dX13_eat_10 rfl (by decide) rfl ?_
    refine y_Vi 144 (M := mX13_peek) (As := [(0, 1)]) (st := []) dX13_eat_11 i46 rfl q2875 q2877 qs154 q380 q2878 rfl hmX13_peek rfl rfl rfl rfl rfl rfl rfl rfl (k_mono h (fun r3 w4 h => ?_))
    refine x_iload_n 2 dX13_eat_14 rfl rfl rfl ?_
    refine x_icmp_ne (t := 22) 7 dX13_eat_15 rfl rfl (b_ite h (fun hc h => ?_) (fun hc h => ?_))
    · refine x_iconst 0 (z := 0) dX13_eat_22 rfl (by decide) rfl ?_
      refine x_istore_n 3 (ls' := [(2, 46), (0, a1), (0, a2), (0, 0)]) dX13_eat_23 rfl rfl rfl rfl ?_
      refine x_aload_n 0 dX13_eat_24 rfl rfl rfl rfl rfl ?_
      refine x_dup dX13_eat_25 rfl rfl ?_
      refine y_get 130 9 (c := 12) (z := w4 46 9) dX13_eat_26 i46 rfl in_X13 q940 rfl rfl rfl rfl rfl ?_
      refine x_iload_n 3 dX13_eat_29 rfl rfl rfl ?_
      refine x_if_eq (t := 37) 7 dX13_eat_30 rfl rfl (b_ifT (by decide) ?_)
      refine x_iconst 0 (z := 0) dX13_eat_37 rfl (by decide) rfl ?_
      refine x_iadd dX13_eat_38 rfl ?_
      refine x_put 130 9 (c := 12) dX13_eat_39 i46 rfl in_X13 tyX13_ok nmX13 q940 rfl rfl rfl (Or.inl rfl) (Or.inl ⟨rfl, rfl⟩) rfl ?_
      refine x_iload_n 3 dX13_eat_42 rfl rfl rfl ?_
      exact y_zret dX13_eat_43 rfl (by decide) h
    · refine x_iconst 1 (z := 1) dX13_eat_18 rfl (by decide) rfl ?_
      refine x_goto 4 (q := 23) dX13_eat_19 rfl ?_
      refine x_istore_n 3 (ls' := [(2, 46), (0, a1), (0, a2), (0, 1)]) dX13_eat_23 rfl rfl rfl rfl ?_
      refine x_aload_n 0 dX13_eat_24 rfl rfl rfl rfl rfl ?_
      refine x_dup dX13_eat_25 rfl rfl ?_
      refine y_get 130 9 (c := 12) (z := w4 46 9) dX13_eat_26 i46 rfl in_X13 q940 rfl rfl rfl rfl rfl ?_
      refine x_iload_n 3 dX13_eat_29 rfl rfl rfl ?_
      refine x_if_eq (t := 37) 7 dX13_eat_30 rfl rfl (b_ifF (by decide) ?_)
      refine x_iconst 2 (z := 2) dX13_eat_33 rfl (by decide) rfl ?_
      refine x_goto 4 (q := 38) dX13_eat_34 rfl ?_
      refine x_iadd dX13_eat_38 rfl ?_
      refine x_put 130 9 (c := 12) dX13_eat_39 i46 rfl in_X13 tyX13_ok nmX13 q940 rfl rfl rfl (Or.inl rfl) (Or.inl ⟨rfl, rfl⟩) rfl ?_
      refine x_iload_n 3 dX13_eat_42 rfl rfl rfl ?_
      exact y_zret dX13_eat_43 rfl (by decide) h
theorem rX13_peek {d n : Nat} {w : bW} {Q : Int → bW → Prop} {X : String → bW → Prop} (hn : 143 ≤ n) (a1 : Int) (h : if w 46 10 ≤ b_i ((w 46 9) + a1) then (Q (-1) w) else (b_K d mX8_byteAt [(2, 27), (0, w 46 8), (0, b_i ((w 46 9) + a1))] n w (fun r1 w2 => Q r1 w2) X)) : b_K (d + 1) mX13_peek [(2, 46), (0, a1)] n w Q X := by
  have i27 := iz27 (Nat.le_trans (Nat.le_of_ble_eq_true rfl) hn)
  have i46 := iz46 (Nat.le_trans (Nat.le_of_ble_eq_true rfl) hn)
  refine k_of (by decide) rfl rfl rfl (ls := [(2, 46), (0, a1)]) rfl ?_
  refine x_aload_n 0 dX13_peek_0 rfl rfl rfl rfl rfl ?_
  refine y_get 130 9 (c := 12) (z := w 46 9) dX13_peek_1 i46 rfl in_X13 q940 rfl rfl rfl rfl rfl ?_
  refine x_iload_n 1 dX13_peek_4 rfl rfl rfl ?_
  refine x_iadd dX13_peek_5 rfl ?_
  refine x_aload_n 0 dX13_peek_6 rfl rfl rfl rfl rfl ?_
  refine y_get 132 10 (c := 12) (z := w 46 10) dX13_peek_7 i46 rfl in_X13 q941 rfl rfl rfl rfl rfl ?_
  refine x_icmp_ge (t := 33) 23 dX13_peek_10 rfl rfl (b_ite h (fun hc h => ?_) (fun hc h => ?_))
  · refine x_iconst (-1) (z := (-1)) dX13_peek_33 rfl (by decide) rfl ?_
    exact y_iret dX13_peek_34 rfl h
  · refine x_aload_n 0 dX13_peek_13 rfl rfl rfl rfl rfl ?_
    refine y_getF 28 1 (c := 12) (z := 27) dX13_peek_14 i46 rfl in_X13 q930 rfl rfl rfl fn_46_1 (Nat.le_trans (Nat.le_of_ble_eq_true rfl) hn) rfl ?_
    refine x_aload_n 0 dX13_peek_17 rfl rfl rfl rfl rfl ?_
    refine y_get 135 8 (c := 12) (z := w 46 8) dX13_peek_18 i46 rfl in_X13 q939 rfl rfl rfl rfl rfl ?_
    refine x_aload_n 0 dX13_peek_21 rfl rfl rfl rfl rfl ?_
    refine y_get 130 9 (c := 12) (z := w 46 9) dX13_peek_22 i46 rfl in_X13 q940 rfl rfl rfl rfl rfl ?_
    refine x_iload_n 1 dX13_peek_25 rfl rfl rfl ?_
    refine x_iadd dX13_peek_26 rfl ?_
    refine y_Vi 109 (M := mX8_byteAt) (As := [(0, w 46 8), (0, b_i ((w 46 9) + a1))]) (st := []) dX13_peek_27 i27 rfl q2407 q2092 q2093 q375 q2094 rfl hmX8_byteAt rfl rfl rfl rfl rfl rfl rfl rfl (k_mono h (fun r1 w2 h => ?_))
    refine x_goto 4 (q := 34) dX13_peek_30 rfl ?_
    exact y_iret dX13_peek_34 rfl h
abbrev LX13_getBytes_11 (d n : Nat) (Q : Int → bW → Prop) (X : String → bW → Prop) (a1 : Int) (s0 : Int) (w : bW) : Prop := b_Y (d + 1) mX13_getBytes n Q X 11 [(2, 46), (0, a1), (9, 0), (9, 0), (9, 0), (9, 0), (9, 0)] [(0, s0)] w
abbrev LX13_getBytes_66 (d n : Nat) (Q : Int → bW → Prop) (X : String → bW → Prop) (a1 : Int) (a2 : Int) (a3 : Int) (a4 : Int) (a5 : Int) (w : bW) : Prop := b_Y (d + 1) mX13_getBytes n Q X 66 [(2, 46), (0, a1), (0, a2), (0, a3), (0, a4), (0, a5), (9, 0)] [] w
theorem rX13_getBytes {d n : Nat} {w : bW} {Q : Int → bW → Prop} {X : String → bW → Prop} (hn : 143 ≤ n) (a1 : Int) (h : if a1 ≠ 6 then (LX13_getBytes_11 d n Q X a1 0 w) else (LX13_getBytes_11 d n Q X a1 1 w)) : b_K (d + 1) mX13_getBytes [(2, 46), (0, a1)] n w Q X := by
  refine k_of (by decide) rfl rfl rfl (ls := [(2, 46), (0, a1), (9, 0), (9, 0), (9, 0), (9, 0), (9, 0)]) rfl ?_
  refine x_iload_n 1 dX13_getBytes_0 rfl rfl rfl ?_
  refine x_bipush 6 (z := 6) dX13_getBytes_1 rfl (by decide) rfl ?_
  refine x_icmp_ne (t := 10) 7 dX13_getBytes_3 rfl rfl (b_ite h (fun hc h => ?_) (fun hc h => ?_))
  · refine x_iconst 0 (z := 0) dX13_getBytes_10 rfl (by decide) rfl ?_
    exact x_fg (fgk (fgk (fgk (fgk (fgk (fgk (fgk (fg0)))))))) h
  · refine x_iconst 1 (z := 1) dX13_getBytes_6 rfl (by decide) rfl ?_
    refine x_goto 4 (q := 11) dX13_getBytes_7 rfl ?_
    exact x_fg (fgk (fgk (fgk (fgk (fgk (fgk (fgk (fg0)))))))) h
theorem sX13_getBytes_11 {d n : Nat} {w : bW} {Q : Int → bW → Prop} {X : String → bW → Prop} (hn : 143 ≤ n) (a1 : Int) (s0 : Int) (h : b_K d mX13_peek [(2, 46), (0, 0)] n w (fun r1 w2 => if s0 = 0 then (if r1 = 1 then (b_K d mX13_getCount [(2, 46)] n (b_up w2 46 9 (b_i ((w2 46 9) + 1))) (fun r3 w4 => if 0 ≤ r3 then (b_K d mX8_bytes [(2, 27), (0, r3)] n w4 (fun r5 w6 => LX13_getBytes_66 d n Q X a1 s0 r3 r5 0 w6) X) else (Q 0 w4)) X) else (Q 0 w2)) else (if r1 = 10 then (b_K d mX13_getCount [(2, 46)] n (b_up w2 46 9 (b_i ((w2 46 9) + 1))) (fun r7 w8 => if 0 ≤ r7 then (b_K d mX8_bytes [(2, 27), (0, r7)] n w8 (fun r9 w10 => LX13_getBytes_66 d n Q X a1 s0 r7 r9 0 w10) X) else (Q 0 w8)) X) else (Q 0 w2))) X) : LX13_getBytes_11 d n Q X a1 s0 w := by
  have i27 := iz27 (Nat.le_trans (Nat.le_of_ble_eq_true rfl) hn)
  have i46 := iz46 (Nat.le_trans (Nat.le_of_ble_eq_true rfl) hn)
  refine x_istore_n 2 (ls' := [(2, 46), (0, a1), (0, s0), (9, 0), (9, 0), (9, 0), (9, 0)]) dX13_getBytes_11 rfl rfl rfl rfl ?_
  refine x_aload_n 0 dX13_getBytes_12 rfl rfl rfl rfl rfl ?_
  refine x_iconst 0 (z := 0) dX13_getBytes_13 rfl (by decide) rfl ?_
  refine y_Vi 144 (M := mX13_peek) (As := [(0, 0)]) (st := []) dX13_getBytes_14 i46 rfl q2875 q2877 qs154 q380 q2878 rfl hmX13_peek rfl rfl rfl rfl rfl rfl rfl rfl (k_mono h (fun r1 w2 h => ?_))
  refine x_iload_n 2 dX13_getBytes_17 rfl rfl rfl ?_
  refine x_if_eq (t := 26) 8 dX13_getBytes_18 rfl rfl (b_ite h (fun hc h => ?_) (fun hc h => ?_))
  · refine x_iconst 1 (z := 1) dX13_getBytes_26 rfl (by decide) rfl ?_
    refine x_icmp_eq (t := 32) 5 dX13_getBytes_27 rfl rfl (b_ite h (fun hc h => ?_) (fun hc h => ?_))
    · refine x_aload_n 0 dX13_getBytes_32 rfl rfl rfl rfl rfl ?_
      refine x_dup dX13_getBytes_33 rfl rfl ?_
      refine y_get 130 9 (c := 12) (z := w2 46 9) dX13_getBytes_34 i46 rfl in_X13 q940 rfl rfl rfl rfl rfl ?_
      refine x_iconst 1 (z := 1) dX13_getBytes_37 rfl (by decide) rfl ?_
      refine x_iadd dX13_getBytes_38 rfl ?_
      refine x_put 130 9 (c := 12) dX13_getBytes_39 i46 rfl in_X13 tyX13_ok nmX13 q940 rfl rfl rfl (Or.inl rfl) (Or.inl ⟨rfl, rfl⟩) rfl ?_
      refine x_aload_n 0 dX13_getBytes_42 rfl rfl rfl rfl rfl ?_
      refine y_Vi 169 (M := mX13_getCount) (As := []) (st := []) dX13_getBytes_43 i46 rfl q2883 q2885 qs156 q380 q2886 rfl hmX13_getCount rfl rfl rfl rfl rfl rfl rfl rfl (k_mono h (fun r3 w4 h => ?_))
      refine x_istore_n 3 (ls' := [(2, 46), (0, a1), (0, s0), (0, r3), (9, 0), (9, 0), (9, 0)]) dX13_getBytes_46 rfl rfl rfl rfl ?_
      refine x_iload_n 3 dX13_getBytes_47 rfl rfl rfl ?_
      refine x_if_ge (t := 53) 5 dX13_getBytes_48 rfl rfl (b_ite h (fun hc h => ?_) (fun hc h => ?_))
      · refine x_aload_n 0 dX13_getBytes_53 rfl rfl rfl rfl rfl ?_
        refine y_getF 28 1 (c := 12) (z := 27) dX13_getBytes_54 i46 rfl in_X13 q930 rfl rfl rfl fn_46_1 (Nat.le_trans (Nat.le_of_ble_eq_true rfl) hn) rfl ?_
        refine x_iload_n 3 dX13_getBytes_57 rfl rfl rfl ?_
        refine y_Vi 172 (M := mX8_bytes) (As := [(0, r3)]) (st := []) dX13_getBytes_58 i27 rfl q2887 q2002 q2003 q375 q2004 rfl hmX8_bytes rfl rfl rfl rfl rfl rfl rfl rfl (k_mono h (fun r5 w6 h => ?_))
        refine x_istore 4 (ls' := [(2, 46), (0, a1), (0, s0), (0, r3), (0, r5), (9, 0), (9, 0)]) dX13_getBytes_61 rfl rfl rfl ?_
        refine x_iconst 0 (z := 0) dX13_getBytes_63 rfl (by decide) rfl ?_
        refine x_istore 5 (ls' := [(2, 46), (0, a1), (0, s0), (0, r3), (0, r5), (0, 0), (9, 0)]) dX13_getBytes_64 rfl rfl rfl ?_
        exact x_fg (fgk (fgk (fgk (fgk (fgk (fgk (fgk (fg0)))))))) h
      · refine x_iconst 0 (z := 0) dX13_getBytes_51 rfl (by decide) rfl ?_
        exact y_iret dX13_getBytes_52 rfl h
    · refine x_iconst 0 (z := 0) dX13_getBytes_30 rfl (by decide) rfl ?_
      exact y_iret dX13_getBytes_31 rfl h
  · refine x_bipush 10 (z := 10) dX13_getBytes_21 rfl (by decide) rfl ?_
    refine x_goto 4 (q := 27) dX13_getBytes_23 rfl ?_
    refine x_icmp_eq (t := 32) 5 dX13_getBytes_27 rfl rfl (b_ite h (fun hc h => ?_) (fun hc h => ?_))
    · refine x_aload_n 0 dX13_getBytes_32 rfl rfl rfl rfl rfl ?_
      refine x_dup dX13_getBytes_33 rfl rfl ?_
      refine y_get 130 9 (c := 12) (z := w2 46 9) dX13_getBytes_34 i46 rfl in_X13 q940 rfl rfl rfl rfl rfl ?_
      refine x_iconst 1 (z := 1) dX13_getBytes_37 rfl (by decide) rfl ?_
      refine x_iadd dX13_getBytes_38 rfl ?_
      refine x_put 130 9 (c := 12) dX13_getBytes_39 i46 rfl in_X13 tyX13_ok nmX13 q940 rfl rfl rfl (Or.inl rfl) (Or.inl ⟨rfl, rfl⟩) rfl ?_
      refine x_aload_n 0 dX13_getBytes_42 rfl rfl rfl rfl rfl ?_
      refine y_Vi 169 (M := mX13_getCount) (As := []) (st := []) dX13_getBytes_43 i46 rfl q2883 q2885 qs156 q380 q2886 rfl hmX13_getCount rfl rfl rfl rfl rfl rfl rfl rfl (k_mono h (fun r7 w8 h => ?_))
      refine x_istore_n 3 (ls' := [(2, 46), (0, a1), (0, s0), (0, r7), (9, 0), (9, 0), (9, 0)]) dX13_getBytes_46 rfl rfl rfl rfl ?_
      refine x_iload_n 3 dX13_getBytes_47 rfl rfl rfl ?_
      refine x_if_ge (t := 53) 5 dX13_getBytes_48 rfl rfl (b_ite h (fun hc h => ?_) (fun hc h => ?_))
      · refine x_aload_n 0 dX13_getBytes_53 rfl rfl rfl rfl rfl ?_
        refine y_getF 28 1 (c := 12) (z := 27) dX13_getBytes_54 i46 rfl in_X13 q930 rfl rfl rfl fn_46_1 (Nat.le_trans (Nat.le_of_ble_eq_true rfl) hn) rfl ?_
        refine x_iload_n 3 dX13_getBytes_57 rfl rfl rfl ?_
        refine y_Vi 172 (M := mX8_bytes) (As := [(0, r7)]) (st := []) dX13_getBytes_58 i27 rfl q2887 q2002 q2003 q375 q2004 rfl hmX8_bytes rfl rfl rfl rfl rfl rfl rfl rfl (k_mono h (fun r9 w10 h => ?_))
        refine x_istore 4 (ls' := [(2, 46), (0, a1), (0, s0), (0, r7), (0, r9), (9, 0), (9, 0)]) dX13_getBytes_61 rfl rfl rfl ?_
        refine x_iconst 0 (z := 0) dX13_getBytes_63 rfl (by decide) rfl ?_
        refine x_istore 5 (ls' := [(2, 46), (0, a1), (0, s0), (0, r7), (0, r9), (0, 0), (9, 0)]) dX13_getBytes_64 rfl rfl rfl ?_
        exact x_fg (fgk (fgk (fgk (fgk (fgk (fgk (fgk (fg0)))))))) h
      · refine x_iconst 0 (z := 0) dX13_getBytes_51 rfl (by decide) rfl ?_
        exact y_iret dX13_getBytes_52 rfl h
    · refine x_iconst 0 (z := 0) dX13_getBytes_30 rfl (by decide) rfl ?_
      exact y_iret dX13_getBytes_31 rfl h
theorem sX13_getBytes_66 {d n : Nat} {w : bW} {Q : Int → bW → Prop} {X : String → bW → Prop} (hn : 143 ≤ n) (a1 : Int) (a2 : Int) (a3 : Int) (a4 : Int) (a5 : Int) (h : if a3 ≤ a5 then (if a1 ≠ 7 then (Q a4 (b_up w 46 9 (b_i ((w 46 9) + a3)))) else (b_K d mX11_read_2 [(2, 39), (2, 27), (0, a4)] n (b_up w 46 9 (b_i ((w 46 9) + a3))) (fun r1 w2 => if 0 ≤ r1 then (Q a4 w2) else (Q 0 w2)) X)) else (b_K d mX13_peek [(2, 46), (0, a5)] n w (fun r3 w4 => if a2 ≠ 0 then (b_K d mX8_setByte [(2, 27), (0, a4), (0, a5), (0, r3)] n w4 (fun r5 w6 => LX13_getBytes_66 d n Q X a1 a2 a3 a4 (b_i (a5 + 1)) w6) X) else (b_K d mX30_isPlain [(0, r3)] n w4 (fun r7 w8 => if r7 ≠ 0 then (b_K d mX8_setByte [(2, 27), (0, a4), (0, a5), (0, r3)] n w8 (fun r9 w10 => LX13_getBytes_66 d n Q X a1 a2 a3 a4 (b_i (a5 + 1)) w10) X) else (if r3 = 10 then (b_K d mX8_setByte [(2, 27), (0, a4), (0, a5), (0, r3)] n w8 (fun r11 w12 => LX13_getBytes_66 d n Q X a1 a2 a3 a4 (b_i (a5 + 1)) w12) X) else (Q 0 w8))) X)) X)) : LX13_getBytes_66 d n Q X a1 a2 a3 a4 a5 w := by
  have i27 := iz27 (Nat.le_trans (Nat.le_of_ble_eq_true rfl) hn)
  have i39 := iz39 (Nat.le_trans (Nat.le_of_ble_eq_true rfl) hn)
  have i46 := iz46 (Nat.le_trans (Nat.le_of_ble_eq_true rfl) hn)
  refine x_iload 5 dX13_getBytes_66 rfl rfl ?_
  refine x_iload_n 3 dX13_getBytes_68 rfl rfl rfl ?_
  refine x_icmp_ge (t := 120) 51 dX13_getBytes_69 rfl rfl (b_ite h (fun hc h => ?_) (fun hc h => ?_))
  · refine x_aload_n 0 dX13_getBytes_120 rfl rfl rfl rfl rfl ?_
    refine x_dup dX13_getBytes_121 rfl rfl ?_
    refine y_get 130 9 (c := 12) (z := w 46 9) dX13_getBytes_122 i46 rfl in_X13 q940 rfl rfl rfl rfl rfl ?_
    refine x_iload_n 3 dX13_getBytes_125 rfl rfl rfl ?_
    refine x_iadd dX13_getBytes_126 rfl ?_
    refine x_put 130 9 (c := 12) dX13_getBytes_127 i46 rfl in_X13 tyX13_ok nmX13 q940 rfl rfl rfl (Or.inl rfl) (Or.inl ⟨rfl, rfl⟩) rfl ?_
    refine x_iload_n 1 dX13_getBytes_130 rfl rfl rfl ?_
    refine x_bipush 7 (z := 7) dX13_getBytes_131 rfl (by decide) rfl ?_
    refine x_icmp_ne (t := 156) 23 dX13_getBytes_133 rfl rfl (b_ite h (fun hc h => ?_) (fun hc h => ?_))
    · refine x_iload 4 dX13_getBytes_156 rfl rfl ?_
      exact y_iret dX13_getBytes_158 rfl h
    · refine x_aload_n 0 dX13_getBytes_136 rfl rfl rfl rfl rfl ?_
      refine y_getF 40 4 (c := 12) (z := 39) dX13_getBytes_137 i46 rfl in_X13 q933 rfl rfl rfl fn_46_4 (Nat.le_trans (Nat.le_of_ble_eq_true rfl) hn) rfl ?_
      refine x_aload_n 0 dX13_getBytes_140 rfl rfl rfl rfl rfl ?_
      refine y_getF 28 1 (c := 12) (z := 27) dX13_getBytes_141 i46 rfl in_X13 q930 rfl rfl rfl fn_46_1 (Nat.le_trans (Nat.le_of_ble_eq_true rfl) hn) rfl ?_
      refine x_iload 4 dX13_getBytes_144 rfl rfl ?_
      refine y_Vi 184 (M := mX11_read_2) (As := [(2, 27), (0, a4)]) (st := []) dX13_getBytes_146 i39 rfl q2890 q2891 q2892 q378 q2893 rfl hmX11_read_2 rfl rfl rfl rfl rfl rfl rfl rfl (k_mono h (fun r1 w2 h => ?_))
      refine x_if_ge (t := 156) 7 dX13_getBytes_149 rfl rfl (b_ite h (fun hc h => ?_) (fun hc h => ?_))
      · refine x_iload 4 dX13_getBytes_156 rfl rfl ?_
        exact y_iret dX13_getBytes_158 rfl h
      · refine x_iconst 0 (z := 0) dX13_getBytes_152 rfl (by decide) rfl ?_
        refine x_goto 5 (q := 158) dX13_getBytes_153 rfl ?_
        exact y_iret dX13_getBytes_158 rfl h
  · refine x_aload_n 0 dX13_getBytes_72 rfl rfl rfl rfl rfl ?_
    refine x_iload 5 dX13_getBytes_73 rfl rfl ?_
    refine y_Vi 144 (M := mX13_peek) (As := [(0, a5)]) (st := []) dX13_getBytes_75 i46 rfl q2875 q2877 qs154 q380 q2878 rfl hmX13_peek rfl rfl rfl rfl rfl rfl rfl rfl (k_mono h (fun r3 w4 h => ?_))
    refine x_istore 6 (ls' := [(2, 46), (0, a1), (0, a2), (0, a3), (0, a4), (0, a5), (0, r3)]) dX13_getBytes_78 rfl rfl rfl ?_
    refine x_iload_n 2 dX13_getBytes_80 rfl rfl rfl ?_
    refine x_if_ne (t := 101) 20 dX13_getBytes_81 rfl rfl (b_ite h (fun hc h => ?_) (fun hc h => ?_))
    · refine x_aload_n 0 dX13_getBytes_101 rfl rfl rfl rfl rfl ?_
      refine y_getF 28 1 (c := 12) (z := 27) dX13_getBytes_102 i46 rfl in_X13 q930 rfl rfl rfl fn_46_1 (Nat.le_trans (Nat.le_of_ble_eq_true rfl) hn) rfl ?_
      refine x_iload 4 dX13_getBytes_105 rfl rfl ?_
      refine x_iload 5 dX13_getBytes_107 rfl rfl ?_
      refine x_iload 6 dX13_getBytes_109 rfl rfl ?_
      refine y_Vv 181 (M := mX8_setByte) (As := [(0, a4), (0, a5), (0, r3)]) (st := []) dX13_getBytes_111 i27 rfl q2889 q2006 q2007 q375 q2008 rfl hmX8_setByte rfl rfl rfl rfl rfl rfl rfl (k_mono h (fun r5 w6 h => ?_))
      refine x_iinc 5 1 (ls' := [(2, 46), (0, a1), (0, a2), (0, a3), (0, a4), (0, b_i (a5 + 1)), (0, r3)]) dX13_getBytes_114 rfl rfl rfl rfl ?_
      refine x_goto (-51) (q := 66) dX13_getBytes_117 rfl ?_
      exact x_fg (fgk (fgk (fgk (fgk (fgk (fgk (fgd (fg0)))))))) h
    · refine x_iload 6 dX13_getBytes_84 rfl rfl ?_
      refine y_Si 175 (M := mX30_isPlain) (As := [(0, r3)]) (st := []) dX13_getBytes_86 q2888 q1718 q398 q1719 hmX30_isPlain rfl rfl rfl rfl rfl rfl rfl rfl (k_mono h (fun r7 w8 h => ?_))
      refine x_if_ne (t := 101) 12 dX13_getBytes_89 rfl rfl (b_ite h (fun hc h => ?_) (fun hc h => ?_))
      · refine x_aload_n 0 dX13_getBytes_101 rfl rfl rfl rfl rfl ?_
        refine y_getF 28 1 (c := 12) (z := 27) dX13_getBytes_102 i46 rfl in_X13 q930 rfl rfl rfl fn_46_1 (Nat.le_trans (Nat.le_of_ble_eq_true rfl) hn) rfl ?_
        refine x_iload 4 dX13_getBytes_105 rfl rfl ?_
        refine x_iload 5 dX13_getBytes_107 rfl rfl ?_
        refine x_iload 6 dX13_getBytes_109 rfl rfl ?_
        refine y_Vv 181 (M := mX8_setByte) (As := [(0, a4), (0, a5), (0, r3)]) (st := []) dX13_getBytes_111 i27 rfl q2889 q2006 q2007 q375 q2008 rfl hmX8_setByte rfl rfl rfl rfl rfl rfl rfl (k_mono h (fun r9 w10 h => ?_))
        refine x_iinc 5 1 (ls' := [(2, 46), (0, a1), (0, a2), (0, a3), (0, a4), (0, b_i (a5 + 1)), (0, r3)]) dX13_getBytes_114 rfl rfl rfl rfl ?_
        refine x_goto (-51) (q := 66) dX13_getBytes_117 rfl ?_
        exact x_fg (fgk (fgk (fgk (fgk (fgk (fgk (fgd (fg0)))))))) h
      · refine x_iload 6 dX13_getBytes_92 rfl rfl ?_
        refine x_bipush 10 (z := 10) dX13_getBytes_94 rfl (by decide) rfl ?_
        refine x_icmp_eq (t := 101) 5 dX13_getBytes_96 rfl rfl (b_ite h (fun hc h => ?_) (fun hc h => ?_))
        · refine x_aload_n 0 dX13_getBytes_101 rfl rfl rfl rfl rfl ?_
          refine y_getF 28 1 (c := 12) (z := 27) dX13_getBytes_102 i46 rfl in_X13 q930 rfl rfl rfl fn_46_1 (Nat.le_trans (Nat.le_of_ble_eq_true rfl) hn) rfl ?_
          refine x_iload 4 dX13_getBytes_105 rfl rfl ?_
          refine x_iload 5 dX13_getBytes_107 rfl rfl ?_
          refine x_iload 6 dX13_getBytes_109 rfl rfl ?_
          refine y_Vv 181 (M := mX8_setByte) (As := [(0, a4), (0, a5), (0, r3)]) (st := []) dX13_getBytes_111 i27 rfl q2889 q2006 q2007 q375 q2008 rfl hmX8_setByte rfl rfl rfl rfl rfl rfl rfl (k_mono h (fun r11 w12 h => ?_))
          refine x_iinc 5 1 (ls' := [(2, 46), (0, a1), (0, a2), (0, a3), (0, a4), (0, b_i (a5 + 1)), (0, r3)]) dX13_getBytes_114 rfl rfl rfl rfl ?_
          refine x_goto (-51) (q := 66) dX13_getBytes_117 rfl ?_
          exact x_fg (fgk (fgk (fgk (fgk (fgk (fgk (fgd (fg0)))))))) h
        · refine x_iconst 0 (z := 0) dX13_getBytes_99 rfl (by decide) rfl ?_
          exact y_iret dX13_getBytes_100 rfl h
theorem rX13_getCount {d n : Nat} {w : bW} {Q : Int → bW → Prop} {X : String → bW → Prop} (hn : 47 ≤ n) (h : if b_i ((w 46 9) + 4) ≤ w 46 10 then (b_K d mX13_peek [(2, 46), (0, 0)] n w (fun r1 w2 => b_K d mX13_peek [(2, 46), (0, 1)] n w2 (fun r3 w4 => b_K d mX13_peek [(2, 46), (0, 2)] n w4 (fun r5 w6 => b_K d mX13_peek [(2, 46), (0, 3)] n w6 (fun r7 w8 => if b_or (b_or (b_or (b_shl r1 24) (b_shl r3 16)) (b_shl r5 8)) r7 < 0 then (Q (-1) (b_up w8 46 9 (b_i ((w8 46 9) + 4)))) else (if b_or (b_or (b_or (b_shl r1 24) (b_shl r3 16)) (b_shl r5 8)) r7 ≤ b_i ((w8 46 10) - (b_i ((w8 46 9) + 4))) then (Q (b_or (b_or (b_or (b_shl r1 24) (b_shl r3 16)) (b_shl r5 8)) r7) (b_up w8 46 9 (b_i ((w8 46 9) + 4)))) else (Q (-1) (b_up w8 46 9 (b_i ((w8 46 9) + 4)))))) X) X) X) X) else (Q (-1) w)) : b_K (d + 1) mX13_getCount [(2, 46)] n w Q X := by
  have i46 := iz46 (Nat.le_trans (Nat.le_of_ble_eq_true rfl) hn)
  refine k_of (by decide) rfl rfl rfl (ls := [(2, 46), (9, 0)]) rfl ?_
  refine x_aload_n 0 dX13_getCount_0 rfl rfl rfl rfl rfl ?_
  refine y_get 130 9 (c := 12) (z := w 46 9) dX13_getCount_1 i46 rfl in_X13 q940 rfl rfl rfl rfl rfl ?_
  refine x_iconst 4 (z := 4) dX13_getCount_4 rfl (by decide) rfl ?_
  refine x_iadd dX13_getCount_5 rfl ?_
  refine x_aload_n 0 dX13_getCount_6 rfl rfl rfl rfl rfl ?_
  refine y_get 132 10 (c := 12) (z := w 46 10) dX13_getCount_7 i46 rfl in_X13 q941 rfl rfl rfl rfl rfl ?_
  refine x_icmp_le (t := 15) 5 dX13_getCount_10 rfl rfl (b_ite h (fun hc h => ?_) (fun hc h => ?_))
  · refine x_aload_n 0 dX13_getCount_15 rfl rfl rfl rfl rfl ?_
    refine x_iconst 0 (z := 0) dX13_getCount_16 rfl (by decide) rfl ?_
    refine y_Vi 144 (M := mX13_peek) (As := [(0, 0)]) (st := []) dX13_getCount_17 i46 rfl q2875 q2877 qs154 q380 q2878 rfl hmX13_peek rfl rfl rfl rfl rfl rfl rfl rfl (k_mono h (fun r1 w2 h => ?_))
    refine x_bipush 24 (z := 24) dX13_getCount_20 rfl (by decide) rfl ?_
    refine x_ishl dX13_getCount_22 rfl ?_
    refine x_aload_n 0 dX13_getCount_23 rfl rfl rfl rfl rfl ?_
    refine x_iconst 1 (z := 1) dX13_getCount_24 rfl (by decide) rfl ?_
    refine y_Vi 144 (M := mX13_peek) (As := [(0, 1)]) (st := [(0, b_shl r1 24)]) dX13_getCount_25 i46 rfl q2875 q2877 qs154 q380 q2878 rfl hmX13_peek rfl rfl rfl rfl rfl rfl rfl rfl (k_mono h (fun r3 w4 h => ?_))
    refine x_bipush 16 (z := 16) dX13_getCount_28 rfl (by decide) rfl ?_
    refine x_ishl dX13_getCount_30 rfl ?_
    refine x_ior dX13_getCount_31 rfl ?_
    refine x_aload_n 0 dX13_getCount_32 rfl rfl rfl rfl rfl ?_
    refine x_iconst 2 (z := 2) dX13_getCount_33 rfl (by decide) rfl ?_
    refine y_Vi 144 (M := mX13_peek) (As := [(0, 2)]) (st := [(0, b_or (b_shl r1 24) (b_shl r3 16))]) dX13_getCount_34 i46 rfl q2875 q2877 qs154 q380 q2878 rfl hmX13_peek rfl rfl rfl rfl rfl rfl rfl rfl (k_mono h (fun r5 w6 h => ?_))
    refine x_bipush 8 (z := 8) dX13_getCount_37 rfl (by decide) rfl ?_
    refine x_ishl dX13_getCount_39 rfl ?_
    refine x_ior dX13_getCount_40 rfl ?_
    refine x_aload_n 0 dX13_getCount_41 rfl rfl rfl rfl rfl ?_
    refine x_iconst 3 (z := 3) dX13_getCount_42 rfl (by decide) rfl ?_
    refine y_Vi 144 (M := mX13_peek) (As := [(0, 3)]) (st := [(0, b_or (b_or (b_shl r1 24) (b_shl r3 16)) (b_shl r5 8))]) dX13_getCount_43 i46 rfl q2875 q2877 qs154 q380 q2878 rfl hmX13_peek rfl rfl rfl rfl rfl rfl rfl rfl (k_mono h (fun r7 w8 h => ?_))
    refine x_ior dX13_getCount_46 rfl ?_
    refine x_istore_n 1 (ls' := [(2, 46), (0, b_or (b_or (b_or (b_shl r1 24) (b_shl r3 16)) (b_shl r5 8)) r7)]) dX13_getCount_47 rfl rfl rfl rfl ?_
    refine x_aload_n 0 dX13_getCount_48 rfl rfl rfl rfl rfl ?_
    refine x_dup dX13_getCount_49 rfl rfl ?_
    refine y_get 130 9 (c := 12) (z := w8 46 9) dX13_getCount_50 i46 rfl in_X13 q940 rfl rfl rfl rfl rfl ?_
    refine x_iconst 4 (z := 4) dX13_getCount_53 rfl (by decide) rfl ?_
    refine x_iadd dX13_getCount_54 rfl ?_
    refine x_put 130 9 (c := 12) dX13_getCount_55 i46 rfl in_X13 tyX13_ok nmX13 q940 rfl rfl rfl (Or.inl rfl) (Or.inl ⟨rfl, rfl⟩) rfl ?_
    refine x_iload_n 1 dX13_getCount_58 rfl rfl rfl ?_
    refine x_if_lt (t := 75) 16 dX13_getCount_59 rfl rfl (b_ite h (fun hc h => ?_) (fun hc h => ?_))
    · refine x_iconst (-1) (z := (-1)) dX13_getCount_75 rfl (by decide) rfl ?_
      refine x_goto 4 (q := 80) dX13_getCount_76 rfl ?_
      exact y_iret dX13_getCount_80 rfl h
    · refine x_iload_n 1 dX13_getCount_62 rfl rfl rfl ?_
      refine x_aload_n 0 dX13_getCount_63 rfl rfl rfl rfl rfl ?_
      refine y_get 132 10 (c := 12) (z := w8 46 10) dX13_getCount_64 i46 rfl in_X13 q941 rfl rfl rfl rfl rfl ?_
      refine x_aload_n 0 dX13_getCount_67 rfl rfl rfl rfl rfl ?_
      refine y_get 130 9 (c := 12) (z := b_i ((w8 46 9) + 4)) dX13_getCount_68 i46 rfl in_X13 q940 rfl rfl rfl rfl rfl ?_
      refine x_isub dX13_getCount_71 rfl ?_
      refine x_icmp_le (t := 79) 7 dX13_getCount_72 rfl rfl (b_ite h (fun hc h => ?_) (fun hc h => ?_))
      · refine x_iload_n 1 dX13_getCount_79 rfl rfl rfl ?_
        exact y_iret dX13_getCount_80 rfl h
      · refine x_iconst (-1) (z := (-1)) dX13_getCount_75 rfl (by decide) rfl ?_
        refine x_goto 4 (q := 80) dX13_getCount_76 rfl ?_
        exact y_iret dX13_getCount_80 rfl h
  · refine x_iconst (-1) (z := (-1)) dX13_getCount_13 rfl (by decide) rfl ?_
    exact y_iret dX13_getCount_14 rfl h
theorem rX13_getWrapped {d n : Nat} {w : bW} {Q : Int → bW → Prop} {X : String → bW → Prop} (hn : 143 ≤ n) (a1 : Int) (a2 : Int) (h : b_K d mX13_get [(2, 46), (0, a2)] n w (fun r1 w2 => if r1 ≠ 0 then (b_K d mX8_wrap [(2, 27), (0, a1), (0, r1)] n w2 (fun r3 w4 => Q r3 w4) X) else (Q 0 w2)) X) : b_K (d + 1) mX13_getWrapped [(2, 46), (0, a1), (0, a2)] n w Q X := by
  have i27 := iz27 (Nat.le_trans (Nat.le_of_ble_eq_true rfl) hn)
  have i46 := iz46 (Nat.le_trans (Nat.le_of_ble_eq_true rfl) hn)
  refine k_of (by decide) rfl rfl rfl (ls := [(2, 46), (0, a1), (0, a2), (9, 0)]) rfl ?_
  refine x_aload_n 0 dX13_getWrapped_0 rfl rfl rfl rfl rfl ?_
  refine x_iload_n 2 dX13_getWrapped_1 rfl rfl rfl ?_
  refine y_Vi 141 (M := mX13_get) (As := [(0, a2)]) (st := []) dX13_getWrapped_2 i46 rfl q2867 q2869 qs152 q380 q2870 rfl hmX13_get rfl rfl rfl rfl rfl rfl rfl rfl (k_mono h (fun r1 w2 h => ?_))
  refine x_istore_n 3 (ls' := [(2, 46), (0, a1), (0, a2), (0, r1)]) dX13_getWrapped_5 rfl rfl rfl rfl ?_
  refine x_iload_n 3 dX13_getWrapped_6 rfl rfl rfl ?_
  refine x_if_ne (t := 14) 7 dX13_getWrapped_7 rfl rfl (b_ite h (fun hc h => ?_) (fun hc h => ?_))
  · refine x_aload_n 0 dX13_getWrapped_14 rfl rfl rfl rfl rfl ?_
    refine y_getF 28 1 (c := 12) (z := 27) dX13_getWrapped_15 i46 rfl in_X13 q930 rfl rfl rfl fn_46_1 (Nat.le_trans (Nat.le_of_ble_eq_true rfl) hn) rfl ?_
    refine x_iload_n 1 dX13_getWrapped_18 rfl rfl rfl ?_
    refine x_iload_n 3 dX13_getWrapped_19 rfl rfl rfl ?_
    refine y_Vi 166 (M := mX8_wrap) (As := [(0, a1), (0, r1)]) (st := []) dX13_getWrapped_20 i27 rfl q2901 q2024 q2025 q375 q2026 rfl hmX8_wrap rfl rfl rfl rfl rfl rfl rfl rfl (k_mono h (fun r3 w4 h => ?_))
    exact y_iret dX13_getWrapped_23 rfl h
  · refine x_iconst 0 (z := 0) dX13_getWrapped_10 rfl (by decide) rfl ?_
    refine x_goto 12 (q := 23) dX13_getWrapped_11 rfl ?_
    exact y_iret dX13_getWrapped_23 rfl h
abbrev LX13_getSequence_57 (d n : Nat) (Q : Int → bW → Prop) (X : String → bW → Prop) (a1 : Int) (a2 : Int) (a4 : Int) (a5 : Int) (a6 : Int) (w : bW) : Prop := b_Y (d + 1) mX13_getSequence n Q X 57 [(2, 46), (0, a1), (0, a2), (9, 0), (0, a4), (0, a5), (0, a6), (9, 0)] [] w
abbrev LX13_getSequence_86 (d n : Nat) (Q : Int → bW → Prop) (X : String → bW → Prop) (a2 : Int) (a4 : Int) (a5 : Int) (a6 : Int) (w : bW) : Prop := b_Y (d + 1) mX13_getSequence n Q X 86 [(2, 46), (9, 0), (0, a2), (9, 0), (0, a4), (0, a5), (0, a6), (9, 0)] [] w
theorem rX13_getSequence {d n : Nat} {w : bW} {Q : Int → bW → Prop} {X : String → bW → Prop} (hn : 143 ≤ n) (a1 : Int) (a2 : Int) (h : b_K d mX13_peek [(2, 46), (0, 0)] n w (fun r1 w2 => if r1 = 2 then (b_K d mX13_getCount [(2, 46)] n (b_up w2 46 9 (b_i ((w2 46 9) + 1))) (fun r3 w4 => if 0 ≤ r3 then (LX13_getSequence_57 d n Q X a1 a2 (w4 46 10) (w4 46 12) 1 (b_up w4 46 10 (b_i ((w4 46 9) + r3)))) else (Q 0 w4)) X) else (Q 0 w2)) X) : b_K (d + 1) mX13_getSequence [(2, 46), (0, a1), (0, a2)] n w Q X := by
  have i46 := iz46 (Nat.le_trans (Nat.le_of_ble_eq_true rfl) hn)
  refine k_of (by decide) rfl rfl rfl (ls := [(2, 46), (0, a1), (0, a2), (9, 0), (9, 0), (9, 0), (9, 0), (9, 0)]) rfl ?_
  refine x_aload_n 0 dX13_getSequence_0 rfl rfl rfl rfl rfl ?_
  refine x_iconst 0 (z := 0) dX13_getSequence_1 rfl (by decide) rfl ?_
  refine y_Vi 144 (M := mX13_peek) (As := [(0, 0)]) (st := []) dX13_getSequence_2 i46 rfl q2875 q2877 qs154 q380 q2878 rfl hmX13_peek rfl rfl rfl rfl rfl rfl rfl rfl (k_mono h (fun r1 w2 h => ?_))
  refine x_iconst 2 (z := 2) dX13_getSequence_5 rfl (by decide) rfl ?_
  refine x_icmp_eq (t := 11) 5 dX13_getSequence_6 rfl rfl (b_ite h (fun hc h => ?_) (fun hc h => ?_))
  · refine x_aload_n 0 dX13_getSequence_11 rfl rfl rfl rfl rfl ?_
    refine x_dup dX13_getSequence_12 rfl rfl ?_
    refine y_get 130 9 (c := 12) (z := w2 46 9) dX13_getSequence_13 i46 rfl in_X13 q940 rfl rfl rfl rfl rfl ?_
    refine x_iconst 1 (z := 1) dX13_getSequence_16 rfl (by decide) rfl ?_
    refine x_iadd dX13_getSequence_17 rfl ?_
    refine x_put 130 9 (c := 12) dX13_getSequence_18 i46 rfl in_X13 tyX13_ok nmX13 q940 rfl rfl rfl (Or.inl rfl) (Or.inl ⟨rfl, rfl⟩) rfl ?_
    refine x_aload_n 0 dX13_getSequence_21 rfl rfl rfl rfl rfl ?_
    refine y_Vi 169 (M := mX13_getCount) (As := []) (st := []) dX13_getSequence_22 i46 rfl q2883 q2885 qs156 q380 q2886 rfl hmX13_getCount rfl rfl rfl rfl rfl rfl rfl rfl (k_mono h (fun r3 w4 h => ?_))
    refine x_istore_n 3 (ls' := [(2, 46), (0, a1), (0, a2), (0, r3), (9, 0), (9, 0), (9, 0), (9, 0)]) dX13_getSequence_25 rfl rfl rfl rfl ?_
    refine x_iload_n 3 dX13_getSequence_26 rfl rfl rfl ?_
    refine x_if_ge (t := 32) 5 dX13_getSequence_27 rfl rfl (b_ite h (fun hc h => ?_) (fun hc h => ?_))
    · refine x_aload_n 0 dX13_getSequence_32 rfl rfl rfl rfl rfl ?_
      refine y_get 132 10 (c := 12) (z := w4 46 10) dX13_getSequence_33 i46 rfl in_X13 q941 rfl rfl rfl rfl rfl ?_
      refine x_istore 4 (ls' := [(2, 46), (0, a1), (0, a2), (0, r3), (0, w4 46 10), (9, 0), (9, 0), (9, 0)]) dX13_getSequence_36 rfl rfl rfl ?_
      refine x_aload_n 0 dX13_getSequence_38 rfl rfl rfl rfl rfl ?_
      refine x_aload_n 0 dX13_getSequence_39 rfl rfl rfl rfl rfl ?_
      refine y_get 130 9 (c := 12) (z := w4 46 9) dX13_getSequence_40 i46 rfl in_X13 q940 rfl rfl rfl rfl rfl ?_
      refine x_iload_n 3 dX13_getSequence_43 rfl rfl rfl ?_
      refine x_iadd dX13_getSequence_44 rfl ?_
      refine x_put 132 10 (c := 12) dX13_getSequence_45 i46 rfl in_X13 tyX13_ok nmX13 q941 rfl rfl rfl (Or.inl rfl) (Or.inl ⟨rfl, rfl⟩) rfl ?_
      refine x_aload_n 0 dX13_getSequence_48 rfl rfl rfl rfl rfl ?_
      refine y_get 138 12 (c := 12) (z := w4 46 12) dX13_getSequence_49 i46 rfl in_X13 q943 rfl rfl rfl rfl rfl ?_
      refine x_istore 5 (ls' := [(2, 46), (0, a1), (0, a2), (0, r3), (0, w4 46 10), (0, w4 46 12), (9, 0), (9, 0)]) dX13_getSequence_52 rfl rfl rfl ?_
      refine x_iconst 1 (z := 1) dX13_getSequence_54 rfl (by decide) rfl ?_
      refine x_istore 6 (ls' := [(2, 46), (0, a1), (0, a2), (0, r3), (0, w4 46 10), (0, w4 46 12), (0, 1), (9, 0)]) dX13_getSequence_55 rfl rfl rfl ?_
      exact x_fg (fgk (fgk (fgk (fgd (fgk (fgk (fgk (fgk (fg0))))))))) h
    · refine x_iconst 0 (z := 0) dX13_getSequence_30 rfl (by decide) rfl ?_
      exact y_iret dX13_getSequence_31 rfl h
  · refine x_iconst 0 (z := 0) dX13_getSequence_9 rfl (by decide) rfl ?_
    exact y_iret dX13_getSequence_10 rfl h
theorem sX13_getSequence_57 {d n : Nat} {w : bW} {Q : Int → bW → Prop} {X : String → bW → Prop} (hn : 143 ≤ n) (a1 : Int) (a2 : Int) (a4 : Int) (a5 : Int) (a6 : Int) (h : if a6 = 0 then (LX13_getSequence_86 d n Q X a2 a4 a5 a6 w) else (if w 46 10 ≤ w 46 9 then (LX13_getSequence_86 d n Q X a2 a4 a5 a6 w) else (b_K d mX13_element [(2, 46), (0, a1), (0, a2), (0, a5)] n w (fun r1 w2 => LX13_getSequence_57 d n Q X a1 a2 a4 a5 r1 w2) X))) : LX13_getSequence_57 d n Q X a1 a2 a4 a5 a6 w := by
  have i46 := iz46 (Nat.le_trans (Nat.le_of_ble_eq_true rfl) hn)
  refine x_iload 6 dX13_getSequence_57 rfl rfl ?_
  refine x_if_eq (t := 86) 27 dX13_getSequence_59 rfl rfl (b_ite h (fun hc h => ?_) (fun hc h => ?_))
  · exact x_fg (fgk (fgd (fgk (fgk (fgk (fgk (fgk (fgk (fg0))))))))) h
  · refine x_aload_n 0 dX13_getSequence_62 rfl rfl rfl rfl rfl ?_
    refine y_get 130 9 (c := 12) (z := w 46 9) dX13_getSequence_63 i46 rfl in_X13 q940 rfl rfl rfl rfl rfl ?_
    refine x_aload_n 0 dX13_getSequence_66 rfl rfl rfl rfl rfl ?_
    refine y_get 132 10 (c := 12) (z := w 46 10) dX13_getSequence_67 i46 rfl in_X13 q941 rfl rfl rfl rfl rfl ?_
    refine x_icmp_ge (t := 86) 16 dX13_getSequence_70 rfl rfl (b_ite h (fun hc h => ?_) (fun hc h => ?_))
    · exact x_fg (fgk (fgd (fgk (fgk (fgk (fgk (fgk (fgk (fg0))))))))) h
    · refine x_aload_n 0 dX13_getSequence_73 rfl rfl rfl rfl rfl ?_
      refine x_iload_n 1 dX13_getSequence_74 rfl rfl rfl ?_
      refine x_iload_n 2 dX13_getSequence_75 rfl rfl rfl ?_
      refine x_iload 5 dX13_getSequence_76 rfl rfl ?_
      refine y_Vi 211 (M := mX13_element) (As := [(0, a1), (0, a2), (0, a5)]) (st := []) dX13_getSequence_78 i46 rfl q2907 q2909 qs159 q380 q2910 rfl hmX13_element rfl rfl rfl rfl rfl rfl rfl rfl (k_mono h (fun r1 w2 h => ?_))
      refine x_istore 6 (ls' := [(2, 46), (0, a1), (0, a2), (9, 0), (0, a4), (0, a5), (0, r1), (9, 0)]) dX13_getSequence_81 rfl rfl rfl ?_
      refine x_goto (-26) (q := 57) dX13_getSequence_83 rfl ?_
      exact x_fg (fgk (fgk (fgk (fgk (fgk (fgk (fgk (fgk (fg0))))))))) h
theorem sX13_getSequence_86 {d n : Nat} {w : bW} {Q : Int → bW → Prop} {X : String → bW → Prop} (hn : 143 ≤ n) (a2 : Int) (a4 : Int) (a5 : Int) (a6 : Int) (h : if a6 ≠ 0 then (if a2 ≠ 11 then (if a2 ≠ 15 then (b_K d mX10_build [(2, 38), (2, 49), (0, a5), (0, w 46 12), (0, 0)] n (b_up w 46 10 a4) (fun r1 w2 => Q r1 (b_up w2 46 12 a5)) X) else (b_K d mX10_build [(2, 38), (2, 49), (0, a5), (0, w 46 12), (0, 9000)] n (b_up w 46 10 a4) (fun r3 w4 => Q r3 (b_up w4 46 12 a5)) X)) else (b_K d mX13_list [(2, 46), (0, a5)] n (b_up w 46 10 a4) (fun r5 w6 => Q r5 (b_up w6 46 12 a5)) X)) else (Q 0 (b_up (b_up w 46 10 a4) 46 12 a5))) : LX13_getSequence_86 d n Q X a2 a4 a5 a6 w := by
  have i38 := iz38 (Nat.le_trans (Nat.le_of_ble_eq_true rfl) hn)
  have i46 := iz46 (Nat.le_trans (Nat.le_of_ble_eq_true rfl) hn)
  refine x_aload_n 0 dX13_getSequence_86 rfl rfl rfl rfl rfl ?_
  refine x_iload 4 dX13_getSequence_87 rfl rfl ?_
  refine x_put 132 10 (c := 12) dX13_getSequence_89 i46 rfl in_X13 tyX13_ok nmX13 q941 rfl rfl rfl (Or.inl rfl) (Or.inl ⟨rfl, rfl⟩) rfl ?_
  refine x_iload 6 dX13_getSequence_92 rfl rfl ?_
  refine x_if_ne (t := 101) 7 dX13_getSequence_94 rfl rfl (b_ite h (fun hc h => ?_) (fun hc h => ?_))
  · refine x_iload_n 2 dX13_getSequence_101 rfl rfl rfl ?_
    refine x_bipush 11 (z := 11) dX13_getSequence_102 rfl (by decide) rfl ?_
    refine x_icmp_ne (t := 116) 12 dX13_getSequence_104 rfl rfl (b_ite h (fun hc h => ?_) (fun hc h => ?_))
    · refine x_aload_n 0 dX13_getSequence_116 rfl rfl rfl rfl rfl ?_
      refine y_getF 36 3 (c := 12) (z := 38) dX13_getSequence_117 i46 rfl in_X13 q932 rfl rfl rfl fn_46_3 (Nat.le_trans (Nat.le_of_ble_eq_true rfl) hn) rfl ?_
      refine x_aload_n 0 dX13_getSequence_120 rfl rfl rfl rfl rfl ?_
      refine y_getF 20 11 (c := 12) (z := 49) dX13_getSequence_121 i46 rfl in_X13 q942 rfl rfl rfl fn_46_11 (Nat.le_trans (Nat.le_of_ble_eq_true rfl) hn) rfl ?_
      refine x_iload 5 dX13_getSequence_124 rfl rfl ?_
      refine x_aload_n 0 dX13_getSequence_126 rfl rfl rfl rfl rfl ?_
      refine y_get 138 12 (c := 12) (z := w 46 12) dX13_getSequence_127 i46 rfl in_X13 q943 rfl rfl rfl rfl rfl ?_
      refine x_iload_n 2 dX13_getSequence_130 rfl rfl rfl ?_
      refine x_bipush 15 (z := 15) dX13_getSequence_131 rfl (by decide) rfl ?_
      refine x_icmp_ne (t := 142) 9 dX13_getSequence_133 rfl rfl (b_ite h (fun hc h => ?_) (fun hc h => ?_))
      · refine x_iconst 0 (z := 0) dX13_getSequence_142 rfl (by decide) rfl ?_
        refine y_Vi 218 (M := mX10_build) (As := [(2, 49), (0, a5), (0, w 46 12), (0, 0)]) (st := []) dX13_getSequence_143 i38 rfl q2917 q2122 q2123 q377 q2124 rfl hmX10_build rfl rfl rfl rfl rfl rfl rfl rfl (k_mono h (fun r1 w2 h => ?_))
        refine x_istore 7 (ls' := [(2, 46), (9, 0), (0, a2), (9, 0), (0, a4), (0, a5), (0, a6), (0, r1)]) dX13_getSequence_146 rfl rfl rfl ?_
        refine x_aload_n 0 dX13_getSequence_148 rfl rfl rfl rfl rfl ?_
        refine x_iload 5 dX13_getSequence_149 rfl rfl ?_
        refine x_put 138 12 (c := 12) dX13_getSequence_151 i46 rfl in_X13 tyX13_ok nmX13 q943 rfl rfl rfl (Or.inl rfl) (Or.inl ⟨rfl, rfl⟩) rfl ?_
        refine x_iload 7 dX13_getSequence_154 rfl rfl ?_
        exact y_iret dX13_getSequence_156 rfl h
      · refine x_sipush 9000 (z := 9000) dX13_getSequence_136 rfl (by decide) rfl ?_
        refine x_goto 4 (q := 143) dX13_getSequence_139 rfl ?_
        refine y_Vi 218 (M := mX10_build) (As := [(2, 49), (0, a5), (0, w 46 12), (0, 9000)]) (st := []) dX13_getSequence_143 i38 rfl q2917 q2122 q2123 q377 q2124 rfl hmX10_build rfl rfl rfl rfl rfl rfl rfl rfl (k_mono h (fun r3 w4 h => ?_))
        refine x_istore 7 (ls' := [(2, 46), (9, 0), (0, a2), (9, 0), (0, a4), (0, a5), (0, a6), (0, r3)]) dX13_getSequence_146 rfl rfl rfl ?_
        refine x_aload_n 0 dX13_getSequence_148 rfl rfl rfl rfl rfl ?_
        refine x_iload 5 dX13_getSequence_149 rfl rfl ?_
        refine x_put 138 12 (c := 12) dX13_getSequence_151 i46 rfl in_X13 tyX13_ok nmX13 q943 rfl rfl rfl (Or.inl rfl) (Or.inl ⟨rfl, rfl⟩) rfl ?_
        refine x_iload 7 dX13_getSequence_154 rfl rfl ?_
        exact y_iret dX13_getSequence_156 rfl h
    · refine x_aload_n 0 dX13_getSequence_107 rfl rfl rfl rfl rfl ?_
      refine x_iload 5 dX13_getSequence_108 rfl rfl ?_
      refine y_Vi 215 (M := mX13_list) (As := [(0, a5)]) (st := []) dX13_getSequence_110 i46 rfl q2912 q2914 qs160 q380 q2915 rfl hmX13_list rfl rfl rfl rfl rfl rfl rfl rfl (k_mono h (fun r5 w6 h => ?_))
      refine x_goto 33 (q := 146) dX13_getSequence_113 rfl ?_
      refine x_istore 7 (ls' := [(2, 46), (9, 0), (0, a2), (9, 0), (0, a4), (0, a5), (0, a6), (0, r5)]) dX13_getSequence_146 rfl rfl rfl ?_
      refine x_aload_n 0 dX13_getSequence_148 rfl rfl rfl rfl rfl ?_
      refine x_iload 5 dX13_getSequence_149 rfl rfl ?_
      refine x_put 138 12 (c := 12) dX13_getSequence_151 i46 rfl in_X13 tyX13_ok nmX13 q943 rfl rfl rfl (Or.inl rfl) (Or.inl ⟨rfl, rfl⟩) rfl ?_
      refine x_iload 7 dX13_getSequence_154 rfl rfl ?_
      exact y_iret dX13_getSequence_156 rfl h
  · refine x_iconst 0 (z := 0) dX13_getSequence_97 rfl (by decide) rfl ?_
    refine x_goto 48 (q := 146) dX13_getSequence_98 rfl ?_
    refine x_istore 7 (ls' := [(2, 46), (9, 0), (0, a2), (9, 0), (0, a4), (0, a5), (0, a6), (0, 0)]) dX13_getSequence_146 rfl rfl rfl ?_
    refine x_aload_n 0 dX13_getSequence_148 rfl rfl rfl rfl rfl ?_
    refine x_iload 5 dX13_getSequence_149 rfl rfl ?_
    refine x_put 138 12 (c := 12) dX13_getSequence_151 i46 rfl in_X13 tyX13_ok nmX13 q943 rfl rfl rfl (Or.inl rfl) (Or.inl ⟨rfl, rfl⟩) rfl ?_
    refine x_iload 7 dX13_getSequence_154 rfl rfl ?_
    exact y_iret dX13_getSequence_156 rfl h
abbrev LX13_element_29 (d n : Nat) (Q : Int → bW → Prop) (X : String → bW → Prop) (a1 : Int) (a2 : Int) (a3 : Int) (a4 : Int) (w : bW) : Prop := b_Y (d + 1) mX13_element n Q X 29 [(2, 46), (0, a1), (0, a2), (0, a3), (0, a4), (9, 0), (9, 0)] [] w
abbrev LX13_element_83 (d n : Nat) (Q : Int → bW → Prop) (X : String → bW → Prop) (a2 : Int) (a3 : Int) (a4 : Int) (a5 : Int) (a6 : Int) (w : bW) : Prop := b_Y (d + 1) mX13_element n Q X 83 [(2, 46), (9, 0), (0, a2), (0, a3), (0, a4), (0, a5), (0, a6)] [] w
theorem rX13_element {d n : Nat} {w : bW} {Q : Int → bW → Prop} {X : String → bW → Prop} (hn : 143 ≤ n) (a1 : Int) (a2 : Int) (a3 : Int) (h : (0 ≤ a1 ∧ a1 < 60000) ∧ (if a2 ≠ 15 then (LX13_element_29 d n Q X a1 a2 a3 (w 21 a1) w) else (b_K d mX13_eat [(2, 46), (0, 7), (0, 4)] n w (fun r2 w3 => if r2 ≠ 0 then (LX13_element_29 d n Q X a1 a2 a3 (w 21 a1) w3) else (Q 0 w3)) X))) : b_K (d + 1) mX13_element [(2, 46), (0, a1), (0, a2), (0, a3)] n w Q X := by
  have i19 := iz19 (Nat.le_trans (Nat.le_of_ble_eq_true rfl) hn)
  have i21 := iz21 (Nat.le_trans (Nat.le_of_ble_eq_true rfl) hn)
  have i46 := iz46 (Nat.le_trans (Nat.le_of_ble_eq_true rfl) hn)
  refine k_of (by decide) rfl rfl rfl (ls := [(2, 46), (0, a1), (0, a2), (0, a3), (9, 0), (9, 0), (9, 0)]) rfl ?_
  refine x_aload_n 0 dX13_element_0 rfl rfl rfl rfl rfl ?_
  refine y_getF 24 0 (c := 12) (z := 19) dX13_element_1 i46 rfl in_X13 q929 rfl rfl rfl fn_46_0 (Nat.le_trans (Nat.le_of_ble_eq_true rfl) hn) rfl ?_
  refine y_getF 73 1 (c := 6) (z := 21) dX13_element_4 i19 rfl in_X7 q759 rfl rfl rfl fn_19_1 (Nat.le_trans (Nat.le_of_ble_eq_true rfl) hn) rfl ?_
  refine x_iload_n 1 dX13_element_7 rfl rfl rfl ?_
  obtain ⟨e1, h⟩ := h
  refine y_iald (z := w 21 a1) dX13_element_8 ⟨60000, i21, e1⟩ rfl rfl ?_
  refine x_istore 4 (ls' := [(2, 46), (0, a1), (0, a2), (0, a3), (0, w 21 a1), (9, 0), (9, 0)]) dX13_element_9 rfl rfl rfl ?_
  refine x_iload_n 2 dX13_element_11 rfl rfl rfl ?_
  refine x_bipush 15 (z := 15) dX13_element_12 rfl (by decide) rfl ?_
  refine x_icmp_ne (t := 29) 15 dX13_element_14 rfl rfl (b_ite h (fun hc h => ?_) (fun hc h => ?_))
  · exact x_fg (fgk (fgk (fgk (fgk (fgk (fgk (fgk (fg0)))))))) h
  · refine x_aload_n 0 dX13_element_17 rfl rfl rfl rfl rfl ?_
    refine x_bipush 7 (z := 7) dX13_element_18 rfl (by decide) rfl ?_
    refine x_iconst 4 (z := 4) dX13_element_20 rfl (by decide) rfl ?_
    refine y_Vi 147 (M := mX13_eat) (As := [(0, 7), (0, 4)]) (st := []) dX13_element_21 i46 rfl q2871 q2873 qs153 q380 q2874 rfl hmX13_eat rfl rfl rfl rfl rfl rfl rfl rfl (k_mono h (fun r2 w3 h => ?_))
    refine x_if_ne (t := 29) 5 dX13_element_24 rfl rfl (b_ite h (fun hc h => ?_) (fun hc h => ?_))
    · exact x_fg (fgk (fgk (fgk (fgk (fgk (fgk (fgk (fg0)))))))) h
    · refine x_iconst 0 (z := 0) dX13_element_27 rfl (by decide) rfl ?_
      exact y_zret dX13_element_28 rfl (by decide) h
theorem sX13_element_29 {d n : Nat} {w : bW} {Q : Int → bW → Prop} {X : String → bW → Prop} (hn : 143 ≤ n) (a1 : Int) (a2 : Int) (a3 : Int) (a4 : Int) (h : b_K d mX13_get [(2, 46), (0, a4)] n w (fun r1 w2 => if r1 = 0 then (if r1 = 0 then (Q 0 w2) else (if a2 ≠ 15 then (LX13_element_83 d n Q X a2 a3 a4 r1 0 w2) else (Q 0 w2))) else (if a2 ≠ 15 then (if r1 = 0 then (Q 0 w2) else (if a2 ≠ 15 then (LX13_element_83 d n Q X a2 a3 a4 r1 0 w2) else (Q 0 w2))) else ((0 ≤ a1 ∧ a1 < 60000) ∧ (b_K d mX13_get [(2, 46), (0, w2 22 a1)] n w2 (fun r4 w5 => if r1 = 0 then (Q 0 w5) else (if a2 ≠ 15 then (LX13_element_83 d n Q X a2 a3 a4 r1 r4 w5) else (if r4 = 0 then (Q 0 w5) else (LX13_element_83 d n Q X a2 a3 a4 r1 r4 w5)))) X)))) X) : LX13_element_29 d n Q X a1 a2 a3 a4 w := by
  have i19 := iz19 (Nat.le_trans (Nat.le_of_ble_eq_true rfl) hn)
  have i22 := iz22 (Nat.le_trans (Nat.le_of_ble_eq_true rfl) hn)
  have i46 := iz46 (Nat.le_trans (Nat.le_of_ble_eq_true rfl) hn)
  refine x_aload_n 0 dX13_element_29 rfl rfl rfl rfl rfl ?_
  refine x_iload 4 dX13_element_30 rfl rfl ?_
  refine y_Vi 141 (M := mX13_get) (As := [(0, a4)]) (st := []) dX13_element_32 i46 rfl q2867 q2869 qs152 q380 q2870 rfl hmX13_get rfl rfl rfl rfl rfl rfl rfl rfl (k_mono h (fun r1 w2 h => ?_))
  refine x_istore 5 (ls' := [(2, 46), (0, a1), (0, a2), (0, a3), (0, a4), (0, r1), (9, 0)]) dX13_element_35 rfl rfl rfl ?_
  refine x_iload 5 dX13_element_37 rfl rfl ?_
  refine x_if_eq (t := 64) 25 dX13_element_39 rfl rfl (b_ite h (fun hc h => ?_) (fun hc h => ?_))
  · refine x_iconst 0 (z := 0) dX13_element_64 rfl (by decide) rfl ?_
    refine x_istore 6 (ls' := [(2, 46), (0, a1), (0, a2), (0, a3), (0, a4), (0, r1), (0, 0)]) dX13_element_65 rfl rfl rfl ?_
    refine x_iload 5 dX13_element_67 rfl rfl ?_
    refine x_if_eq (t := 122) 53 dX13_element_69 rfl rfl (b_ite h (fun hc h => ?_) (fun hc h => ?_))
    · refine x_iconst 0 (z := 0) dX13_element_122 rfl (by decide) rfl ?_
      exact y_zret dX13_element_123 rfl (by decide) h
    · refine x_iload_n 2 dX13_element_72 rfl rfl rfl ?_
      refine x_bipush 15 (z := 15) dX13_element_73 rfl (by decide) rfl ?_
      refine x_icmp_ne (t := 83) 8 dX13_element_75 rfl rfl (b_ite h (fun hc h => ?_) (fun hc h => ?_))
      · exact x_fg (fgk (fgd (fgk (fgk (fgk (fgk (fgk (fg0)))))))) h
      · refine x_iload 6 dX13_element_78 rfl rfl ?_
        refine x_if_eq (t := 122) 42 dX13_element_80 rfl rfl (b_ifT (by decide) ?_)
        refine x_iconst 0 (z := 0) dX13_element_122 rfl (by decide) rfl ?_
        exact y_zret dX13_element_123 rfl (by decide) h
  · refine x_iload_n 2 dX13_element_42 rfl rfl rfl ?_
    refine x_bipush 15 (z := 15) dX13_element_43 rfl (by decide) rfl ?_
    refine x_icmp_ne (t := 64) 19 dX13_element_45 rfl rfl (b_ite h (fun hc h => ?_) (fun hc h => ?_))
    · refine x_iconst 0 (z := 0) dX13_element_64 rfl (by decide) rfl ?_
      refine x_istore 6 (ls' := [(2, 46), (0, a1), (0, a2), (0, a3), (0, a4), (0, r1), (0, 0)]) dX13_element_65 rfl rfl rfl ?_
      refine x_iload 5 dX13_element_67 rfl rfl ?_
      refine x_if_eq (t := 122) 53 dX13_element_69 rfl rfl (b_ite h (fun hc h => ?_) (fun hc h => ?_))
      · refine x_iconst 0 (z := 0) dX13_element_122 rfl (by decide) rfl ?_
        exact y_zret dX13_element_123 rfl (by decide) h
      · refine x_iload_n 2 dX13_element_72 rfl rfl rfl ?_
        refine x_bipush 15 (z := 15) dX13_element_73 rfl (by decide) rfl ?_
        refine x_icmp_ne (t := 83) 8 dX13_element_75 rfl rfl (b_ite h (fun hc h => ?_) (fun hc h => ?_))
        · exact x_fg (fgk (fgd (fgk (fgk (fgk (fgk (fgk (fg0)))))))) h
        · refine x_iload 6 dX13_element_78 rfl rfl ?_
          refine x_if_eq (t := 122) 42 dX13_element_80 rfl rfl (b_ifT (by decide) ?_)
          refine x_iconst 0 (z := 0) dX13_element_122 rfl (by decide) rfl ?_
          exact y_zret dX13_element_123 rfl (by decide) h
    · refine x_aload_n 0 dX13_element_48 rfl rfl rfl rfl rfl ?_
      refine x_aload_n 0 dX13_element_49 rfl rfl rfl rfl rfl ?_
      refine y_getF 24 0 (c := 12) (z := 19) dX13_element_50 i46 rfl in_X13 q929 rfl rfl rfl fn_46_0 (Nat.le_trans (Nat.le_of_ble_eq_true rfl) hn) rfl ?_
      refine y_getF 84 2 (c := 6) (z := 22) dX13_element_53 i19 rfl in_X7 q765 rfl rfl rfl fn_19_2 (Nat.le_trans (Nat.le_of_ble_eq_true rfl) hn) rfl ?_
      refine x_iload_n 1 dX13_element_56 rfl rfl rfl ?_
      obtain ⟨e3, h⟩ := h
      refine y_iald (z := w2 22 a1) dX13_element_57 ⟨60000, i22, e3⟩ rfl rfl ?_
      refine y_Vi 141 (M := mX13_get) (As := [(0, w2 22 a1)]) (st := []) dX13_element_58 i46 rfl q2867 q2869 qs152 q380 q2870 rfl hmX13_get rfl rfl rfl rfl rfl rfl rfl rfl (k_mono h (fun r4 w5 h => ?_))
      refine x_goto 4 (q := 65) dX13_element_61 rfl ?_
      refine x_istore 6 (ls' := [(2, 46), (0, a1), (0, a2), (0, a3), (0, a4), (0, r1), (0, r4)]) dX13_element_65 rfl rfl rfl ?_
      refine x_iload 5 dX13_element_67 rfl rfl ?_
      refine x_if_eq (t := 122) 53 dX13_element_69 rfl rfl (b_ite h (fun hc h => ?_) (fun hc h => ?_))
      · refine x_iconst 0 (z := 0) dX13_element_122 rfl (by decide) rfl ?_
        exact y_zret dX13_element_123 rfl (by decide) h
      · refine x_iload_n 2 dX13_element_72 rfl rfl rfl ?_
        refine x_bipush 15 (z := 15) dX13_element_73 rfl (by decide) rfl ?_
        refine x_icmp_ne (t := 83) 8 dX13_element_75 rfl rfl (b_ite h (fun hc h => ?_) (fun hc h => ?_))
        · exact x_fg (fgk (fgd (fgk (fgk (fgk (fgk (fgk (fg0)))))))) h
        · refine x_iload 6 dX13_element_78 rfl rfl ?_
          refine x_if_eq (t := 122) 42 dX13_element_80 rfl rfl (b_ite h (fun hc h => ?_) (fun hc h => ?_))
          · refine x_iconst 0 (z := 0) dX13_element_122 rfl (by decide) rfl ?_
            exact y_zret dX13_element_123 rfl (by decide) h
          · exact x_fg (fgk (fgd (fgk (fgk (fgk (fgk (fgk (fg0)))))))) h
theorem sX13_element_83 {d n : Nat} {w : bW} {Q : Int → bW → Prop} {X : String → bW → Prop} (hn : 143 ≤ n) (a2 : Int) (a3 : Int) (a4 : Int) (a5 : Int) (a6 : Int) (h : if a2 = 11 then ((0 ≤ w 46 12 ∧ w 46 12 < 18000) ∧ ((0 ≤ b_i ((w 46 12) + 9000) ∧ b_i ((w 46 12) + 9000) < 18000) ∧ (Q 1 (b_up (b_up (b_up w 49 (w 46 12) a5) 49 (b_i ((w 46 12) + 9000)) a6) 46 12 (b_i ((w 46 12) + 1)))))) else (if w 46 12 ≤ a3 then ((0 ≤ w 46 12 ∧ w 46 12 < 18000) ∧ ((0 ≤ b_i ((w 46 12) + 9000) ∧ b_i ((w 46 12) + 9000) < 18000) ∧ (Q 1 (b_up (b_up (b_up w 49 (w 46 12) a5) 49 (b_i ((w 46 12) + 9000)) a6) 46 12 (b_i ((w 46 12) + 1)))))) else ((0 ≤ b_i ((w 46 12) - 1) ∧ b_i ((w 46 12) - 1) < 18000) ∧ (b_K d mX9_compare [(2, 33), (0, w 49 (b_i ((w 46 12) - 1))), (0, a5), (0, a4)] n w (fun r6 w7 => if r6 < 0 then ((0 ≤ w7 46 12 ∧ w7 46 12 < 18000) ∧ ((0 ≤ b_i ((w7 46 12) + 9000) ∧ b_i ((w7 46 12) + 9000) < 18000) ∧ (Q 1 (b_up (b_up (b_up w7 49 (w7 46 12) a5) 49 (b_i ((w7 46 12) + 9000)) a6) 46 12 (b_i ((w7 46 12) + 1)))))) else (Q 0 w7)) X)))) : LX13_element_83 d n Q X a2 a3 a4 a5 a6 w := by
  have i33 := iz33 (Nat.le_trans (Nat.le_of_ble_eq_true rfl) hn)
  have i46 := iz46 (Nat.le_trans (Nat.le_of_ble_eq_true rfl) hn)
  have i49 := iz49 (Nat.le_trans (Nat.le_of_ble_eq_true rfl) hn)
  refine x_iload_n 2 dX13_element_83 rfl rfl rfl ?_
  refine x_bipush 11 (z := 11) dX13_element_84 rfl (by decide) rfl ?_
  refine x_icmp_eq (t := 124) 38 dX13_element_86 rfl rfl (b_ite h (fun hc h => ?_) (fun hc h => ?_))
  · refine x_aload_n 0 dX13_element_124 rfl rfl rfl rfl rfl ?_
    refine y_getF 20 11 (c := 12) (z := 49) dX13_element_125 i46 rfl in_X13 q942 rfl rfl rfl fn_46_11 (Nat.le_trans (Nat.le_of_ble_eq_true rfl) hn) rfl ?_
    refine x_aload_n 0 dX13_element_128 rfl rfl rfl rfl rfl ?_
    refine y_get 138 12 (c := 12) (z := w 46 12) dX13_element_129 i46 rfl in_X13 q943 rfl rfl rfl rfl rfl ?_
    refine x_iload 5 dX13_element_132 rfl rfl ?_
    obtain ⟨e1, h⟩ := h
    refine y_iast (x' := a5) dX13_element_134 ⟨18000, i49, e1⟩ rfl rfl ?_
    refine x_aload_n 0 dX13_element_135 rfl rfl rfl rfl rfl ?_
    refine y_getF 20 11 (c := 12) (z := 49) dX13_element_136 i46 rfl in_X13 q942 rfl rfl rfl fn_46_11 (Nat.le_trans (Nat.le_of_ble_eq_true rfl) hn) rfl ?_
    refine x_aload_n 0 dX13_element_139 rfl rfl rfl rfl rfl ?_
    refine y_get 138 12 (c := 12) (z := w 46 12) dX13_element_140 i46 rfl in_X13 q943 rfl rfl rfl rfl rfl ?_
    refine x_sipush 9000 (z := 9000) dX13_element_143 rfl (by decide) rfl ?_
    refine x_iadd dX13_element_146 rfl ?_
    refine x_iload 6 dX13_element_147 rfl rfl ?_
    obtain ⟨e2, h⟩ := h
    refine y_iast (x' := a6) dX13_element_149 ⟨18000, i49, e2⟩ rfl rfl ?_
    refine x_aload_n 0 dX13_element_150 rfl rfl rfl rfl rfl ?_
    refine x_dup dX13_element_151 rfl rfl ?_
    refine y_get 138 12 (c := 12) (z := w 46 12) dX13_element_152 i46 rfl in_X13 q943 rfl rfl rfl rfl rfl ?_
    refine x_iconst 1 (z := 1) dX13_element_155 rfl (by decide) rfl ?_
    refine x_iadd dX13_element_156 rfl ?_
    refine x_put 138 12 (c := 12) dX13_element_157 i46 rfl in_X13 tyX13_ok nmX13 q943 rfl rfl rfl (Or.inl rfl) (Or.inl ⟨rfl, rfl⟩) rfl ?_
    refine x_iconst 1 (z := 1) dX13_element_160 rfl (by decide) rfl ?_
    exact y_zret dX13_element_161 rfl (by decide) h
  · refine x_aload_n 0 dX13_element_89 rfl rfl rfl rfl rfl ?_
    refine y_get 138 12 (c := 12) (z := w 46 12) dX13_element_90 i46 rfl in_X13 q943 rfl rfl rfl rfl rfl ?_
    refine x_iload_n 3 dX13_element_93 rfl rfl rfl ?_
    refine x_icmp_le (t := 124) 30 dX13_element_94 rfl rfl (b_ite h (fun hc h => ?_) (fun hc h => ?_))
    · refine x_aload_n 0 dX13_element_124 rfl rfl rfl rfl rfl ?_
      refine y_getF 20 11 (c := 12) (z := 49) dX13_element_125 i46 rfl in_X13 q942 rfl rfl rfl fn_46_11 (Nat.le_trans (Nat.le_of_ble_eq_true rfl) hn) rfl ?_
      refine x_aload_n 0 dX13_element_128 rfl rfl rfl rfl rfl ?_
      refine y_get 138 12 (c := 12) (z := w 46 12) dX13_element_129 i46 rfl in_X13 q943 rfl rfl rfl rfl rfl ?_
      refine x_iload 5 dX13_element_132 rfl rfl ?_
      obtain ⟨e3, h⟩ := h
      refine y_iast (x' := a5) dX13_element_134 ⟨18000, i49, e3⟩ rfl rfl ?_
      refine x_aload_n 0 dX13_element_135 rfl rfl rfl rfl rfl ?_
      refine y_getF 20 11 (c := 12) (z := 49) dX13_element_136 i46 rfl in_X13 q942 rfl rfl rfl fn_46_11 (Nat.le_trans (Nat.le_of_ble_eq_true rfl) hn) rfl ?_
      refine x_aload_n 0 dX13_element_139 rfl rfl rfl rfl rfl ?_
      refine y_get 138 12 (c := 12) (z := w 46 12) dX13_element_140 i46 rfl in_X13 q943 rfl rfl rfl rfl rfl ?_
      refine x_sipush 9000 (z := 9000) dX13_element_143 rfl (by decide) rfl ?_
      refine x_iadd dX13_element_146 rfl ?_
      refine x_iload 6 dX13_element_147 rfl rfl ?_
      obtain ⟨e4, h⟩ := h
      refine y_iast (x' := a6) dX13_element_149 ⟨18000, i49, e4⟩ rfl rfl ?_
      refine x_aload_n 0 dX13_element_150 rfl rfl rfl rfl rfl ?_
      refine x_dup dX13_element_151 rfl rfl ?_
      refine y_get 138 12 (c := 12) (z := w 46 12) dX13_element_152 i46 rfl in_X13 q943 rfl rfl rfl rfl rfl ?_
      refine x_iconst 1 (z := 1) dX13_element_155 rfl (by decide) rfl ?_
      refine x_iadd dX13_element_156 rfl ?_
      refine x_put 138 12 (c := 12) dX13_element_157 i46 rfl in_X13 tyX13_ok nmX13 q943 rfl rfl rfl (Or.inl rfl) (Or.inl ⟨rfl, rfl⟩) rfl ?_
      refine x_iconst 1 (z := 1) dX13_element_160 rfl (by decide) rfl ?_
      exact y_zret dX13_element_161 rfl (by decide) h
    · refine x_aload_n 0 dX13_element_97 rfl rfl rfl rfl rfl ?_
      refine y_getF 32 2 (c := 12) (z := 33) dX13_element_98 i46 rfl in_X13 q931 rfl rfl rfl fn_46_2 (Nat.le_trans (Nat.le_of_ble_eq_true rfl) hn) rfl ?_
      refine x_aload_n 0 dX13_element_101 rfl rfl rfl rfl rfl ?_
      refine y_getF 20 11 (c := 12) (z := 49) dX13_element_102 i46 rfl in_X13 q942 rfl rfl rfl fn_46_11 (Nat.le_trans (Nat.le_of_ble_eq_true rfl) hn) rfl ?_
      refine x_aload_n 0 dX13_element_105 rfl rfl rfl rfl rfl ?_
      refine y_get 138 12 (c := 12) (z := w 46 12) dX13_element_106 i46 rfl in_X13 q943 rfl rfl rfl rfl rfl ?_
      refine x_iconst 1 (z := 1) dX13_element_109 rfl (by decide) rfl ?_
      refine x_isub dX13_element_110 rfl ?_
      obtain ⟨e5, h⟩ := h
      refine y_iald (z := w 49 (b_i ((w 46 12) - 1))) dX13_element_111 ⟨18000, i49, e5⟩ rfl rfl ?_
      refine x_iload 5 dX13_element_112 rfl rfl ?_
      refine x_iload 4 dX13_element_114 rfl rfl ?_
      refine y_Vi 224 (M := mX9_compare) (As := [(0, w 49 (b_i ((w 46 12) - 1))), (0, a5), (0, a4)]) (st := []) dX13_element_116 i33 rfl q2911 q2076 q2077 q376 q2078 rfl hmX9_compare rfl rfl rfl rfl rfl rfl rfl rfl (k_mono h (fun r6 w7 h => ?_))
      refine x_if_lt (t := 124) 5 dX13_element_119 rfl rfl (b_ite h (fun hc h => ?_) (fun hc h => ?_))
      · refine x_aload_n 0 dX13_element_124 rfl rfl rfl rfl rfl ?_
        refine y_getF 20 11 (c := 12) (z := 49) dX13_element_125 i46 rfl in_X13 q942 rfl rfl rfl fn_46_11 (Nat.le_trans (Nat.le_of_ble_eq_true rfl) hn) rfl ?_
        refine x_aload_n 0 dX13_element_128 rfl rfl rfl rfl rfl ?_
        refine y_get 138 12 (c := 12) (z := w7 46 12) dX13_element_129 i46 rfl in_X13 q943 rfl rfl rfl rfl rfl ?_
        refine x_iload 5 dX13_element_132 rfl rfl ?_
        obtain ⟨e8, h⟩ := h
        refine y_iast (x' := a5) dX13_element_134 ⟨18000, i49, e8⟩ rfl rfl ?_
        refine x_aload_n 0 dX13_element_135 rfl rfl rfl rfl rfl ?_
        refine y_getF 20 11 (c := 12) (z := 49) dX13_element_136 i46 rfl in_X13 q942 rfl rfl rfl fn_46_11 (Nat.le_trans (Nat.le_of_ble_eq_true rfl) hn) rfl ?_
        refine x_aload_n 0 dX13_element_139 rfl rfl rfl rfl rfl ?_
        refine y_get 138 12 (c := 12) (z := w7 46 12) dX13_element_140 i46 rfl in_X13 q943 rfl rfl rfl rfl rfl ?_
        refine x_sipush 9000 (z := 9000) dX13_element_143 rfl (by decide) rfl ?_
        refine x_iadd dX13_element_146 rfl ?_
        refine x_iload 6 dX13_element_147 rfl rfl ?_
        obtain ⟨e9, h⟩ := h
        refine y_iast (x' := a6) dX13_element_149 ⟨18000, i49, e9⟩ rfl rfl ?_
        refine x_aload_n 0 dX13_element_150 rfl rfl rfl rfl rfl ?_
        refine x_dup dX13_element_151 rfl rfl ?_
        refine y_get 138 12 (c := 12) (z := w7 46 12) dX13_element_152 i46 rfl in_X13 q943 rfl rfl rfl rfl rfl ?_
        refine x_iconst 1 (z := 1) dX13_element_155 rfl (by decide) rfl ?_
        refine x_iadd dX13_element_156 rfl ?_
        refine x_put 138 12 (c := 12) dX13_element_157 i46 rfl in_X13 tyX13_ok nmX13 q943 rfl rfl rfl (Or.inl rfl) (Or.inl ⟨rfl, rfl⟩) rfl ?_
        refine x_iconst 1 (z := 1) dX13_element_160 rfl (by decide) rfl ?_
        exact y_zret dX13_element_161 rfl (by decide) h
      · refine x_iconst 0 (z := 0) dX13_element_122 rfl (by decide) rfl ?_
        exact y_zret dX13_element_123 rfl (by decide) h
abbrev LX13_list_10 (d n : Nat) (Q : Int → bW → Prop) (X : String → bW → Prop) (a1 : Int) (a2 : Int) (a3 : Int) (w : bW) : Prop := b_Y (d + 1) mX13_list n Q X 10 [(2, 46), (0, a1), (0, a2), (0, a3)] [] w
theorem rX13_list {d n : Nat} {w : bW} {Q : Int → bW → Prop} {X : String → bW → Prop} (hn : 143 ≤ n) (a1 : Int) (h : LX13_list_10 d n Q X a1 10 (b_i ((w 46 12) - 1)) w) : b_K (d + 1) mX13_list [(2, 46), (0, a1)] n w Q X := by
  have i46 := iz46 (Nat.le_trans (Nat.le_of_ble_eq_true rfl) hn)
  refine k_of (by decide) rfl rfl rfl (ls := [(2, 46), (0, a1), (9, 0), (9, 0)]) rfl ?_
  refine x_bipush 10 (z := 10) dX13_list_0 rfl (by decide) rfl ?_
  refine x_istore_n 2 (ls' := [(2, 46), (0, a1), (0, 10), (9, 0)]) dX13_list_2 rfl rfl rfl rfl ?_
  refine x_aload_n 0 dX13_list_3 rfl rfl rfl rfl rfl ?_
  refine y_get 138 12 (c := 12) (z := w 46 12) dX13_list_4 i46 rfl in_X13 q943 rfl rfl rfl rfl rfl ?_
  refine x_iconst 1 (z := 1) dX13_list_7 rfl (by decide) rfl ?_
  refine x_isub dX13_list_8 rfl ?_
  refine x_istore_n 3 (ls' := [(2, 46), (0, a1), (0, 10), (0, b_i ((w 46 12) - 1))]) dX13_list_9 rfl rfl rfl rfl ?_
  exact x_fg (fgk (fgk (fgk (fgk (fg0))))) h
theorem sX13_list_10 {d n : Nat} {w : bW} {Q : Int → bW → Prop} {X : String → bW → Prop} (hn : 143 ≤ n) (a1 : Int) (a2 : Int) (a3 : Int) (h : if a3 < a1 then (Q a2 w) else ((0 ≤ a3 ∧ a3 < 18000) ∧ (b_K d mX8_cons [(2, 27), (0, w 49 a3), (0, a2)] n w (fun r2 w3 => LX13_list_10 d n Q X a1 r2 (b_i (a3 + (-1))) w3) X))) : LX13_list_10 d n Q X a1 a2 a3 w := by
  have i27 := iz27 (Nat.le_trans (Nat.le_of_ble_eq_true rfl) hn)
  have i46 := iz46 (Nat.le_trans (Nat.le_of_ble_eq_true rfl) hn)
  have i49 := iz49 (Nat.le_trans (Nat.le_of_ble_eq_true rfl) hn)
  refine x_iload_n 3 dX13_list_10 rfl rfl rfl ?_
  refine x_iload_n 1 dX13_list_11 rfl rfl rfl ?_
  refine x_icmp_lt (t := 36) 24 dX13_list_12 rfl rfl (b_ite h (fun hc h => ?_) (fun hc h => ?_))
  · refine x_iload_n 2 dX13_list_36 rfl rfl rfl ?_
    exact y_iret dX13_list_37 rfl h
  · refine x_aload_n 0 dX13_list_15 rfl rfl rfl rfl rfl ?_
    refine y_getF 28 1 (c := 12) (z := 27) dX13_list_16 i46 rfl in_X13 q930 rfl rfl rfl fn_46_1 (Nat.le_trans (Nat.le_of_ble_eq_true rfl) hn) rfl ?_
    refine x_aload_n 0 dX13_list_19 rfl rfl rfl rfl rfl ?_
    refine y_getF 20 11 (c := 12) (z := 49) dX13_list_20 i46 rfl in_X13 q942 rfl rfl rfl fn_46_11 (Nat.le_trans (Nat.le_of_ble_eq_true rfl) hn) rfl ?_
    refine x_iload_n 3 dX13_list_23 rfl rfl rfl ?_
    obtain ⟨e1, h⟩ := h
    refine y_iald (z := w 49 a3) dX13_list_24 ⟨18000, i49, e1⟩ rfl rfl ?_
    refine x_iload_n 2 dX13_list_25 rfl rfl rfl ?_
    refine y_Vi 230 (M := mX8_cons) (As := [(0, w 49 a3), (0, a2)]) (st := []) dX13_list_26 i27 rfl q2916 q2063 q2064 q375 q2065 rfl hmX8_cons rfl rfl rfl rfl rfl rfl rfl rfl (k_mono h (fun r2 w3 h => ?_))
    refine x_istore_n 2 (ls' := [(2, 46), (0, a1), (0, r2), (0, a3)]) dX13_list_29 rfl rfl rfl rfl ?_
    refine x_iinc 3 (-1) (ls' := [(2, 46), (0, a1), (0, r2), (0, b_i (a3 + (-1)))]) dX13_list_30 rfl rfl rfl rfl ?_
    refine x_goto (-23) (q := 10) dX13_list_33 rfl ?_
    exact x_fg (fgk (fgk (fgk (fgk (fg0))))) h
abbrev LX13_getNumber_65 (d n : Nat) (Q : Int → bW → Prop) (X : String → bW → Prop) (a1 : Int) (a2 : Int) (a3 : Int) (a4 : Int) (w : bW) : Prop := b_Y (d + 1) mX13_getNumber n Q X 65 [(2, 46), (0, a1), (0, a2), (0, a3), (0, a4), (9, 0)] [] w
abbrev LX13_getNumber_175 (d n : Nat) (Q : Int → bW → Prop) (X : String → bW → Prop) (a1 : Int) (a3 : Int) (s0 : Int) (w : bW) : Prop := b_Y (d + 1) mX13_getNumber n Q X 175 [(2, 46), (0, a1), (9, 0), (0, a3), (9, 0), (9, 0)] [(0, s0)] w
theorem rX13_getNumber {d n : Nat} {w : bW} {Q : Int → bW → Prop} {X : String → bW → Prop} (hn : 143 ≤ n) (a1 : Int) (h : b_K d mX13_peek [(2, 46), (0, 0)] n w (fun r1 w2 => if r1 = 0 then (b_K d mX13_peek [(2, 46), (0, 0)] n (b_up w2 46 9 (b_i ((w2 46 9) + 1))) (fun r3 w4 => if 0 ≤ r3 then (b_K d mX6_clear [(2, 47)] n w4 (fun r5 w6 => if b_and r3 64 = 0 then (b_K d mX13_addBits [(2, 46), (0, 0), (0, b_and r3 63)] n w6 (fun r7 w8 => LX13_getNumber_65 d n Q X a1 r3 0 6 w8) X) else (b_K d mX13_addBits [(2, 46), (0, 0), (0, b_and r3 63)] n w6 (fun r9 w10 => LX13_getNumber_65 d n Q X a1 r3 1 6 w10) X)) X) else (Q 0 w4)) X) else (Q 0 w2)) X) : b_K (d + 1) mX13_getNumber [(2, 46), (0, a1)] n w Q X := by
  have i46 := iz46 (Nat.le_trans (Nat.le_of_ble_eq_true rfl) hn)
  have i47 := iz47 (Nat.le_trans (Nat.le_of_ble_eq_true rfl) hn)
  refine k_of (by decide) rfl rfl rfl (ls := [(2, 46), (0, a1), (9, 0), (9, 0), (9, 0), (9, 0)]) rfl ?_
  refine x_aload_n 0 dX13_getNumber_0 rfl rfl rfl rfl rfl ?_
  refine x_iconst 0 (z := 0) dX13_getNumber_1 rfl (by decide) rfl ?_
  refine y_Vi 144 (M := mX13_peek) (As := [(0, 0)]) (st := []) dX13_getNumber_2 i46 rfl q2875 q2877 qs154 q380 q2878 rfl hmX13_peek rfl rfl rfl rfl rfl rfl rfl rfl (k_mono h (fun r1 w2 h => ?_))
  refine x_if_eq (t := 10) 5 dX13_getNumber_5 rfl rfl (b_ite h (fun hc h => ?_) (fun hc h => ?_))
  · refine x_aload_n 0 dX13_getNumber_10 rfl rfl rfl rfl rfl ?_
    refine x_dup dX13_getNumber_11 rfl rfl ?_
    refine y_get 130 9 (c := 12) (z := w2 46 9) dX13_getNumber_12 i46 rfl in_X13 q940 rfl rfl rfl rfl rfl ?_
    refine x_iconst 1 (z := 1) dX13_getNumber_15 rfl (by decide) rfl ?_
    refine x_iadd dX13_getNumber_16 rfl ?_
    refine x_put 130 9 (c := 12) dX13_getNumber_17 i46 rfl in_X13 tyX13_ok nmX13 q940 rfl rfl rfl (Or.inl rfl) (Or.inl ⟨rfl, rfl⟩) rfl ?_
    refine x_aload_n 0 dX13_getNumber_20 rfl rfl rfl rfl rfl ?_
    refine x_iconst 0 (z := 0) dX13_getNumber_21 rfl (by decide) rfl ?_
    refine y_Vi 144 (M := mX13_peek) (As := [(0, 0)]) (st := []) dX13_getNumber_22 i46 rfl q2875 q2877 qs154 q380 q2878 rfl hmX13_peek rfl rfl rfl rfl rfl rfl rfl rfl (k_mono h (fun r3 w4 h => ?_))
    refine x_istore_n 2 (ls' := [(2, 46), (0, a1), (0, r3), (9, 0), (9, 0), (9, 0)]) dX13_getNumber_25 rfl rfl rfl rfl ?_
    refine x_iload_n 2 dX13_getNumber_26 rfl rfl rfl ?_
    refine x_if_ge (t := 32) 5 dX13_getNumber_27 rfl rfl (b_ite h (fun hc h => ?_) (fun hc h => ?_))
    · refine x_aload_n 0 dX13_getNumber_32 rfl rfl rfl rfl rfl ?_
      refine y_getF 14 5 (c := 12) (z := 47) dX13_getNumber_33 i46 rfl in_X13 q934 rfl rfl rfl fn_46_5 (Nat.le_trans (Nat.le_of_ble_eq_true rfl) hn) rfl ?_
      refine y_Vv 190 (M := mX6_clear) (As := []) (st := []) dX13_getNumber_36 i47 rfl q2922 q1747 q1748 q373 q1749 rfl hmX6_clear rfl rfl rfl rfl rfl rfl rfl (k_mono h (fun r5 w6 h => ?_))
      refine x_iload_n 2 dX13_getNumber_39 rfl rfl rfl ?_
      refine x_bipush 64 (z := 64) dX13_getNumber_40 rfl (by decide) rfl ?_
      refine x_iand dX13_getNumber_42 rfl ?_
      refine x_if_eq (t := 50) 7 dX13_getNumber_43 rfl rfl (b_ite h (fun hc h => ?_) (fun hc h => ?_))
      · refine x_iconst 0 (z := 0) dX13_getNumber_50 rfl (by decide) rfl ?_
        refine x_istore_n 3 (ls' := [(2, 46), (0, a1), (0, r3), (0, 0), (9, 0), (9, 0)]) dX13_getNumber_51 rfl rfl rfl rfl ?_
        refine x_bipush 6 (z := 6) dX13_getNumber_52 rfl (by decide) rfl ?_
        refine x_istore 4 (ls' := [(2, 46), (0, a1), (0, r3), (0, 0), (0, 6), (9, 0)]) dX13_getNumber_54 rfl rfl rfl ?_
        refine x_aload_n 0 dX13_getNumber_56 rfl rfl rfl rfl rfl ?_
        refine x_iconst 0 (z := 0) dX13_getNumber_57 rfl (by decide) rfl ?_
        refine x_iload_n 2 dX13_getNumber_58 rfl rfl rfl ?_
        refine x_bipush 63 (z := 63) dX13_getNumber_59 rfl (by decide) rfl ?_
        refine x_iand dX13_getNumber_61 rfl ?_
        refine y_Vv 193 (M := mX13_addBits) (As := [(0, 0), (0, b_and r3 63)]) (st := []) dX13_getNumber_62 i46 rfl q2923 q2925 qs162 q380 q2926 rfl hmX13_addBits rfl rfl rfl rfl rfl rfl rfl (k_mono h (fun r7 w8 h => ?_))
        exact x_fg (fgk (fgk (fgk (fgk (fgk (fgk (fg0))))))) h
      · refine x_iconst 1 (z := 1) dX13_getNumber_46 rfl (by decide) rfl ?_
        refine x_goto 4 (q := 51) dX13_getNumber_47 rfl ?_
        refine x_istore_n 3 (ls' := [(2, 46), (0, a1), (0, r3), (0, 1), (9, 0), (9, 0)]) dX13_getNumber_51 rfl rfl rfl rfl ?_
        refine x_bipush 6 (z := 6) dX13_getNumber_52 rfl (by decide) rfl ?_
        refine x_istore 4 (ls' := [(2, 46), (0, a1), (0, r3), (0, 1), (0, 6), (9, 0)]) dX13_getNumber_54 rfl rfl rfl ?_
        refine x_aload_n 0 dX13_getNumber_56 rfl rfl rfl rfl rfl ?_
        refine x_iconst 0 (z := 0) dX13_getNumber_57 rfl (by decide) rfl ?_
        refine x_iload_n 2 dX13_getNumber_58 rfl rfl rfl ?_
        refine x_bipush 63 (z := 63) dX13_getNumber_59 rfl (by decide) rfl ?_
        refine x_iand dX13_getNumber_61 rfl ?_
        refine y_Vv 193 (M := mX13_addBits) (As := [(0, 0), (0, b_and r3 63)]) (st := []) dX13_getNumber_62 i46 rfl q2923 q2925 qs162 q380 q2926 rfl hmX13_addBits rfl rfl rfl rfl rfl rfl rfl (k_mono h (fun r9 w10 h => ?_))
        exact x_fg (fgk (fgk (fgk (fgk (fgk (fgk (fg0))))))) h
    · refine x_iconst 0 (z := 0) dX13_getNumber_30 rfl (by decide) rfl ?_
      exact y_iret dX13_getNumber_31 rfl h
  · refine x_iconst 0 (z := 0) dX13_getNumber_8 rfl (by decide) rfl ?_
    exact y_iret dX13_getNumber_9 rfl h
theorem sX13_getNumber_65 {d n : Nat} {w : bW} {Q : Int → bW → Prop} {X : String → bW → Prop} (hn : 143 ≤ n) (a1 : Int) (a2 : Int) (a3 : Int) (a4 : Int) (h : if a2 ≤ 127 then (b_K d mX6_trim [(2, 47), (0, 80)] n (b_up w 46 9 (b_i ((w 46 9) + 1))) (fun r1 w2 => if 128 ≤ a2 then (LX13_getNumber_175 d n Q X a1 a3 0 w2) else (b_K d mX6_bits [(2, 47)] n w2 (fun r3 w4 => if 1024 < r3 then (LX13_getNumber_175 d n Q X a1 a3 0 w4) else (if a3 = 0 then (LX13_getNumber_175 d n Q X a1 a3 1 w4) else (b_K d mX6_isZero [(2, 47)] n w4 (fun r5 w6 => if r5 ≠ 0 then (LX13_getNumber_175 d n Q X a1 a3 0 w6) else (LX13_getNumber_175 d n Q X a1 a3 1 w6)) X))) X)) X) else (if 1024 < a4 then (b_K d mX6_trim [(2, 47), (0, 80)] n (b_up w 46 9 (b_i ((w 46 9) + 1))) (fun r7 w8 => if 128 ≤ a2 then (LX13_getNumber_175 d n Q X a1 a3 0 w8) else (b_K d mX6_bits [(2, 47)] n w8 (fun r9 w10 => if 1024 < r9 then (LX13_getNumber_175 d n Q X a1 a3 0 w10) else (if a3 = 0 then (LX13_getNumber_175 d n Q X a1 a3 1 w10) else (b_K d mX6_isZero [(2, 47)] n w10 (fun r11 w12 => if r11 ≠ 0 then (LX13_getNumber_175 d n Q X a1 a3 0 w12) else (LX13_getNumber_175 d n Q X a1 a3 1 w12)) X))) X)) X) else (b_K d mX13_peek [(2, 46), (0, 0)] n (b_up w 46 9 (b_i ((w 46 9) + 1))) (fun r13 w14 => if 0 < r13 then (b_K d mX13_addBits [(2, 46), (0, a4), (0, b_and r13 127)] n w14 (fun r15 w16 => LX13_getNumber_65 d n Q X a1 r13 a3 (b_i (a4 + 7)) w16) X) else (Q 0 w14)) X))) : LX13_getNumber_65 d n Q X a1 a2 a3 a4 w := by
  have i46 := iz46 (Nat.le_trans (Nat.le_of_ble_eq_true rfl) hn)
  have i47 := iz47 (Nat.le_trans (Nat.le_of_ble_eq_true rfl) hn)
  refine x_iload_n 2 dX13_getNumber_65 rfl rfl rfl ?_
  refine x_bipush 127 (z := 127) dX13_getNumber_66 rfl (by decide) rfl ?_
  refine x_icmp_le (t := 117) 49 dX13_getNumber_68 rfl rfl (b_ite h (fun hc h => ?_) (fun hc h => ?_))
  · refine x_aload_n 0 dX13_getNumber_117 rfl rfl rfl rfl rfl ?_
    refine x_dup dX13_getNumber_118 rfl rfl ?_
    refine y_get 130 9 (c := 12) (z := w 46 9) dX13_getNumber_119 i46 rfl in_X13 q940 rfl rfl rfl rfl rfl ?_
    refine x_iconst 1 (z := 1) dX13_getNumber_122 rfl (by decide) rfl ?_
    refine x_iadd dX13_getNumber_123 rfl ?_
    refine x_put 130 9 (c := 12) dX13_getNumber_124 i46 rfl in_X13 tyX13_ok nmX13 q940 rfl rfl rfl (Or.inl rfl) (Or.inl ⟨rfl, rfl⟩) rfl ?_
    refine x_aload_n 0 dX13_getNumber_127 rfl rfl rfl rfl rfl ?_
    refine y_getF 14 5 (c := 12) (z := 47) dX13_getNumber_128 i46 rfl in_X13 q934 rfl rfl rfl fn_46_5 (Nat.le_trans (Nat.le_of_ble_eq_true rfl) hn) rfl ?_
    refine x_bipush 80 (z := 80) dX13_getNumber_131 rfl (by decide) rfl ?_
    refine y_Vv 196 (M := mX6_trim) (As := [(0, 80)]) (st := []) dX13_getNumber_133 i47 rfl q2928 q2110 q2111 q373 q2112 rfl hmX6_trim rfl rfl rfl rfl rfl rfl rfl (k_mono h (fun r1 w2 h => ?_))
    refine x_iload_n 2 dX13_getNumber_136 rfl rfl rfl ?_
    refine x_sipush 128 (z := 128) dX13_getNumber_137 rfl (by decide) rfl ?_
    refine x_icmp_ge (t := 174) 34 dX13_getNumber_140 rfl rfl (b_ite h (fun hc h => ?_) (fun hc h => ?_))
    · refine x_iconst 0 (z := 0) dX13_getNumber_174 rfl (by decide) rfl ?_
      exact x_fg (fgk (fgk (fgd (fgk (fgd (fgk (fg0))))))) h
    · refine x_aload_n 0 dX13_getNumber_143 rfl rfl rfl rfl rfl ?_
      refine y_getF 14 5 (c := 12) (z := 47) dX13_getNumber_144 i46 rfl in_X13 q934 rfl rfl rfl fn_46_5 (Nat.le_trans (Nat.le_of_ble_eq_true rfl) hn) rfl ?_
      refine y_Vi 116 (M := mX6_bits) (As := []) (st := []) dX13_getNumber_147 i47 rfl q2428 q1752 q1753 q373 q1754 rfl hmX6_bits rfl rfl rfl rfl rfl rfl rfl rfl (k_mono h (fun r3 w4 h => ?_))
      refine x_sipush 1024 (z := 1024) dX13_getNumber_150 rfl (by decide) rfl ?_
      refine x_icmp_gt (t := 174) 21 dX13_getNumber_153 rfl rfl (b_ite h (fun hc h => ?_) (fun hc h => ?_))
      · refine x_iconst 0 (z := 0) dX13_getNumber_174 rfl (by decide) rfl ?_
        exact x_fg (fgk (fgk (fgd (fgk (fgd (fgk (fg0))))))) h
      · refine x_iload_n 3 dX13_getNumber_156 rfl rfl rfl ?_
        refine x_if_eq (t := 170) 13 dX13_getNumber_157 rfl rfl (b_ite h (fun hc h => ?_) (fun hc h => ?_))
        · refine x_iconst 1 (z := 1) dX13_getNumber_170 rfl (by decide) rfl ?_
          refine x_goto 4 (q := 175) dX13_getNumber_171 rfl ?_
          exact x_fg (fgk (fgk (fgd (fgk (fgd (fgk (fg0))))))) h
        · refine x_aload_n 0 dX13_getNumber_160 rfl rfl rfl rfl rfl ?_
          refine y_getF 14 5 (c := 12) (z := 47) dX13_getNumber_161 i46 rfl in_X13 q934 rfl rfl rfl fn_46_5 (Nat.le_trans (Nat.le_of_ble_eq_true rfl) hn) rfl ?_
          refine y_Vi 199 (M := mX6_isZero) (As := []) (st := []) dX13_getNumber_164 i47 rfl q2929 q1764 q1765 q373 q1766 rfl hmX6_isZero rfl rfl rfl rfl rfl rfl rfl rfl (k_mono h (fun r5 w6 h => ?_))
          refine x_if_ne (t := 174) 7 dX13_getNumber_167 rfl rfl (b_ite h (fun hc h => ?_) (fun hc h => ?_))
          · refine x_iconst 0 (z := 0) dX13_getNumber_174 rfl (by decide) rfl ?_
            exact x_fg (fgk (fgk (fgd (fgk (fgd (fgk (fg0))))))) h
          · refine x_iconst 1 (z := 1) dX13_getNumber_170 rfl (by decide) rfl ?_
            refine x_goto 4 (q := 175) dX13_getNumber_171 rfl ?_
            exact x_fg (fgk (fgk (fgd (fgk (fgd (fgk (fg0))))))) h
  · refine x_iload 4 dX13_getNumber_71 rfl rfl ?_
    refine x_sipush 1024 (z := 1024) dX13_getNumber_73 rfl (by decide) rfl ?_
    refine x_icmp_gt (t := 117) 41 dX13_getNumber_76 rfl rfl (b_ite h (fun hc h => ?_) (fun hc h => ?_))
    · refine x_aload_n 0 dX13_getNumber_117 rfl rfl rfl rfl rfl ?_
      refine x_dup dX13_getNumber_118 rfl rfl ?_
      refine y_get 130 9 (c := 12) (z := w 46 9) dX13_getNumber_119 i46 rfl in_X13 q940 rfl rfl rfl rfl rfl ?_
      refine x_iconst 1 (z := 1) dX13_getNumber_122 rfl (by decide) rfl ?_
      refine x_iadd dX13_getNumber_123 rfl ?_
      refine x_put 130 9 (c := 12) dX13_getNumber_124 i46 rfl in_X13 tyX13_ok nmX13 q940 rfl rfl rfl (Or.inl rfl) (Or.inl ⟨rfl, rfl⟩) rfl ?_
      refine x_aload_n 0 dX13_getNumber_127 rfl rfl rfl rfl rfl ?_
      refine y_getF 14 5 (c := 12) (z := 47) dX13_getNumber_128 i46 rfl in_X13 q934 rfl rfl rfl fn_46_5 (Nat.le_trans (Nat.le_of_ble_eq_true rfl) hn) rfl ?_
      refine x_bipush 80 (z := 80) dX13_getNumber_131 rfl (by decide) rfl ?_
      refine y_Vv 196 (M := mX6_trim) (As := [(0, 80)]) (st := []) dX13_getNumber_133 i47 rfl q2928 q2110 q2111 q373 q2112 rfl hmX6_trim rfl rfl rfl rfl rfl rfl rfl (k_mono h (fun r7 w8 h => ?_))
      refine x_iload_n 2 dX13_getNumber_136 rfl rfl rfl ?_
      refine x_sipush 128 (z := 128) dX13_getNumber_137 rfl (by decide) rfl ?_
      refine x_icmp_ge (t := 174) 34 dX13_getNumber_140 rfl rfl (b_ite h (fun hc h => ?_) (fun hc h => ?_))
      · refine x_iconst 0 (z := 0) dX13_getNumber_174 rfl (by decide) rfl ?_
        exact x_fg (fgk (fgk (fgd (fgk (fgd (fgk (fg0))))))) h
      · refine x_aload_n 0 dX13_getNumber_143 rfl rfl rfl rfl rfl ?_
        refine y_getF 14 5 (c := 12) (z := 47) dX13_getNumber_144 i46 rfl in_X13 q934 rfl rfl rfl fn_46_5 (Nat.le_trans (Nat.le_of_ble_eq_true rfl) hn) rfl ?_
        refine y_Vi 116 (M := mX6_bits) (As := []) (st := []) dX13_getNumber_147 i47 rfl q2428 q1752 q1753 q373 q1754 rfl hmX6_bits rfl rfl rfl rfl rfl rfl rfl rfl (k_mono h (fun r9 w10 h => ?_))
        refine x_sipush 1024 (z := 1024) dX13_getNumber_150 rfl (by decide) rfl ?_
        refine x_icmp_gt (t := 174) 21 dX13_getNumber_153 rfl rfl (b_ite h (fun hc h => ?_) (fun hc h => ?_))
        · refine x_iconst 0 (z := 0) dX13_getNumber_174 rfl (by decide) rfl ?_
          exact x_fg (fgk (fgk (fgd (fgk (fgd (fgk (fg0))))))) h
        · refine x_iload_n 3 dX13_getNumber_156 rfl rfl rfl ?_
          refine x_if_eq (t := 170) 13 dX13_getNumber_157 rfl rfl (b_ite h (fun hc h => ?_) (fun hc h => ?_))
          · refine x_iconst 1 (z := 1) dX13_getNumber_170 rfl (by decide) rfl ?_
            refine x_goto 4 (q := 175) dX13_getNumber_171 rfl ?_
            exact x_fg (fgk (fgk (fgd (fgk (fgd (fgk (fg0))))))) h
          · refine x_aload_n 0 dX13_getNumber_160 rfl rfl rfl rfl rfl ?_
            refine y_getF 14 5 (c := 12) (z := 47) dX13_getNumber_161 i46 rfl in_X13 q934 rfl rfl rfl fn_46_5 (Nat.le_trans (Nat.le_of_ble_eq_true rfl) hn) rfl ?_
            refine y_Vi 199 (M := mX6_isZero) (As := []) (st := []) dX13_getNumber_164 i47 rfl q2929 q1764 q1765 q373 q1766 rfl hmX6_isZero rfl rfl rfl rfl rfl rfl rfl rfl (k_mono h (fun r11 w12 h => ?_))
            refine x_if_ne (t := 174) 7 dX13_getNumber_167 rfl rfl (b_ite h (fun hc h => ?_) (fun hc h => ?_))
            · refine x_iconst 0 (z := 0) dX13_getNumber_174 rfl (by decide) rfl ?_
              exact x_fg (fgk (fgk (fgd (fgk (fgd (fgk (fg0))))))) h
            · refine x_iconst 1 (z := 1) dX13_getNumber_170 rfl (by decide) rfl ?_
              refine x_goto 4 (q := 175) dX13_getNumber_171 rfl ?_
              exact x_fg (fgk (fgk (fgd (fgk (fgd (fgk (fg0))))))) h
    · refine x_aload_n 0 dX13_getNumber_79 rfl rfl rfl rfl rfl ?_
      refine x_dup dX13_getNumber_80 rfl rfl ?_
      refine y_get 130 9 (c := 12) (z := w 46 9) dX13_getNumber_81 i46 rfl in_X13 q940 rfl rfl rfl rfl rfl ?_
      refine x_iconst 1 (z := 1) dX13_getNumber_84 rfl (by decide) rfl ?_
      refine x_iadd dX13_getNumber_85 rfl ?_
      refine x_put 130 9 (c := 12) dX13_getNumber_86 i46 rfl in_X13 tyX13_ok nmX13 q940 rfl rfl rfl (Or.inl rfl) (Or.inl ⟨rfl, rfl⟩) rfl ?_
      refine x_aload_n 0 dX13_getNumber_89 rfl rfl rfl rfl rfl ?_
      refine x_iconst 0 (z := 0) dX13_getNumber_90 rfl (by decide) rfl ?_
      refine y_Vi 144 (M := mX13_peek) (As := [(0, 0)]) (st := []) dX13_getNumber_91 i46 rfl q2875 q2877 qs154 q380 q2878 rfl hmX13_peek rfl rfl rfl rfl rfl rfl rfl rfl (k_mono h (fun r13 w14 h => ?_))
      refine x_istore_n 2 (ls' := [(2, 46), (0, a1), (0, r13), (0, a3), (0, a4), (9, 0)]) dX13_getNumber_94 rfl rfl rfl rfl ?_
      refine x_iload_n 2 dX13_getNumber_95 rfl rfl rfl ?_
      refine x_if_gt (t := 101) 5 dX13_getNumber_96 rfl rfl (b_ite h (fun hc h => ?_) (fun hc h => ?_))
      · refine x_aload_n 0 dX13_getNumber_101 rfl rfl rfl rfl rfl ?_
        refine x_iload 4 dX13_getNumber_102 rfl rfl ?_
        refine x_iload_n 2 dX13_getNumber_104 rfl rfl rfl ?_
        refine x_bipush 127 (z := 127) dX13_getNumber_105 rfl (by decide) rfl ?_
        refine x_iand dX13_getNumber_107 rfl ?_
        refine y_Vv 193 (M := mX13_addBits) (As := [(0, a4), (0, b_and r13 127)]) (st := []) dX13_getNumber_108 i46 rfl q2923 q2925 qs162 q380 q2926 rfl hmX13_addBits rfl rfl rfl rfl rfl rfl rfl (k_mono h (fun r15 w16 h => ?_))
        refine x_iinc 4 7 (ls' := [(2, 46), (0, a1), (0, r13), (0, a3), (0, b_i (a4 + 7)), (9, 0)]) dX13_getNumber_111 rfl rfl rfl rfl ?_
        refine x_goto (-49) (q := 65) dX13_getNumber_114 rfl ?_
        exact x_fg (fgk (fgk (fgk (fgk (fgk (fgk (fg0))))))) h
      · refine x_iconst 0 (z := 0) dX13_getNumber_99 rfl (by decide) rfl ?_
        exact y_iret dX13_getNumber_100 rfl h
theorem sX13_getNumber_175 {d n : Nat} {w : bW} {Q : Int → bW → Prop} {X : String → bW → Prop} (hn : 143 ≤ n) (a1 : Int) (a3 : Int) (s0 : Int) (h : if s0 = 0 then ((a3 = 0 ∨ a3 = 1) ∧ (Q 0 (b_up w 47 2 a3))) else (if a1 = 2 then ((a3 = 0 ∨ a3 = 1) ∧ (b_K d mX8_ofWhole [(2, 27), (2, 47)] n (b_up w 47 2 a3) (fun r3 w4 => Q r3 w4) X)) else (if a1 = 8 then ((a3 = 0 ∨ a3 = 1) ∧ (b_K d mX8_ofWhole [(2, 27), (2, 47)] n (b_up w 47 2 a3) (fun r6 w7 => Q r6 w7) X)) else (if a3 ≠ 0 then ((a3 = 0 ∨ a3 = 1) ∧ (Q 0 (b_up w 47 2 a3))) else (if a1 = 3 then ((a3 = 0 ∨ a3 = 1) ∧ (b_K d mX8_ofWhole [(2, 27), (2, 47)] n (b_up w 47 2 a3) (fun r10 w11 => Q r10 w11) X)) else (b_K d mX6_bits [(2, 47)] n w (fun r12 w13 => if 63 < r12 then ((a3 = 0 ∨ a3 = 1) ∧ (Q 0 (b_up w13 47 2 a3))) else ((a3 = 0 ∨ a3 = 1) ∧ (b_K d mX8_ofWhole [(2, 27), (2, 47)] n (b_up w13 47 2 a3) (fun r16 w17 => Q r16 w17) X))) X)))))) : LX13_getNumber_175 d n Q X a1 a3 s0 w := by
  have i27 := iz27 (Nat.le_trans (Nat.le_of_ble_eq_true rfl) hn)
  have i46 := iz46 (Nat.le_trans (Nat.le_of_ble_eq_true rfl) hn)
  have i47 := iz47 (Nat.le_trans (Nat.le_of_ble_eq_true rfl) hn)
  refine x_istore 5 (ls' := [(2, 46), (0, a1), (9, 0), (0, a3), (9, 0), (0, s0)]) dX13_getNumber_175 rfl rfl rfl ?_
  refine x_iload 5 dX13_getNumber_177 rfl rfl ?_
  refine x_if_eq (t := 218) 39 dX13_getNumber_179 rfl rfl (b_ite h (fun hc h => ?_) (fun hc h => ?_))
  · refine x_iconst 0 (z := 0) dX13_getNumber_218 rfl (by decide) rfl ?_
    refine x_istore 5 (ls' := [(2, 46), (0, a1), (9, 0), (0, a3), (9, 0), (0, 0)]) dX13_getNumber_219 rfl rfl rfl ?_
    refine x_aload_n 0 dX13_getNumber_221 rfl rfl rfl rfl rfl ?_
    refine y_getF 14 5 (c := 12) (z := 47) dX13_getNumber_222 i46 rfl in_X13 q934 rfl rfl rfl fn_46_5 (Nat.le_trans (Nat.le_of_ble_eq_true rfl) hn) rfl ?_
    refine x_iload_n 3 dX13_getNumber_225 rfl rfl rfl ?_
    obtain ⟨e1, h⟩ := h
    refine x_put 123 2 (c := 5) dX13_getNumber_226 i47 rfl in_X6 tyX6_ok nmX6 q639 rfl rfl rfl (Or.inl rfl) (Or.inr (Or.inl ⟨rfl, rfl, e1⟩)) rfl ?_
    refine x_iload 5 dX13_getNumber_229 rfl rfl ?_
    refine x_if_eq (t := 248) 17 dX13_getNumber_231 rfl rfl (b_ifT (by decide) ?_)
    refine x_iconst 0 (z := 0) dX13_getNumber_248 rfl (by decide) rfl ?_
    exact y_iret dX13_getNumber_249 rfl h
  · refine x_iload_n 1 dX13_getNumber_182 rfl rfl rfl ?_
    refine x_iconst 2 (z := 2) dX13_getNumber_183 rfl (by decide) rfl ?_
    refine x_icmp_eq (t := 214) 30 dX13_getNumber_184 rfl rfl (b_ite h (fun hc h => ?_) (fun hc h => ?_))
    · refine x_iconst 1 (z := 1) dX13_getNumber_214 rfl (by decide) rfl ?_
      refine x_goto 4 (q := 219) dX13_getNumber_215 rfl ?_
      refine x_istore 5 (ls' := [(2, 46), (0, a1), (9, 0), (0, a3), (9, 0), (0, 1)]) dX13_getNumber_219 rfl rfl rfl ?_
      refine x_aload_n 0 dX13_getNumber_221 rfl rfl rfl rfl rfl ?_
      refine y_getF 14 5 (c := 12) (z := 47) dX13_getNumber_222 i46 rfl in_X13 q934 rfl rfl rfl fn_46_5 (Nat.le_trans (Nat.le_of_ble_eq_true rfl) hn) rfl ?_
      refine x_iload_n 3 dX13_getNumber_225 rfl rfl rfl ?_
      obtain ⟨e2, h⟩ := h
      refine x_put 123 2 (c := 5) dX13_getNumber_226 i47 rfl in_X6 tyX6_ok nmX6 q639 rfl rfl rfl (Or.inl rfl) (Or.inr (Or.inl ⟨rfl, rfl, e2⟩)) rfl ?_
      refine x_iload 5 dX13_getNumber_229 rfl rfl ?_
      refine x_if_eq (t := 248) 17 dX13_getNumber_231 rfl rfl (b_ifF (by decide) ?_)
      refine x_aload_n 0 dX13_getNumber_234 rfl rfl rfl rfl rfl ?_
      refine y_getF 28 1 (c := 12) (z := 27) dX13_getNumber_235 i46 rfl in_X13 q930 rfl rfl rfl fn_46_1 (Nat.le_trans (Nat.le_of_ble_eq_true rfl) hn) rfl ?_
      refine x_aload_n 0 dX13_getNumber_238 rfl rfl rfl rfl rfl ?_
      refine y_getF 14 5 (c := 12) (z := 47) dX13_getNumber_239 i46 rfl in_X13 q934 rfl rfl rfl fn_46_5 (Nat.le_trans (Nat.le_of_ble_eq_true rfl) hn) rfl ?_
      refine y_Vi 203 (M := mX8_ofWhole) (As := [(2, 47)]) (st := []) dX13_getNumber_242 i27 rfl q2930 q1949 q1950 q375 q1951 rfl hmX8_ofWhole rfl rfl rfl rfl rfl rfl rfl rfl (k_mono h (fun r3 w4 h => ?_))
      refine x_goto 4 (q := 249) dX13_getNumber_245 rfl ?_
      exact y_iret dX13_getNumber_249 rfl h
    · refine x_iload_n 1 dX13_getNumber_187 rfl rfl rfl ?_
      refine x_bipush 8 (z := 8) dX13_getNumber_188 rfl (by decide) rfl ?_
      refine x_icmp_eq (t := 214) 24 dX13_getNumber_190 rfl rfl (b_ite h (fun hc h => ?_) (fun hc h => ?_))
      · refine x_iconst 1 (z := 1) dX13_getNumber_214 rfl (by decide) rfl ?_
        refine x_goto 4 (q := 219) dX13_getNumber_215 rfl ?_
        refine x_istore 5 (ls' := [(2, 46), (0, a1), (9, 0), (0, a3), (9, 0), (0, 1)]) dX13_getNumber_219 rfl rfl rfl ?_
        refine x_aload_n 0 dX13_getNumber_221 rfl rfl rfl rfl rfl ?_
        refine y_getF 14 5 (c := 12) (z := 47) dX13_getNumber_222 i46 rfl in_X13 q934 rfl rfl rfl fn_46_5 (Nat.le_trans (Nat.le_of_ble_eq_true rfl) hn) rfl ?_
        refine x_iload_n 3 dX13_getNumber_225 rfl rfl rfl ?_
        obtain ⟨e5, h⟩ := h
        refine x_put 123 2 (c := 5) dX13_getNumber_226 i47 rfl in_X6 tyX6_ok nmX6 q639 rfl rfl rfl (Or.inl rfl) (Or.inr (Or.inl ⟨rfl, rfl, e5⟩)) rfl ?_
        refine x_iload 5 dX13_getNumber_229 rfl rfl ?_
        refine x_if_eq (t := 248) 17 dX13_getNumber_231 rfl rfl (b_ifF (by decide) ?_)
        refine x_aload_n 0 dX13_getNumber_234 rfl rfl rfl rfl rfl ?_
        refine y_getF 28 1 (c := 12) (z := 27) dX13_getNumber_235 i46 rfl in_X13 q930 rfl rfl rfl fn_46_1 (Nat.le_trans (Nat.le_of_ble_eq_true rfl) hn) rfl ?_
        refine x_aload_n 0 dX13_getNumber_238 rfl rfl rfl rfl rfl ?_
        refine y_getF 14 5 (c := 12) (z := 47) dX13_getNumber_239 i46 rfl in_X13 q934 rfl rfl rfl fn_46_5 (Nat.le_trans (Nat.le_of_ble_eq_true rfl) hn) rfl ?_
        refine y_Vi 203 (M := mX8_ofWhole) (As := [(2, 47)]) (st := []) dX13_getNumber_242 i27 rfl q2930 q1949 q1950 q375 q1951 rfl hmX8_ofWhole rfl rfl rfl rfl rfl rfl rfl rfl (k_mono h (fun r6 w7 h => ?_))
        refine x_goto 4 (q := 249) dX13_getNumber_245 rfl ?_
        exact y_iret dX13_getNumber_249 rfl h
      · refine x_iload_n 3 dX13_getNumber_193 rfl rfl rfl ?_
        refine x_if_ne (t := 218) 24 dX13_getNumber_194 rfl rfl (b_ite h (fun hc h => ?_) (fun hc h => ?_))
        · refine x_iconst 0 (z := 0) dX13_getNumber_218 rfl (by decide) rfl ?_
          refine x_istore 5 (ls' := [(2, 46), (0, a1), (9, 0), (0, a3), (9, 0), (0, 0)]) dX13_getNumber_219 rfl rfl rfl ?_
          refine x_aload_n 0 dX13_getNumber_221 rfl rfl rfl rfl rfl ?_
          refine y_getF 14 5 (c := 12) (z := 47) dX13_getNumber_222 i46 rfl in_X13 q934 rfl rfl rfl fn_46_5 (Nat.le_trans (Nat.le_of_ble_eq_true rfl) hn) rfl ?_
          refine x_iload_n 3 dX13_getNumber_225 rfl rfl rfl ?_
          obtain ⟨e8, h⟩ := h
          refine x_put 123 2 (c := 5) dX13_getNumber_226 i47 rfl in_X6 tyX6_ok nmX6 q639 rfl rfl rfl (Or.inl rfl) (Or.inr (Or.inl ⟨rfl, rfl, e8⟩)) rfl ?_
          refine x_iload 5 dX13_getNumber_229 rfl rfl ?_
          refine x_if_eq (t := 248) 17 dX13_getNumber_231 rfl rfl (b_ifT (by decide) ?_)
          refine x_iconst 0 (z := 0) dX13_getNumber_248 rfl (by decide) rfl ?_
          exact y_iret dX13_getNumber_249 rfl h
        · refine x_iload_n 1 dX13_getNumber_197 rfl rfl rfl ?_
          refine x_iconst 3 (z := 3) dX13_getNumber_198 rfl (by decide) rfl ?_
          refine x_icmp_eq (t := 214) 15 dX13_getNumber_199 rfl rfl (b_ite h (fun hc h => ?_) (fun hc h => ?_))
          · refine x_iconst 1 (z := 1) dX13_getNumber_214 rfl (by decide) rfl ?_
            refine x_goto 4 (q := 219) dX13_getNumber_215 rfl ?_
            refine x_istore 5 (ls' := [(2, 46), (0, a1), (9, 0), (0, a3), (9, 0), (0, 1)]) dX13_getNumber_219 rfl rfl rfl ?_
            refine x_aload_n 0 dX13_getNumber_221 rfl rfl rfl rfl rfl ?_
            refine y_getF 14 5 (c := 12) (z := 47) dX13_getNumber_222 i46 rfl in_X13 q934 rfl rfl rfl fn_46_5 (Nat.le_trans (Nat.le_of_ble_eq_true rfl) hn) rfl ?_
            refine x_iload_n 3 dX13_getNumber_225 rfl rfl rfl ?_
            obtain ⟨e9, h⟩ := h
            refine x_put 123 2 (c := 5) dX13_getNumber_226 i47 rfl in_X6 tyX6_ok nmX6 q639 rfl rfl rfl (Or.inl rfl) (Or.inr (Or.inl ⟨rfl, rfl, e9⟩)) rfl ?_
            refine x_iload 5 dX13_getNumber_229 rfl rfl ?_
            refine x_if_eq (t := 248) 17 dX13_getNumber_231 rfl rfl (b_ifF (by decide) ?_)
            refine x_aload_n 0 dX13_getNumber_234 rfl rfl rfl rfl rfl ?_
            refine y_getF 28 1 (c := 12) (z := 27) dX13_getNumber_235 i46 rfl in_X13 q930 rfl rfl rfl fn_46_1 (Nat.le_trans (Nat.le_of_ble_eq_true rfl) hn) rfl ?_
            refine x_aload_n 0 dX13_getNumber_238 rfl rfl rfl rfl rfl ?_
            refine y_getF 14 5 (c := 12) (z := 47) dX13_getNumber_239 i46 rfl in_X13 q934 rfl rfl rfl fn_46_5 (Nat.le_trans (Nat.le_of_ble_eq_true rfl) hn) rfl ?_
            refine y_Vi 203 (M := mX8_ofWhole) (As := [(2, 47)]) (st := []) dX13_getNumber_242 i27 rfl q2930 q1949 q1950 q375 q1951 rfl hmX8_ofWhole rfl rfl rfl rfl rfl rfl rfl rfl (k_mono h (fun r10 w11 h => ?_))
            refine x_goto 4 (q := 249) dX13_getNumber_245 rfl ?_
            exact y_iret dX13_getNumber_249 rfl h
          · refine x_aload_n 0 dX13_getNumber_202 rfl rfl rfl rfl rfl ?_
            refine y_getF 14 5 (c := 12) (z := 47) dX13_getNumber_203 i46 rfl in_X13 q934 rfl rfl rfl fn_46_5 (Nat.le_trans (Nat.le_of_ble_eq_true rfl) hn) rfl ?_
            refine y_Vi 116 (M := mX6_bits) (As := []) (st := []) dX13_getNumber_206 i47 rfl q2428 q1752 q1753 q373 q1754 rfl hmX6_bits rfl rfl rfl rfl rfl rfl rfl rfl (k_mono h (fun r12 w13 h => ?_))
            refine x_bipush 63 (z := 63) dX13_getNumber_209 rfl (by decide) rfl ?_
            refine x_icmp_gt (t := 218) 7 dX13_getNumber_211 rfl rfl (b_ite h (fun hc h => ?_) (fun hc h => ?_))
            · refine x_iconst 0 (z := 0) dX13_getNumber_218 rfl (by decide) rfl ?_
              refine x_istore 5 (ls' := [(2, 46), (0, a1), (9, 0), (0, a3), (9, 0), (0, 0)]) dX13_getNumber_219 rfl rfl rfl ?_
              refine x_aload_n 0 dX13_getNumber_221 rfl rfl rfl rfl rfl ?_
              refine y_getF 14 5 (c := 12) (z := 47) dX13_getNumber_222 i46 rfl in_X13 q934 rfl rfl rfl fn_46_5 (Nat.le_trans (Nat.le_of_ble_eq_true rfl) hn) rfl ?_
              refine x_iload_n 3 dX13_getNumber_225 rfl rfl rfl ?_
              obtain ⟨e14, h⟩ := h
              refine x_put 123 2 (c := 5) dX13_getNumber_226 i47 rfl in_X6 tyX6_ok nmX6 q639 rfl rfl rfl (Or.inl rfl) (Or.inr (Or.inl ⟨rfl, rfl, e14⟩)) rfl ?_
              refine x_iload 5 dX13_getNumber_229 rfl rfl ?_
              refine x_if_eq (t := 248) 17 dX13_getNumber_231 rfl rfl (b_ifT (by decide) ?_)
              refine x_iconst 0 (z := 0) dX13_getNumber_248 rfl (by decide) rfl ?_
              exact y_iret dX13_getNumber_249 rfl h
            · refine x_iconst 1 (z := 1) dX13_getNumber_214 rfl (by decide) rfl ?_
              refine x_goto 4 (q := 219) dX13_getNumber_215 rfl ?_
              refine x_istore 5 (ls' := [(2, 46), (0, a1), (9, 0), (0, a3), (9, 0), (0, 1)]) dX13_getNumber_219 rfl rfl rfl ?_
              refine x_aload_n 0 dX13_getNumber_221 rfl rfl rfl rfl rfl ?_
              refine y_getF 14 5 (c := 12) (z := 47) dX13_getNumber_222 i46 rfl in_X13 q934 rfl rfl rfl fn_46_5 (Nat.le_trans (Nat.le_of_ble_eq_true rfl) hn) rfl ?_
              refine x_iload_n 3 dX13_getNumber_225 rfl rfl rfl ?_
              obtain ⟨e15, h⟩ := h
              refine x_put 123 2 (c := 5) dX13_getNumber_226 i47 rfl in_X6 tyX6_ok nmX6 q639 rfl rfl rfl (Or.inl rfl) (Or.inr (Or.inl ⟨rfl, rfl, e15⟩)) rfl ?_
              refine x_iload 5 dX13_getNumber_229 rfl rfl ?_
              refine x_if_eq (t := 248) 17 dX13_getNumber_231 rfl rfl (b_ifF (by decide) ?_)
              refine x_aload_n 0 dX13_getNumber_234 rfl rfl rfl rfl rfl ?_
              refine y_getF 28 1 (c := 12) (z := 27) dX13_getNumber_235 i46 rfl in_X13 q930 rfl rfl rfl fn_46_1 (Nat.le_trans (Nat.le_of_ble_eq_true rfl) hn) rfl ?_
              refine x_aload_n 0 dX13_getNumber_238 rfl rfl rfl rfl rfl ?_
              refine y_getF 14 5 (c := 12) (z := 47) dX13_getNumber_239 i46 rfl in_X13 q934 rfl rfl rfl fn_46_5 (Nat.le_trans (Nat.le_of_ble_eq_true rfl) hn) rfl ?_
              refine y_Vi 203 (M := mX8_ofWhole) (As := [(2, 47)]) (st := []) dX13_getNumber_242 i27 rfl q2930 q1949 q1950 q375 q1951 rfl hmX8_ofWhole rfl rfl rfl rfl rfl rfl rfl rfl (k_mono h (fun r16 w17 h => ?_))
              refine x_goto 4 (q := 249) dX13_getNumber_245 rfl ?_
              exact y_iret dX13_getNumber_249 rfl h
abbrev LX13_addBits_6 (d n : Nat) (Q : Int → bW → Prop) (X : String → bW → Prop) (a1 : Int) (a2 : Int) (a3 : Int) (w : bW) : Prop := b_Y (d + 1) mX13_addBits n Q X 6 [(2, 46), (0, a1), (0, a2), (0, a3)] [] w
theorem rX13_addBits {d n : Nat} {w : bW} {Q : Int → bW → Prop} {X : String → bW → Prop} (hn : 143 ≤ n) (a1 : Int) (a2 : Int) (h : if a1 ≠ 0 then ((0 ≤ b_shr a1 4 ∧ b_shr a1 4 < 200) ∧ ((0 ≤ b_i ((b_shr a1 4) + 1) ∧ b_i ((b_shr a1 4) + 1) < 200) ∧ (Q 0 (b_up (b_up w 48 (b_shr a1 4) (b_or (w 48 (b_shr a1 4)) (b_and (b_shl a2 (b_and a1 15)) 65535))) 48 (b_i ((b_shr a1 4) + 1)) (b_or ((b_up w 48 (b_shr a1 4) (b_or (w 48 (b_shr a1 4)) (b_and (b_shl a2 (b_and a1 15)) 65535))) 48 (b_i ((b_shr a1 4) + 1))) (b_shr (b_shl a2 (b_and a1 15)) 16)))))) else (LX13_addBits_6 d n Q X a1 a2 0 w)) : b_K (d + 1) mX13_addBits [(2, 46), (0, a1), (0, a2)] n w Q X := by
  have i46 := iz46 (Nat.le_trans (Nat.le_of_ble_eq_true rfl) hn)
  have i47 := iz47 (Nat.le_trans (Nat.le_of_ble_eq_true rfl) hn)
  have i48 := iz48 (Nat.le_trans (Nat.le_of_ble_eq_true rfl) hn)
  refine k_of (by decide) rfl rfl rfl (ls := [(2, 46), (0, a1), (0, a2), (9, 0)]) rfl ?_
  refine x_iload_n 1 dX13_addBits_0 rfl rfl rfl ?_
  refine x_if_ne (t := 28) 27 dX13_addBits_1 rfl rfl (b_ite h (fun hc h => ?_) (fun hc h => ?_))
  · refine x_iload_n 2 dX13_addBits_28 rfl rfl rfl ?_
    refine x_iload_n 1 dX13_addBits_29 rfl rfl rfl ?_
    refine x_bipush 15 (z := 15) dX13_addBits_30 rfl (by decide) rfl ?_
    refine x_iand dX13_addBits_32 rfl ?_
    refine x_ishl dX13_addBits_33 rfl ?_
    refine x_istore_n 3 (ls' := [(2, 46), (0, a1), (0, a2), (0, b_shl a2 (b_and a1 15))]) dX13_addBits_34 rfl rfl rfl rfl ?_
    refine x_aload_n 0 dX13_addBits_35 rfl rfl rfl rfl rfl ?_
    refine y_getF 14 5 (c := 12) (z := 47) dX13_addBits_36 i46 rfl in_X13 q934 rfl rfl rfl fn_46_5 (Nat.le_trans (Nat.le_of_ble_eq_true rfl) hn) rfl ?_
    refine y_getF 207 0 (c := 5) (z := 48) dX13_addBits_39 i47 rfl in_X6 q629 rfl rfl rfl fn_47_0 (Nat.le_trans (Nat.le_of_ble_eq_true rfl) hn) rfl ?_
    refine x_iload_n 1 dX13_addBits_42 rfl rfl rfl ?_
    refine x_iconst 4 (z := 4) dX13_addBits_43 rfl (by decide) rfl ?_
    refine x_ishr dX13_addBits_44 rfl ?_
    refine x_dup2 dX13_addBits_45 rfl rfl rfl ?_
    obtain ⟨e1, h⟩ := h
    refine y_iald (z := w 48 (b_shr a1 4)) dX13_addBits_46 ⟨200, i48, e1⟩ rfl rfl ?_
    refine x_iload_n 3 dX13_addBits_47 rfl rfl rfl ?_
    refine x_ldc 210 (x := 65535) dX13_addBits_48 q2927 rfl (by decide) rfl ?_
    refine x_iand dX13_addBits_50 rfl ?_
    refine x_ior dX13_addBits_51 rfl ?_
    refine y_iast (x' := b_or (w 48 (b_shr a1 4)) (b_and (b_shl a2 (b_and a1 15)) 65535)) dX13_addBits_52 ⟨200, i48, e1⟩ rfl rfl ?_
    refine x_aload_n 0 dX13_addBits_53 rfl rfl rfl rfl rfl ?_
    refine y_getF 14 5 (c := 12) (z := 47) dX13_addBits_54 i46 rfl in_X13 q934 rfl rfl rfl fn_46_5 (Nat.le_trans (Nat.le_of_ble_eq_true rfl) hn) rfl ?_
    refine y_getF 207 0 (c := 5) (z := 48) dX13_addBits_57 i47 rfl in_X6 q629 rfl rfl rfl fn_47_0 (Nat.le_trans (Nat.le_of_ble_eq_true rfl) hn) rfl ?_
    refine x_iload_n 1 dX13_addBits_60 rfl rfl rfl ?_
    refine x_iconst 4 (z := 4) dX13_addBits_61 rfl (by decide) rfl ?_
    refine x_ishr dX13_addBits_62 rfl ?_
    refine x_iconst 1 (z := 1) dX13_addBits_63 rfl (by decide) rfl ?_
    refine x_iadd dX13_addBits_64 rfl ?_
    refine x_dup2 dX13_addBits_65 rfl rfl rfl ?_
    obtain ⟨e2, h⟩ := h
    refine y_iald (z := (b_up w 48 (b_shr a1 4) (b_or (w 48 (b_shr a1 4)) (b_and (b_shl a2 (b_and a1 15)) 65535))) 48 (b_i ((b_shr a1 4) + 1))) dX13_addBits_66 ⟨200, i48, e2⟩ rfl rfl ?_
    refine x_iload_n 3 dX13_addBits_67 rfl rfl rfl ?_
    refine x_bipush 16 (z := 16) dX13_addBits_68 rfl (by decide) rfl ?_
    refine x_ishr dX13_addBits_70 rfl ?_
    refine x_ior dX13_addBits_71 rfl ?_
    refine y_iast (x' := b_or ((b_up w 48 (b_shr a1 4) (b_or (w 48 (b_shr a1 4)) (b_and (b_shl a2 (b_and a1 15)) 65535))) 48 (b_i ((b_shr a1 4) + 1))) (b_shr (b_shl a2 (b_and a1 15)) 16)) dX13_addBits_72 ⟨200, i48, e2⟩ rfl rfl ?_
    exact y_vret dX13_addBits_73 rfl h
  · refine x_iconst 0 (z := 0) dX13_addBits_4 rfl (by decide) rfl ?_
    refine x_istore_n 3 (ls' := [(2, 46), (0, a1), (0, a2), (0, 0)]) dX13_addBits_5 rfl rfl rfl rfl ?_
    exact x_fg (fgk (fgk (fgk (fgk (fg0))))) h
theorem sX13_addBits_6 {d n : Nat} {w : bW} {Q : Int → bW → Prop} {X : String → bW → Prop} (hn : 143 ≤ n) (a1 : Int) (a2 : Int) (a3 : Int) (h : if 80 ≤ a3 then ((0 ≤ b_shr a1 4 ∧ b_shr a1 4 < 200) ∧ ((0 ≤ b_i ((b_shr a1 4) + 1) ∧ b_i ((b_shr a1 4) + 1) < 200) ∧ (Q 0 (b_up (b_up w 48 (b_shr a1 4) (b_or (w 48 (b_shr a1 4)) (b_and (b_shl a2 (b_and a1 15)) 65535))) 48 (b_i ((b_shr a1 4) + 1)) (b_or ((b_up w 48 (b_shr a1 4) (b_or (w 48 (b_shr a1 4)) (b_and (b_shl a2 (b_and a1 15)) 65535))) 48 (b_i ((b_shr a1 4) + 1))) (b_shr (b_shl a2 (b_and a1 15)) 16)))))) else ((0 ≤ a3 ∧ a3 < 200) ∧ (LX13_addBits_6 d n Q X a1 a2 (b_i (a3 + 1)) (b_up w 48 a3 0)))) : LX13_addBits_6 d n Q X a1 a2 a3 w := by
  have i46 := iz46 (Nat.le_trans (Nat.le_of_ble_eq_true rfl) hn)
  have i47 := iz47 (Nat.le_trans (Nat.le_of_ble_eq_true rfl) hn)
  have i48 := iz48 (Nat.le_trans (Nat.le_of_ble_eq_true rfl) hn)
  refine x_iload_n 3 dX13_addBits_6 rfl rfl rfl ?_
  refine x_bipush 80 (z := 80) dX13_addBits_7 rfl (by decide) rfl ?_
  refine x_icmp_ge (t := 28) 19 dX13_addBits_9 rfl rfl (b_ite h (fun hc h => ?_) (fun hc h => ?_))
  · refine x_iload_n 2 dX13_addBits_28 rfl rfl rfl ?_
    refine x_iload_n 1 dX13_addBits_29 rfl rfl rfl ?_
    refine x_bipush 15 (z := 15) dX13_addBits_30 rfl (by decide) rfl ?_
    refine x_iand dX13_addBits_32 rfl ?_
    refine x_ishl dX13_addBits_33 rfl ?_
    refine x_istore_n 3 (ls' := [(2, 46), (0, a1), (0, a2), (0, b_shl a2 (b_and a1 15))]) dX13_addBits_34 rfl rfl rfl rfl ?_
    refine x_aload_n 0 dX13_addBits_35 rfl rfl rfl rfl rfl ?_
    refine y_getF 14 5 (c := 12) (z := 47) dX13_addBits_36 i46 rfl in_X13 q934 rfl rfl rfl fn_46_5 (Nat.le_trans (Nat.le_of_ble_eq_true rfl) hn) rfl ?_
    refine y_getF 207 0 (c := 5) (z := 48) dX13_addBits_39 i47 rfl in_X6 q629 rfl rfl rfl fn_47_0 (Nat.le_trans (Nat.le_of_ble_eq_true rfl) hn) rfl ?_
    refine x_iload_n 1 dX13_addBits_42 rfl rfl rfl ?_
    refine x_iconst 4 (z := 4) dX13_addBits_43 rfl (by decide) rfl ?_
    refine x_ishr dX13_addBits_44 rfl ?_
    refine x_dup2 dX13_addBits_45 rfl rfl rfl ?_
    obtain ⟨e1, h⟩ := h
    refine y_iald (z := w 48 (b_shr a1 4)) dX13_addBits_46 ⟨200, i48, e1⟩ rfl rfl ?_
    refine x_iload_n 3 dX13_addBits_47 rfl rfl rfl ?_
    refine x_ldc 210 (x := 65535) dX13_addBits_48 q2927 rfl (by decide) rfl ?_
    refine x_iand dX13_addBits_50 rfl ?_
    refine x_ior dX13_addBits_51 rfl ?_
    refine y_iast (x' := b_or (w 48 (b_shr a1 4)) (b_and (b_shl a2 (b_and a1 15)) 65535)) dX13_addBits_52 ⟨200, i48, e1⟩ rfl rfl ?_
    refine x_aload_n 0 dX13_addBits_53 rfl rfl rfl rfl rfl ?_
    refine y_getF 14 5 (c := 12) (z := 47) dX13_addBits_54 i46 rfl in_X13 q934 rfl rfl rfl fn_46_5 (Nat.le_trans (Nat.le_of_ble_eq_true rfl) hn) rfl ?_
    refine y_getF 207 0 (c := 5) (z := 48) dX13_addBits_57 i47 rfl in_X6 q629 rfl rfl rfl fn_47_0 (Nat.le_trans (Nat.le_of_ble_eq_true rfl) hn) rfl ?_
    refine x_iload_n 1 dX13_addBits_60 rfl rfl rfl ?_
    refine x_iconst 4 (z := 4) dX13_addBits_61 rfl (by decide) rfl ?_
    refine x_ishr dX13_addBits_62 rfl ?_
    refine x_iconst 1 (z := 1) dX13_addBits_63 rfl (by decide) rfl ?_
    refine x_iadd dX13_addBits_64 rfl ?_
    refine x_dup2 dX13_addBits_65 rfl rfl rfl ?_
    obtain ⟨e2, h⟩ := h
    refine y_iald (z := (b_up w 48 (b_shr a1 4) (b_or (w 48 (b_shr a1 4)) (b_and (b_shl a2 (b_and a1 15)) 65535))) 48 (b_i ((b_shr a1 4) + 1))) dX13_addBits_66 ⟨200, i48, e2⟩ rfl rfl ?_
    refine x_iload_n 3 dX13_addBits_67 rfl rfl rfl ?_
    refine x_bipush 16 (z := 16) dX13_addBits_68 rfl (by decide) rfl ?_
    refine x_ishr dX13_addBits_70 rfl ?_
    refine x_ior dX13_addBits_71 rfl ?_
    refine y_iast (x' := b_or ((b_up w 48 (b_shr a1 4) (b_or (w 48 (b_shr a1 4)) (b_and (b_shl a2 (b_and a1 15)) 65535))) 48 (b_i ((b_shr a1 4) + 1))) (b_shr (b_shl a2 (b_and a1 15)) 16)) dX13_addBits_72 ⟨200, i48, e2⟩ rfl rfl ?_
    exact y_vret dX13_addBits_73 rfl h
  · refine x_aload_n 0 dX13_addBits_12 rfl rfl rfl rfl rfl ?_
    refine y_getF 14 5 (c := 12) (z := 47) dX13_addBits_13 i46 rfl in_X13 q934 rfl rfl rfl fn_46_5 (Nat.le_trans (Nat.le_of_ble_eq_true rfl) hn) rfl ?_
    refine y_getF 207 0 (c := 5) (z := 48) dX13_addBits_16 i47 rfl in_X6 q629 rfl rfl rfl fn_47_0 (Nat.le_trans (Nat.le_of_ble_eq_true rfl) hn) rfl ?_
    refine x_iload_n 3 dX13_addBits_19 rfl rfl rfl ?_
    refine x_iconst 0 (z := 0) dX13_addBits_20 rfl (by decide) rfl ?_
    obtain ⟨e3, h⟩ := h
    refine y_iast (x' := 0) dX13_addBits_21 ⟨200, i48, e3⟩ rfl rfl ?_
    refine x_iinc 3 1 (ls' := [(2, 46), (0, a1), (0, a2), (0, b_i (a3 + 1))]) dX13_addBits_22 rfl rfl rfl rfl ?_
    refine x_goto (-19) (q := 6) dX13_addBits_25 rfl ?_
    exact x_fg (fgk (fgk (fgk (fgk (fg0))))) h
end RulesX13
