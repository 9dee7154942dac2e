section RulesX19
set_option maxRecDepth 100000
abbrev LX19_run_25 (d n : Nat) (Q : Int → bW → Prop) (X : String → bW → Prop) (w : bW) : Prop := b_Y (d + 1) mX19_run n Q X 25 [(2, 83), (9, 0), (9, 0), (9, 0)] [] w
theorem rX19_run {d n : Nat} {w : bW} {Q : Int → bW → Prop} {X : String → bW → Prop} (hn : 84 ≤ n) (a1 : Int) (a2 : Int) (h : b_K d mX19_push [(2, 83), (0, a2)] n (b_up (b_up (b_up w 83 17 0) 83 19 0) 83 21 0) (fun r1 w2 => LX19_run_25 d n Q X (b_up w2 83 22 a1)) X) : b_K (d + 1) mX19_run [(2, 83), (0, a1), (0, a2)] n w Q X := by
  have i83 := iz83 (Nat.le_trans (Nat.le_of_ble_eq_true rfl) hn)
  refine k_of (by decide) rfl rfl rfl (ls := [(2, 83), (0, a1), (0, a2), (9, 0)]) rfl ?_
  refine x_aload_n 0 dX19_run_0 rfl rfl rfl rfl rfl ?_
  refine x_iconst 0 (z := 0) dX19_run_1 rfl (by decide) rfl ?_
  refine x_put 98 17 (c := 18) dX19_run_2 i83 rfl in_X19 tyX19_ok nmX19 q1309 rfl rfl rfl (Or.inl rfl) (Or.inl ⟨rfl, rfl⟩) rfl ?_
  refine x_aload_n 0 dX19_run_5 rfl rfl rfl rfl rfl ?_
  refine x_iconst 0 (z := 0) dX19_run_6 rfl (by decide) rfl ?_
  refine x_put 119 19 (c := 18) dX19_run_7 i83 rfl in_X19 tyX19_ok nmX19 q1311 rfl rfl rfl (Or.inl rfl) (Or.inl ⟨rfl, rfl⟩) rfl ?_
  refine x_aload_n 0 dX19_run_10 rfl rfl rfl rfl rfl ?_
  refine x_iconst 0 (z := 0) dX19_run_11 rfl (by decide) rfl ?_
  refine x_put 111 21 (c := 18) dX19_run_12 i83 rfl in_X19 tyX19_ok nmX19 q1313 rfl rfl rfl (Or.inl rfl) (Or.inl ⟨rfl, rfl⟩) rfl ?_
  refine x_aload_n 0 dX19_run_15 rfl rfl rfl rfl rfl ?_
  refine x_iload_n 2 dX19_run_16 rfl rfl rfl ?_
  refine y_Vv 122 (M := mX19_push) (As := [(0, a2)]) (st := []) dX19_run_17 i83 rfl q2567 q2569 qs108 q386 q2570 rfl hmX19_push rfl rfl rfl rfl rfl rfl rfl (k_mono h (fun r1 w2 h => ?_))
  refine x_aload_n 0 dX19_run_20 rfl rfl rfl rfl rfl ?_
  refine x_iload_n 1 dX19_run_21 rfl rfl rfl ?_
  refine x_put 125 22 (c := 18) dX19_run_22 i83 rfl in_X19 tyX19_ok nmX19 q1314 rfl rfl rfl (Or.inl rfl) (Or.inl ⟨rfl, rfl⟩) rfl ?_
  exact x_fg (fgk (fgd (fgd (fgk (fg0))))) h
theorem sX19_run_25 {d n : Nat} {w : bW} {Q : Int → bW → Prop} {X : String → bW → Prop} (hn : 84 ≤ n) (h : if w 83 22 ≠ 0 then (if w 83 22 ≠ 0 then (b_K d mX19_cell [(2, 83), (0, w 83 22), (0, 4)] n w (fun r1 w2 => b_K d mX19_cell [(2, 83), (0, w 83 22), (0, 0)] n (b_up w2 83 22 r1) (fun r3 w4 => b_K d mX19_step [(2, 83), (0, w 83 22), (0, r3)] n w4 (fun r5 w6 => LX19_run_25 d n Q X w6) X) X) X) else (b_K d mX19_goOn [(2, 83)] n w (fun r7 w8 => LX19_run_25 d n Q X w8) X)) else (if w 83 21 ≤ 0 then (b_K d mX19_pop [(2, 83)] n w (fun r9 w10 => Q r9 w10) X) else (if w 83 22 ≠ 0 then (b_K d mX19_cell [(2, 83), (0, w 83 22), (0, 4)] n w (fun r11 w12 => b_K d mX19_cell [(2, 83), (0, w 83 22), (0, 0)] n (b_up w12 83 22 r11) (fun r13 w14 => b_K d mX19_step [(2, 83), (0, w 83 22), (0, r13)] n w14 (fun r15 w16 => LX19_run_25 d n Q X w16) X) X) X) else (b_K d mX19_goOn [(2, 83)] n w (fun r17 w18 => LX19_run_25 d n Q X w18) X)))) : LX19_run_25 d n Q X w := by
  have i83 := iz83 (Nat.le_trans (Nat.le_of_ble_eq_true rfl) hn)
  refine x_aload_n 0 dX19_run_25 rfl rfl rfl rfl rfl ?_
  refine y_get 125 22 (c := 18) (z := w 83 22) dX19_run_26 i83 rfl in_X19 q1314 rfl rfl rfl rfl rfl ?_
  refine x_if_ne (t := 39) 10 dX19_run_29 rfl rfl (b_ite h (fun hc h => ?_) (fun hc h => ?_))
  · refine x_aload_n 0 dX19_run_39 rfl rfl rfl rfl rfl ?_
    refine y_get 125 22 (c := 18) (z := w 83 22) dX19_run_40 i83 rfl in_X19 q1314 rfl rfl rfl rfl rfl ?_
    refine x_if_ne (t := 53) 10 dX19_run_43 rfl rfl (b_ite h (fun hc h => ?_) (fun hc h => ?_))
    · refine x_aload_n 0 dX19_run_53 rfl rfl rfl rfl rfl ?_
      refine y_get 125 22 (c := 18) (z := w 83 22) dX19_run_54 i83 rfl in_X19 q1314 rfl rfl rfl rfl rfl ?_
      refine x_istore_n 3 (ls' := [(2, 83), (9, 0), (9, 0), (0, w 83 22)]) dX19_run_57 rfl rfl rfl rfl ?_
      refine x_aload_n 0 dX19_run_58 rfl rfl rfl rfl rfl ?_
      refine x_aload_n 0 dX19_run_59 rfl rfl rfl rfl rfl ?_
      refine x_iload_n 3 dX19_run_60 rfl rfl rfl ?_
      refine x_iconst 4 (z := 4) dX19_run_61 rfl (by decide) rfl ?_
      refine y_Vi 131 (M := mX19_cell) (As := [(0, w 83 22), (0, 4)]) (st := [(2, 83)]) dX19_run_62 i83 rfl q2579 q2581 qs111 q386 q2582 rfl hmX19_cell rfl rfl rfl rfl rfl rfl rfl rfl (k_mono h (fun r1 w2 h => ?_))
      refine x_put 125 22 (c := 18) dX19_run_65 i83 rfl in_X19 tyX19_ok nmX19 q1314 rfl rfl rfl (Or.inl rfl) (Or.inl ⟨rfl, rfl⟩) rfl ?_
      refine x_aload_n 0 dX19_run_68 rfl rfl rfl rfl rfl ?_
      refine x_iload_n 3 dX19_run_69 rfl rfl rfl ?_
      refine x_aload_n 0 dX19_run_70 rfl rfl rfl rfl rfl ?_
      refine x_iload_n 3 dX19_run_71 rfl rfl rfl ?_
      refine x_iconst 0 (z := 0) dX19_run_72 rfl (by decide) rfl ?_
      refine y_Vi 131 (M := mX19_cell) (As := [(0, w 83 22), (0, 0)]) (st := [(0, w 83 22), (2, 83)]) dX19_run_73 i83 rfl q2579 q2581 qs111 q386 q2582 rfl hmX19_cell rfl rfl rfl rfl rfl rfl rfl rfl (k_mono h (fun r3 w4 h => ?_))
      refine y_Vv 135 (M := mX19_step) (As := [(0, w 83 22), (0, r3)]) (st := []) dX19_run_76 i83 rfl q2642 q2644 qs123 q386 q2645 rfl hmX19_step rfl rfl rfl rfl rfl rfl rfl (k_mono h (fun r5 w6 h => ?_))
      refine x_goto (-54) (q := 25) dX19_run_79 rfl ?_
      exact x_fg (fgk (fgk (fgk (fgd (fg0))))) h
    · refine x_aload_n 0 dX19_run_46 rfl rfl rfl rfl rfl ?_
      refine y_Vv 128 (M := mX19_goOn) (As := []) (st := []) dX19_run_47 i83 rfl q2571 q2573 qs109 q386 q2574 rfl hmX19_goOn rfl rfl rfl rfl rfl rfl rfl (k_mono h (fun r7 w8 h => ?_))
      refine x_goto (-25) (q := 25) dX19_run_50 rfl ?_
      exact x_fg (fgk (fgk (fgk (fgk (fg0))))) h
  · refine x_aload_n 0 dX19_run_32 rfl rfl rfl rfl rfl ?_
    refine y_get 111 21 (c := 18) (z := w 83 21) dX19_run_33 i83 rfl in_X19 q1313 rfl rfl rfl rfl rfl ?_
    refine x_if_le (t := 82) 46 dX19_run_36 rfl rfl (b_ite h (fun hc h => ?_) (fun hc h => ?_))
    · refine x_aload_n 0 dX19_run_82 rfl rfl rfl rfl rfl ?_
      refine y_Vi 139 (M := mX19_pop) (As := []) (st := []) dX19_run_83 i83 rfl q2583 q2585 qs112 q386 q2586 rfl hmX19_pop rfl rfl rfl rfl rfl rfl rfl rfl (k_mono h (fun r9 w10 h => ?_))
      exact y_iret dX19_run_86 rfl h
    · refine x_aload_n 0 dX19_run_39 rfl rfl rfl rfl rfl ?_
      refine y_get 125 22 (c := 18) (z := w 83 22) dX19_run_40 i83 rfl in_X19 q1314 rfl rfl rfl rfl rfl ?_
      refine x_if_ne (t := 53) 10 dX19_run_43 rfl rfl (b_ite h (fun hc h => ?_) (fun hc h => ?_))
      · refine x_aload_n 0 dX19_run_53 rfl rfl rfl rfl rfl ?_
        refine y_get 125 22 (c := 18) (z := w 83 22) dX19_run_54 i83 rfl in_X19 q1314 rfl rfl rfl rfl rfl ?_
        refine x_istore_n 3 (ls' := [(2, 83), (9, 0), (9, 0), (0, w 83 22)]) dX19_run_57 rfl rfl rfl rfl ?_
        refine x_aload_n 0 dX19_run_58 rfl rfl rfl rfl rfl ?_
        refine x_aload_n 0 dX19_run_59 rfl rfl rfl rfl rfl ?_
        refine x_iload_n 3 dX19_run_60 rfl rfl rfl ?_
        refine x_iconst 4 (z := 4) dX19_run_61 rfl (by decide) rfl ?_
        refine y_Vi 131 (M := mX19_cell) (As := [(0, w 83 22), (0, 4)]) (st := [(2, 83)]) dX19_run_62 i83 rfl q2579 q2581 qs111 q386 q2582 rfl hmX19_cell rfl rfl rfl rfl rfl rfl rfl rfl (k_mono h (fun r11 w12 h => ?_))
        refine x_put 125 22 (c := 18) dX19_run_65 i83 rfl in_X19 tyX19_ok nmX19 q1314 rfl rfl rfl (Or.inl rfl) (Or.inl ⟨rfl, rfl⟩) rfl ?_
        refine x_aload_n 0 dX19_run_68 rfl rfl rfl rfl rfl ?_
        refine x_iload_n 3 dX19_run_69 rfl rfl rfl ?_
        refine x_aload_n 0 dX19_run_70 rfl rfl rfl rfl rfl ?_
        refine x_iload_n 3 dX19_run_71 rfl rfl rfl ?_
        refine x_iconst 0 (z := 0) dX19_run_72 rfl (by decide) rfl ?_
        refine y_Vi 131 (M := mX19_cell) (As := [(0, w 83 22), (0, 0)]) (st := [(0, w 83 22), (2, 83)]) dX19_run_73 i83 rfl q2579 q2581 qs111 q386 q2582 rfl hmX19_cell rfl rfl rfl rfl rfl rfl rfl rfl (k_mono h (fun r13 w14 h => ?_))
        refine y_Vv 135 (M := mX19_step) (As := [(0, w 83 22), (0, r13)]) (st := []) dX19_run_76 i83 rfl q2642 q2644 qs123 q386 q2645 rfl hmX19_step rfl rfl rfl rfl rfl rfl rfl (k_mono h (fun r15 w16 h => ?_))
        refine x_goto (-54) (q := 25) dX19_run_79 rfl ?_
        exact x_fg (fgk (fgk (fgk (fgd (fg0))))) h
      · refine x_aload_n 0 dX19_run_46 rfl rfl rfl rfl rfl ?_
        refine y_Vv 128 (M := mX19_goOn) (As := []) (st := []) dX19_run_47 i83 rfl q2571 q2573 qs109 q386 q2574 rfl hmX19_goOn rfl rfl rfl rfl rfl rfl rfl (k_mono h (fun r17 w18 h => ?_))
        refine x_goto (-25) (q := 25) dX19_run_50 rfl ?_
        exact x_fg (fgk (fgk (fgk (fgk (fg0))))) h
theorem rX19_push {d n : Nat} {w : bW} {Q : Int → bW → Prop} {X : String → bW → Prop} (hn : 143 ≤ n) (a1 : Int) (h : (0 ≤ w 83 17 ∧ w 83 17 < 16000) ∧ (Q 0 (b_up (b_up w 83 17 (b_i ((w 83 17) + 1))) 97 (w 83 17) a1))) : b_K (d + 1) mX19_push [(2, 83), (0, a1)] n w Q X := by
  have i83 := iz83 (Nat.le_trans (Nat.le_of_ble_eq_true rfl) hn)
  have i97 := iz97 (Nat.le_trans (Nat.le_of_ble_eq_true rfl) hn)
  refine k_of (by decide) rfl rfl rfl (ls := [(2, 83), (0, a1)]) rfl ?_
  refine x_aload_n 0 dX19_push_0 rfl rfl rfl rfl rfl ?_
  refine y_getF 36 16 (c := 18) (z := 97) dX19_push_1 i83 rfl in_X19 q1308 rfl rfl rfl fn_83_16 (Nat.le_trans (Nat.le_of_ble_eq_true rfl) hn) rfl ?_
  refine x_aload_n 0 dX19_push_4 rfl rfl rfl rfl rfl ?_
  refine x_dup dX19_push_5 rfl rfl ?_
  refine y_get 98 17 (c := 18) (z := w 83 17) dX19_push_6 i83 rfl in_X19 q1309 rfl rfl rfl rfl rfl ?_
  refine x_dup_x1 dX19_push_9 rfl rfl rfl ?_
  refine x_iconst 1 (z := 1) dX19_push_10 rfl (by decide) rfl ?_
  refine x_iadd dX19_push_11 rfl ?_
  refine x_put 98 17 (c := 18) dX19_push_12 i83 rfl in_X19 tyX19_ok nmX19 q1309 rfl rfl rfl (Or.inl rfl) (Or.inl ⟨rfl, rfl⟩) rfl ?_
  refine x_iload_n 1 dX19_push_15 rfl rfl rfl ?_
  obtain ⟨e1, h⟩ := h
  refine y_iast (x' := a1) dX19_push_16 ⟨16000, i97, e1⟩ rfl rfl ?_
  exact y_vret dX19_push_17 rfl h
abbrev LX19_goOn_95 (d n : Nat) (Q : Int → bW → Prop) (X : String → bW → Prop) (a1 : Int) (a2 : Int) (a4 : Int) (w : bW) : Prop := b_Y (d + 1) mX19_goOn n Q X 95 [(2, 83), (0, a1), (0, a2), (9, 0), (0, a4)] [] w
theorem rX19_goOn {d n : Nat} {w : bW} {Q : Int → bW → Prop} {X : String → bW → Prop} (hn : 143 ≤ n) (h : (0 ≤ b_i ((b_i ((w 83 21) - 4)) + 1) ∧ b_i ((b_i ((w 83 21) - 4)) + 1) < 90000) ∧ ((0 ≤ b_i ((b_i ((w 83 21) - 4)) + 2) ∧ b_i ((b_i ((w 83 21) - 4)) + 2) < 90000) ∧ ((0 ≤ b_i ((b_i ((w 83 21) - 4)) + 3) ∧ b_i ((b_i ((w 83 21) - 4)) + 3) < 90000) ∧ ((0 ≤ b_i ((w 83 21) - 4) ∧ b_i ((w 83 21) - 4) < 90000) ∧ (if w 99 (b_i ((w 83 21) - 4)) = 1 then (LX19_goOn_95 d n Q X (w 99 (b_i ((b_i ((w 83 21) - 4)) + 1))) (w 99 (b_i ((b_i ((w 83 21) - 4)) + 2))) 0 (b_up w 83 21 (b_i ((w 83 21) - 4)))) else (if w 99 (b_i ((w 83 21) - 4)) = 2 then (b_K d mX19_loop [(2, 83), (0, w 99 (b_i ((b_i ((w 83 21) - 4)) + 1)))] n (b_up w 83 21 (b_i ((w 83 21) - 4))) (fun r5 w6 => Q 0 w6) X) else (if w 99 (b_i ((w 83 21) - 4)) = 3 then (b_K d mX19_loopLeft [(2, 83), (0, w 99 (b_i ((b_i ((w 83 21) - 4)) + 1)))] n (b_up w 83 21 (b_i ((w 83 21) - 4))) (fun r7 w8 => Q 0 w8) X) else (if w 99 (b_i ((w 83 21) - 4)) = 4 then (b_K d mX19_each [(2, 83), (0, w 99 (b_i ((b_i ((w 83 21) - 4)) + 1))), (0, w 99 (b_i ((b_i ((w 83 21) - 4)) + 2))), (0, w 99 (b_i ((b_i ((w 83 21) - 4)) + 3)))] n (b_up w 83 21 (b_i ((w 83 21) - 4))) (fun r9 w10 => Q 0 w10) X) else (if w 99 (b_i ((w 83 21) - 4)) = 5 then (b_K d mX19_pop [(2, 83)] n (b_up (b_up w 83 21 (b_i ((w 83 21) - 4))) 83 19 (b_i ((w 83 19) + 1))) (fun r11 w12 => (0 ≤ w 83 19 ∧ w 83 19 < 32000) ∧ (b_K d mX19_mapped [(2, 83), (0, w 99 (b_i ((b_i ((w 83 21) - 4)) + 1))), (0, w 99 (b_i ((b_i ((w 83 21) - 4)) + 2))), (0, w 99 (b_i ((b_i ((w 83 21) - 4)) + 3)))] n (b_up w12 98 (w 83 19) r11) (fun r14 w15 => Q 0 w15) X)) X) else (if w 99 (b_i ((w 83 21) - 4)) = 6 then (b_K d mX19_pop [(2, 83)] n (b_up w 83 21 (b_i ((w 83 21) - 4))) (fun r16 w17 => b_K d mX8_wrap [(2, 27), (0, 4), (0, r16)] n w17 (fun r18 w19 => b_K d mX19_push [(2, 83), (0, r18)] n w19 (fun r20 w21 => Q 0 (b_up w21 83 22 (w 99 (b_i ((b_i ((w 83 21) - 4)) + 1))))) X) X) X) else ((Q 0 (b_up (b_up w 83 21 (b_i ((w 83 21) - 4))) 83 22 (w 99 (b_i ((b_i ((w 83 21) - 4)) + 1)))))))))))))))) : b_K (d + 1) mX19_goOn [(2, 83)] n w Q X := by
  have i27 := iz27 (Nat.le_trans (Nat.le_of_ble_eq_true rfl) hn)
  have i83 := iz83 (Nat.le_trans (Nat.le_of_ble_eq_true rfl) hn)
  have i98 := iz98 (Nat.le_trans (Nat.le_of_ble_eq_true rfl) hn)
  have i99 := iz99 (Nat.le_trans (Nat.le_of_ble_eq_true rfl) hn)
  refine k_of (by decide) rfl rfl rfl (ls := [(2, 83), (9, 0), (9, 0), (9, 0), (9, 0)]) rfl ?_
  refine x_aload_n 0 dX19_goOn_0 rfl rfl rfl rfl rfl ?_
  refine x_dup dX19_goOn_1 rfl rfl ?_
  refine y_get 111 21 (c := 18) (z := w 83 21) dX19_goOn_2 i83 rfl in_X19 q1313 rfl rfl rfl rfl rfl ?_
  refine x_iconst 4 (z := 4) dX19_goOn_5 rfl (by decide) rfl ?_
  refine x_isub dX19_goOn_6 rfl ?_
  refine x_put 111 21 (c := 18) dX19_goOn_7 i83 rfl in_X19 tyX19_ok nmX19 q1313 rfl rfl rfl (Or.inl rfl) (Or.inl ⟨rfl, rfl⟩) rfl ?_
  refine x_aload_n 0 dX19_goOn_10 rfl rfl rfl rfl rfl ?_
  refine y_getF 44 20 (c := 18) (z := 99) dX19_goOn_11 i83 rfl in_X19 q1312 rfl rfl rfl fn_83_20 (Nat.le_trans (Nat.le_of_ble_eq_true rfl) hn) rfl ?_
  refine x_aload_n 0 dX19_goOn_14 rfl rfl rfl rfl rfl ?_
  refine y_get 111 21 (c := 18) (z := b_i ((w 83 21) - 4)) dX19_goOn_15 i83 rfl in_X19 q1313 rfl rfl rfl rfl rfl ?_
  refine x_iconst 1 (z := 1) dX19_goOn_18 rfl (by decide) rfl ?_
  refine x_iadd dX19_goOn_19 rfl ?_
  obtain ⟨e1, h⟩ := h
  refine y_iald (z := w 99 (b_i ((b_i ((w 83 21) - 4)) + 1))) dX19_goOn_20 ⟨90000, i99, e1⟩ rfl rfl ?_
  refine x_istore_n 1 (ls' := [(2, 83), (0, w 99 (b_i ((b_i ((w 83 21) - 4)) + 1))), (9, 0), (9, 0), (9, 0)]) dX19_goOn_21 rfl rfl rfl rfl ?_
  refine x_aload_n 0 dX19_goOn_22 rfl rfl rfl rfl rfl ?_
  refine y_getF 44 20 (c := 18) (z := 99) dX19_goOn_23 i83 rfl in_X19 q1312 rfl rfl rfl fn_83_20 (Nat.le_trans (Nat.le_of_ble_eq_true rfl) hn) rfl ?_
  refine x_aload_n 0 dX19_goOn_26 rfl rfl rfl rfl rfl ?_
  refine y_get 111 21 (c := 18) (z := b_i ((w 83 21) - 4)) dX19_goOn_27 i83 rfl in_X19 q1313 rfl rfl rfl rfl rfl ?_
  refine x_iconst 2 (z := 2) dX19_goOn_30 rfl (by decide) rfl ?_
  refine x_iadd dX19_goOn_31 rfl ?_
  obtain ⟨e2, h⟩ := h
  refine y_iald (z := w 99 (b_i ((b_i ((w 83 21) - 4)) + 2))) dX19_goOn_32 ⟨90000, i99, e2⟩ rfl rfl ?_
  refine x_istore_n 2 (ls' := [(2, 83), (0, w 99 (b_i ((b_i ((w 83 21) - 4)) + 1))), (0, w 99 (b_i ((b_i ((w 83 21) - 4)) + 2))), (9, 0), (9, 0)]) dX19_goOn_33 rfl rfl rfl rfl ?_
  refine x_aload_n 0 dX19_goOn_34 rfl rfl rfl rfl rfl ?_
  refine y_getF 44 20 (c := 18) (z := 99) dX19_goOn_35 i83 rfl in_X19 q1312 rfl rfl rfl fn_83_20 (Nat.le_trans (Nat.le_of_ble_eq_true rfl) hn) rfl ?_
  refine x_aload_n 0 dX19_goOn_38 rfl rfl rfl rfl rfl ?_
  refine y_get 111 21 (c := 18) (z := b_i ((w 83 21) - 4)) dX19_goOn_39 i83 rfl in_X19 q1313 rfl rfl rfl rfl rfl ?_
  refine x_iconst 3 (z := 3) dX19_goOn_42 rfl (by decide) rfl ?_
  refine x_iadd dX19_goOn_43 rfl ?_
  obtain ⟨e3, h⟩ := h
  refine y_iald (z := w 99 (b_i ((b_i ((w 83 21) - 4)) + 3))) dX19_goOn_44 ⟨90000, i99, e3⟩ rfl rfl ?_
  refine x_istore_n 3 (ls' := [(2, 83), (0, w 99 (b_i ((b_i ((w 83 21) - 4)) + 1))), (0, w 99 (b_i ((b_i ((w 83 21) - 4)) + 2))), (0, w 99 (b_i ((b_i ((w 83 21) - 4)) + 3))), (9, 0)]) dX19_goOn_45 rfl rfl rfl rfl ?_
  refine x_aload_n 0 dX19_goOn_46 rfl rfl rfl rfl rfl ?_
  refine y_getF 44 20 (c := 18) (z := 99) dX19_goOn_47 i83 rfl in_X19 q1312 rfl rfl rfl fn_83_20 (Nat.le_trans (Nat.le_of_ble_eq_true rfl) hn) rfl ?_
  refine x_aload_n 0 dX19_goOn_50 rfl rfl rfl rfl rfl ?_
  refine y_get 111 21 (c := 18) (z := b_i ((w 83 21) - 4)) dX19_goOn_51 i83 rfl in_X19 q1313 rfl rfl rfl rfl rfl ?_
  obtain ⟨e4, h⟩ := h
  refine y_iald (z := w 99 (b_i ((w 83 21) - 4))) dX19_goOn_54 ⟨90000, i99, e4⟩ rfl rfl ?_
  refine b_itc h (fun hc h => ?_) (fun hn0 h => ?_)
  · have key : b_Y (d + 1) mX19_goOn n Q X 92 [(2, 83), (0, w 99 (b_i ((b_i ((w 83 21) - 4)) + 1))), (0, w 99 (b_i ((b_i ((w 83 21) - 4)) + 2))), (0, w 99 (b_i ((b_i ((w 83 21) - 4)) + 3))), (9, 0)] [] (b_up w 83 21 (b_i ((w 83 21) - 4))) := by
      refine x_iconst 0 (z := 0) dX19_goOn_92 rfl (by decide) rfl ?_
      refine x_istore 4 (ls' := [(2, 83), (0, w 99 (b_i ((b_i ((w 83 21) - 4)) + 1))), (0, w 99 (b_i ((b_i ((w 83 21) - 4)) + 2))), (0, w 99 (b_i ((b_i ((w 83 21) - 4)) + 3))), (0, 0)]) dX19_goOn_93 rfl rfl rfl ?_
      exact x_fg (fgk (fgk (fgk (fgd (fgk (fg0)))))) h
    have e := hc
    exact x_tsI (off := 37) (t := 92) dX19_goOn_55 (by rw [e]; decide) (by rw [e]; decide) (by rw [e]; rfl) rfl key
  · refine b_itc h (fun hc h => ?_) (fun hn1 h => ?_)
    · have key : b_Y (d + 1) mX19_goOn n Q X 135 [(2, 83), (0, w 99 (b_i ((b_i ((w 83 21) - 4)) + 1))), (0, w 99 (b_i ((b_i ((w 83 21) - 4)) + 2))), (0, w 99 (b_i ((b_i ((w 83 21) - 4)) + 3))), (9, 0)] [] (b_up w 83 21 (b_i ((w 83 21) - 4))) := by
        refine x_aload_n 0 dX19_goOn_135 rfl rfl rfl rfl rfl ?_
        refine x_iload_n 1 dX19_goOn_136 rfl rfl rfl ?_
        refine y_Vv 143 (M := mX19_loop) (As := [(0, w 99 (b_i ((b_i ((w 83 21) - 4)) + 1)))]) (st := []) dX19_goOn_137 i83 rfl q2575 q2577 qs110 q386 q2578 rfl hmX19_loop rfl rfl rfl rfl rfl rfl rfl (k_mono h (fun r5 w6 h => ?_))
        refine x_goto 80 (q := 220) dX19_goOn_140 rfl ?_
        exact y_vret dX19_goOn_220 rfl h
      have e := hc
      exact x_tsI (off := 80) (t := 135) dX19_goOn_55 (by rw [e]; decide) (by rw [e]; decide) (by rw [e]; rfl) rfl key
    · refine b_itc h (fun hc h => ?_) (fun hn2 h => ?_)
      · have key : b_Y (d + 1) mX19_goOn n Q X 143 [(2, 83), (0, w 99 (b_i ((b_i ((w 83 21) - 4)) + 1))), (0, w 99 (b_i ((b_i ((w 83 21) - 4)) + 2))), (0, w 99 (b_i ((b_i ((w 83 21) - 4)) + 3))), (9, 0)] [] (b_up w 83 21 (b_i ((w 83 21) - 4))) := by
          refine x_aload_n 0 dX19_goOn_143 rfl rfl rfl rfl rfl ?_
          refine x_iload_n 1 dX19_goOn_144 rfl rfl rfl ?_
          refine y_Vv 146 (M := mX19_loopLeft) (As := [(0, w 99 (b_i ((b_i ((w 83 21) - 4)) + 1)))]) (st := []) dX19_goOn_145 i83 rfl q2591 q2593 qs114 q386 q2594 rfl hmX19_loopLeft rfl rfl rfl rfl rfl rfl rfl (k_mono h (fun r7 w8 h => ?_))
          refine x_goto 72 (q := 220) dX19_goOn_148 rfl ?_
          exact y_vret dX19_goOn_220 rfl h
        have e := hc
        exact x_tsI (off := 88) (t := 143) dX19_goOn_55 (by rw [e]; decide) (by rw [e]; decide) (by rw [e]; rfl) rfl key
      · refine b_itc h (fun hc h => ?_) (fun hn3 h => ?_)
        · have key : b_Y (d + 1) mX19_goOn n Q X 151 [(2, 83), (0, w 99 (b_i ((b_i ((w 83 21) - 4)) + 1))), (0, w 99 (b_i ((b_i ((w 83 21) - 4)) + 2))), (0, w 99 (b_i ((b_i ((w 83 21) - 4)) + 3))), (9, 0)] [] (b_up w 83 21 (b_i ((w 83 21) - 4))) := by
            refine x_aload_n 0 dX19_goOn_151 rfl rfl rfl rfl rfl ?_
            refine x_iload_n 1 dX19_goOn_152 rfl rfl rfl ?_
            refine x_iload_n 2 dX19_goOn_153 rfl rfl rfl ?_
            refine x_iload_n 3 dX19_goOn_154 rfl rfl rfl ?_
            refine y_Vv 149 (M := mX19_each) (As := [(0, w 99 (b_i ((b_i ((w 83 21) - 4)) + 1))), (0, w 99 (b_i ((b_i ((w 83 21) - 4)) + 2))), (0, w 99 (b_i ((b_i ((w 83 21) - 4)) + 3)))]) (st := []) dX19_goOn_155 i83 rfl q2597 q2599 qs115 q386 q2600 rfl hmX19_each rfl rfl rfl rfl rfl rfl rfl (k_mono h (fun r9 w10 h => ?_))
            refine x_goto 62 (q := 220) dX19_goOn_158 rfl ?_
            exact y_vret dX19_goOn_220 rfl h
          have e := hc
          exact x_tsI (off := 96) (t := 151) dX19_goOn_55 (by rw [e]; decide) (by rw [e]; decide) (by rw [e]; rfl) rfl key
        · refine b_itc h (fun hc h => ?_) (fun hn4 h => ?_)
          · have key : b_Y (d + 1) mX19_goOn n Q X 161 [(2, 83), (0, w 99 (b_i ((b_i ((w 83 21) - 4)) + 1))), (0, w 99 (b_i ((b_i ((w 83 21) - 4)) + 2))), (0, w 99 (b_i ((b_i ((w 83 21) - 4)) + 3))), (9, 0)] [] (b_up w 83 21 (b_i ((w 83 21) - 4))) := by
              refine x_aload_n 0 dX19_goOn_161 rfl rfl rfl rfl rfl ?_
              refine y_getF 40 18 (c := 18) (z := 98) dX19_goOn_162 i83 rfl in_X19 q1310 rfl rfl rfl fn_83_18 (Nat.le_trans (Nat.le_of_ble_eq_true rfl) hn) rfl ?_
              refine x_aload_n 0 dX19_goOn_165 rfl rfl rfl rfl rfl ?_
              refine x_dup dX19_goOn_166 rfl rfl ?_
              refine y_get 119 19 (c := 18) (z := w 83 19) dX19_goOn_167 i83 rfl in_X19 q1311 rfl rfl rfl rfl rfl ?_
              refine x_dup_x1 dX19_goOn_170 rfl rfl rfl ?_
              refine x_iconst 1 (z := 1) dX19_goOn_171 rfl (by decide) rfl ?_
              refine x_iadd dX19_goOn_172 rfl ?_
              refine x_put 119 19 (c := 18) dX19_goOn_173 i83 rfl in_X19 tyX19_ok nmX19 q1311 rfl rfl rfl (Or.inl rfl) (Or.inl ⟨rfl, rfl⟩) rfl ?_
              refine x_aload_n 0 dX19_goOn_176 rfl rfl rfl rfl rfl ?_
              refine y_Vi 139 (M := mX19_pop) (As := []) (st := [(0, w 83 19), (2, 98)]) dX19_goOn_177 i83 rfl q2583 q2585 qs112 q386 q2586 rfl hmX19_pop rfl rfl rfl rfl rfl rfl rfl rfl (k_mono h (fun r11 w12 h => ?_))
              obtain ⟨e13, h⟩ := h
              refine y_iast (x' := r11) dX19_goOn_180 ⟨32000, i98, e13⟩ rfl rfl ?_
              refine x_aload_n 0 dX19_goOn_181 rfl rfl rfl rfl rfl ?_
              refine x_iload_n 1 dX19_goOn_182 rfl rfl rfl ?_
              refine x_iload_n 2 dX19_goOn_183 rfl rfl rfl ?_
              refine x_iload_n 3 dX19_goOn_184 rfl rfl rfl ?_
              refine y_Vv 153 (M := mX19_mapped) (As := [(0, w 99 (b_i ((b_i ((w 83 21) - 4)) + 1))), (0, w 99 (b_i ((b_i ((w 83 21) - 4)) + 2))), (0, w 99 (b_i ((b_i ((w 83 21) - 4)) + 3)))]) (st := []) dX19_goOn_185 i83 rfl q2627 q2629 qs120 q386 q2630 rfl hmX19_mapped rfl rfl rfl rfl rfl rfl rfl (k_mono h (fun r14 w15 h => ?_))
              refine x_goto 32 (q := 220) dX19_goOn_188 rfl ?_
              exact y_vret dX19_goOn_220 rfl h
            have e := hc
            exact x_tsI (off := 106) (t := 161) dX19_goOn_55 (by rw [e]; decide) (by rw [e]; decide) (by rw [e]; rfl) rfl key
          · refine b_itc h (fun hc h => ?_) (fun hn5 h => ?_)
            · have key : b_Y (d + 1) mX19_goOn n Q X 191 [(2, 83), (0, w 99 (b_i ((b_i ((w 83 21) - 4)) + 1))), (0, w 99 (b_i ((b_i ((w 83 21) - 4)) + 2))), (0, w 99 (b_i ((b_i ((w 83 21) - 4)) + 3))), (9, 0)] [] (b_up w 83 21 (b_i ((w 83 21) - 4))) := by
                refine x_aload_n 0 dX19_goOn_191 rfl rfl rfl rfl rfl ?_
                refine x_aload_n 0 dX19_goOn_192 rfl rfl rfl rfl rfl ?_
                refine y_getF 54 0 (c := 18) (z := 27) dX19_goOn_193 i83 rfl in_X19 q1292 rfl rfl rfl fn_83_0 (Nat.le_trans (Nat.le_of_ble_eq_true rfl) hn) rfl ?_
                refine x_iconst 4 (z := 4) dX19_goOn_196 rfl (by decide) rfl ?_
                refine x_aload_n 0 dX19_goOn_197 rfl rfl rfl rfl rfl ?_
                refine y_Vi 139 (M := mX19_pop) (As := []) (st := [(0, 4), (2, 27), (2, 83)]) dX19_goOn_198 i83 rfl q2583 q2585 qs112 q386 q2586 rfl hmX19_pop rfl rfl rfl rfl rfl rfl rfl rfl (k_mono h (fun r16 w17 h => ?_))
                refine y_Vi 156 (M := mX8_wrap) (As := [(0, 4), (0, r16)]) (st := [(2, 83)]) dX19_goOn_201 i27 rfl q2641 q2024 q2025 q375 q2026 rfl hmX8_wrap rfl rfl rfl rfl rfl rfl rfl rfl (k_mono h (fun r18 w19 h => ?_))
                refine y_Vv 122 (M := mX19_push) (As := [(0, r18)]) (st := []) dX19_goOn_204 i83 rfl q2567 q2569 qs108 q386 q2570 rfl hmX19_push rfl rfl rfl rfl rfl rfl rfl (k_mono h (fun r20 w21 h => ?_))
                refine x_aload_n 0 dX19_goOn_207 rfl rfl rfl rfl rfl ?_
                refine x_iload_n 1 dX19_goOn_208 rfl rfl rfl ?_
                refine x_put 125 22 (c := 18) dX19_goOn_209 i83 rfl in_X19 tyX19_ok nmX19 q1314 rfl rfl rfl (Or.inl rfl) (Or.inl ⟨rfl, rfl⟩) rfl ?_
                refine x_goto 8 (q := 220) dX19_goOn_212 rfl ?_
                exact y_vret dX19_goOn_220 rfl h
              have e := hc
              exact x_tsI (off := 136) (t := 191) dX19_goOn_55 (by rw [e]; decide) (by rw [e]; decide) (by rw [e]; rfl) rfl key
            · have key : b_Y (d + 1) mX19_goOn n Q X 215 [(2, 83), (0, w 99 (b_i ((b_i ((w 83 21) - 4)) + 1))), (0, w 99 (b_i ((b_i ((w 83 21) - 4)) + 2))), (0, w 99 (b_i ((b_i ((w 83 21) - 4)) + 3))), (9, 0)] [] (b_up w 83 21 (b_i ((w 83 21) - 4))) := by
                refine x_aload_n 0 dX19_goOn_215 rfl rfl rfl rfl rfl ?_
                refine x_iload_n 1 dX19_goOn_216 rfl rfl rfl ?_
                refine x_put 125 22 (c := 18) dX19_goOn_217 i83 rfl in_X19 tyX19_ok nmX19 q1314 rfl rfl rfl (Or.inl rfl) (Or.inl ⟨rfl, rfl⟩) rfl ?_
                exact y_vret dX19_goOn_220 rfl h
              exact x_tsO (t := 215) dX19_goOn_55 (by omega) rfl key
theorem sX19_goOn_95 {d n : Nat} {w : bW} {Q : Int → bW → Prop} {X : String → bW → Prop} (hn : 143 ≤ n) (a1 : Int) (a2 : Int) (a4 : Int) (h : if a2 ≤ a4 then (Q 0 (b_up w 83 22 a1)) else ((0 ≤ b_i ((w 83 19) - 1) ∧ b_i ((w 83 19) - 1) < 32000) ∧ (b_K d mX19_push [(2, 83), (0, w 98 (b_i ((w 83 19) - 1)))] n (b_up w 83 19 (b_i ((w 83 19) - 1))) (fun r2 w3 => LX19_goOn_95 d n Q X a1 a2 (b_i (a4 + 1)) w3) X))) : LX19_goOn_95 d n Q X a1 a2 a4 w := by
  have i83 := iz83 (Nat.le_trans (Nat.le_of_ble_eq_true rfl) hn)
  have i98 := iz98 (Nat.le_trans (Nat.le_of_ble_eq_true rfl) hn)
  refine x_iload 4 dX19_goOn_95 rfl rfl ?_
  refine x_iload_n 2 dX19_goOn_97 rfl rfl rfl ?_
  refine x_icmp_ge (t := 127) 29 dX19_goOn_98 rfl rfl (b_ite h (fun hc h => ?_) (fun hc h => ?_))
  · refine x_aload_n 0 dX19_goOn_127 rfl rfl rfl rfl rfl ?_
    refine x_iload_n 1 dX19_goOn_128 rfl rfl rfl ?_
    refine x_put 125 22 (c := 18) dX19_goOn_129 i83 rfl in_X19 tyX19_ok nmX19 q1314 rfl rfl rfl (Or.inl rfl) (Or.inl ⟨rfl, rfl⟩) rfl ?_
    refine x_goto 88 (q := 220) dX19_goOn_132 rfl ?_
    exact y_vret dX19_goOn_220 rfl h
  · refine x_aload_n 0 dX19_goOn_101 rfl rfl rfl rfl rfl ?_
    refine x_aload_n 0 dX19_goOn_102 rfl rfl rfl rfl rfl ?_
    refine y_getF 40 18 (c := 18) (z := 98) dX19_goOn_103 i83 rfl in_X19 q1310 rfl rfl rfl fn_83_18 (Nat.le_trans (Nat.le_of_ble_eq_true rfl) hn) rfl ?_
    refine x_aload_n 0 dX19_goOn_106 rfl rfl rfl rfl rfl ?_
    refine x_dup dX19_goOn_107 rfl rfl ?_
    refine y_get 119 19 (c := 18) (z := w 83 19) dX19_goOn_108 i83 rfl in_X19 q1311 rfl rfl rfl rfl rfl ?_
    refine x_iconst 1 (z := 1) dX19_goOn_111 rfl (by decide) rfl ?_
    refine x_isub dX19_goOn_112 rfl ?_
    refine x_dup_x1 dX19_goOn_113 rfl rfl rfl ?_
    refine x_put 119 19 (c := 18) dX19_goOn_114 i83 rfl in_X19 tyX19_ok nmX19 q1311 rfl rfl rfl (Or.inl rfl) (Or.inl ⟨rfl, rfl⟩) rfl ?_
    obtain ⟨e1, h⟩ := h
    refine y_iald (z := w 98 (b_i ((w 83 19) - 1))) dX19_goOn_117 ⟨32000, i98, e1⟩ rfl rfl ?_
    refine y_Vv 122 (M := mX19_push) (As := [(0, w 98 (b_i ((w 83 19) - 1)))]) (st := []) dX19_goOn_118 i83 rfl q2567 q2569 qs108 q386 q2570 rfl hmX19_push rfl rfl rfl rfl rfl rfl rfl (k_mono h (fun r2 w3 h => ?_))
    refine x_iinc 4 1 (ls' := [(2, 83), (0, a1), (0, a2), (9, 0), (0, b_i (a4 + 1))]) dX19_goOn_121 rfl rfl rfl rfl ?_
    refine x_goto (-29) (q := 95) dX19_goOn_124 rfl ?_
    exact x_fg (fgk (fgk (fgk (fgk (fgk (fg0)))))) h
theorem rX19_loop {d n : Nat} {w : bW} {Q : Int → bW → Prop} {X : String → bW → Prop} (hn : 84 ≤ n) (a1 : Int) (h : b_K d mX19_cell [(2, 83), (0, a1), (0, 4)] n w (fun r1 w2 => b_K d mX19_pop [(2, 83)] n (b_up w2 83 22 r1) (fun r3 w4 => if r3 ≠ 6 then (Q 0 w4) else (b_K d mX19_frame [(2, 83), (0, 2), (0, a1), (0, 0), (0, 0)] n w4 (fun r5 w6 => b_K d mX19_cell [(2, 83), (0, a1), (0, 1)] n w6 (fun r7 w8 => Q 0 (b_up w8 83 22 r7)) X) X)) X) X) : b_K (d + 1) mX19_loop [(2, 83), (0, a1)] n w Q X := by
  have i83 := iz83 (Nat.le_trans (Nat.le_of_ble_eq_true rfl) hn)
  refine k_of (by decide) rfl rfl rfl (ls := [(2, 83), (0, a1)]) rfl ?_
  refine x_aload_n 0 dX19_loop_0 rfl rfl rfl rfl rfl ?_
  refine x_aload_n 0 dX19_loop_1 rfl rfl rfl rfl rfl ?_
  refine x_iload_n 1 dX19_loop_2 rfl rfl rfl ?_
  refine x_iconst 4 (z := 4) dX19_loop_3 rfl (by decide) rfl ?_
  refine y_Vi 131 (M := mX19_cell) (As := [(0, a1), (0, 4)]) (st := [(2, 83)]) dX19_loop_4 i83 rfl q2579 q2581 qs111 q386 q2582 rfl hmX19_cell rfl rfl rfl rfl rfl rfl rfl rfl (k_mono h (fun r1 w2 h => ?_))
  refine x_put 125 22 (c := 18) dX19_loop_7 i83 rfl in_X19 tyX19_ok nmX19 q1314 rfl rfl rfl (Or.inl rfl) (Or.inl ⟨rfl, rfl⟩) rfl ?_
  refine x_aload_n 0 dX19_loop_10 rfl rfl rfl rfl rfl ?_
  refine y_Vi 139 (M := mX19_pop) (As := []) (st := []) dX19_loop_11 i83 rfl q2583 q2585 qs112 q386 q2586 rfl hmX19_pop rfl rfl rfl rfl rfl rfl rfl rfl (k_mono h (fun r3 w4 h => ?_))
  refine x_bipush 6 (z := 6) dX19_loop_14 rfl (by decide) rfl ?_
  refine x_icmp_ne (t := 37) 21 dX19_loop_16 rfl rfl (b_ite h (fun hc h => ?_) (fun hc h => ?_))
  · exact y_vret dX19_loop_37 rfl h
  · refine x_aload_n 0 dX19_loop_19 rfl rfl rfl rfl rfl ?_
    refine x_iconst 2 (z := 2) dX19_loop_20 rfl (by decide) rfl ?_
    refine x_iload_n 1 dX19_loop_21 rfl rfl rfl ?_
    refine x_iconst 0 (z := 0) dX19_loop_22 rfl (by decide) rfl ?_
    refine x_iconst 0 (z := 0) dX19_loop_23 rfl (by decide) rfl ?_
    refine y_Vv 159 (M := mX19_frame) (As := [(0, 2), (0, a1), (0, 0), (0, 0)]) (st := []) dX19_loop_24 i83 rfl q2587 q2589 qs113 q386 q2590 rfl hmX19_frame rfl rfl rfl rfl rfl rfl rfl (k_mono h (fun r5 w6 h => ?_))
    refine x_aload_n 0 dX19_loop_27 rfl rfl rfl rfl rfl ?_
    refine x_aload_n 0 dX19_loop_28 rfl rfl rfl rfl rfl ?_
    refine x_iload_n 1 dX19_loop_29 rfl rfl rfl ?_
    refine x_iconst 1 (z := 1) dX19_loop_30 rfl (by decide) rfl ?_
    refine y_Vi 131 (M := mX19_cell) (As := [(0, a1), (0, 1)]) (st := [(2, 83)]) dX19_loop_31 i83 rfl q2579 q2581 qs111 q386 q2582 rfl hmX19_cell rfl rfl rfl rfl rfl rfl rfl rfl (k_mono h (fun r7 w8 h => ?_))
    refine x_put 125 22 (c := 18) dX19_loop_34 i83 rfl in_X19 tyX19_ok nmX19 q1314 rfl rfl rfl (Or.inl rfl) (Or.inl ⟨rfl, rfl⟩) rfl ?_
    exact y_vret dX19_loop_37 rfl h
theorem rX19_cell {d n : Nat} {w : bW} {Q : Int → bW → Prop} {X : String → bW → Prop} (hn : 143 ≤ n) (a1 : Int) (a2 : Int) (h : (0 ≤ b_i (a1 + a2) ∧ b_i (a1 + a2) < 160000) ∧ (Q (w 64 (b_i (a1 + a2))) w)) : b_K (d + 1) mX19_cell [(2, 83), (0, a1), (0, a2)] n w Q X := by
  have i53 := iz53 (Nat.le_trans (Nat.le_of_ble_eq_true rfl) hn)
  have i64 := iz64 (Nat.le_trans (Nat.le_of_ble_eq_true rfl) hn)
  have i83 := iz83 (Nat.le_trans (Nat.le_of_ble_eq_true rfl) hn)
  refine k_of (by decide) rfl rfl rfl (ls := [(2, 83), (0, a1), (0, a2)]) rfl ?_
  refine x_aload_n 0 dX19_cell_0 rfl rfl rfl rfl rfl ?_
  refine y_getF 62 2 (c := 18) (z := 53) dX19_cell_1 i83 rfl in_X19 q1294 rfl rfl rfl fn_83_2 (Nat.le_trans (Nat.le_of_ble_eq_true rfl) hn) rfl ?_
  refine y_getF 114 12 (c := 14) (z := 64) dX19_cell_4 i53 rfl in_X15 q1056 rfl rfl rfl fn_53_12 (Nat.le_trans (Nat.le_of_ble_eq_true rfl) hn) rfl ?_
  refine x_iload_n 1 dX19_cell_7 rfl rfl rfl ?_
  refine x_iload_n 2 dX19_cell_8 rfl rfl rfl ?_
  refine x_iadd dX19_cell_9 rfl ?_
  obtain ⟨e1, h⟩ := h
  refine y_iald (z := w 64 (b_i (a1 + a2))) dX19_cell_10 ⟨160000, i64, e1⟩ rfl rfl ?_
  exact y_iret dX19_cell_11 rfl h
theorem rX19_pop {d n : Nat} {w : bW} {Q : Int → bW → Prop} {X : String → bW → Prop} (hn : 143 ≤ n) (h : (0 ≤ b_i ((w 83 17) - 1) ∧ b_i ((w 83 17) - 1) < 16000) ∧ (Q (w 97 (b_i ((w 83 17) - 1))) (b_up w 83 17 (b_i ((w 83 17) - 1))))) : b_K (d + 1) mX19_pop [(2, 83)] n w Q X := by
  have i83 := iz83 (Nat.le_trans (Nat.le_of_ble_eq_true rfl) hn)
  have i97 := iz97 (Nat.le_trans (Nat.le_of_ble_eq_true rfl) hn)
  refine k_of (by decide) rfl rfl rfl (ls := [(2, 83)]) rfl ?_
  refine x_aload_n 0 dX19_pop_0 rfl rfl rfl rfl rfl ?_
  refine y_getF 36 16 (c := 18) (z := 97) dX19_pop_1 i83 rfl in_X19 q1308 rfl rfl rfl fn_83_16 (Nat.le_trans (Nat.le_of_ble_eq_true rfl) hn) rfl ?_
  refine x_aload_n 0 dX19_pop_4 rfl rfl rfl rfl rfl ?_
  refine x_dup dX19_pop_5 rfl rfl ?_
  refine y_get 98 17 (c := 18) (z := w 83 17) dX19_pop_6 i83 rfl in_X19 q1309 rfl rfl rfl rfl rfl ?_
  refine x_iconst 1 (z := 1) dX19_pop_9 rfl (by decide) rfl ?_
  refine x_isub dX19_pop_10 rfl ?_
  refine x_dup_x1 dX19_pop_11 rfl rfl rfl ?_
  refine x_put 98 17 (c := 18) dX19_pop_12 i83 rfl in_X19 tyX19_ok nmX19 q1309 rfl rfl rfl (Or.inl rfl) (Or.inl ⟨rfl, rfl⟩) rfl ?_
  obtain ⟨e1, h⟩ := h
  refine y_iald (z := w 97 (b_i ((w 83 17) - 1))) dX19_pop_15 ⟨16000, i97, e1⟩ rfl rfl ?_
  exact y_iret dX19_pop_16 rfl h
theorem rX19_frame {d n : Nat} {w : bW} {Q : Int → bW → Prop} {X : String → bW → Prop} (hn : 143 ≤ n) (a1 : Int) (a2 : Int) (a3 : Int) (a4 : Int) (h : (0 ≤ w 83 21 ∧ w 83 21 < 90000) ∧ ((0 ≤ b_i ((w 83 21) + 1) ∧ b_i ((w 83 21) + 1) < 90000) ∧ ((0 ≤ b_i ((w 83 21) + 2) ∧ b_i ((w 83 21) + 2) < 90000) ∧ ((0 ≤ b_i ((w 83 21) + 3) ∧ b_i ((w 83 21) + 3) < 90000) ∧ (Q 0 (b_up (b_up (b_up (b_up (b_up w 99 (w 83 21) a1) 99 (b_i ((w 83 21) + 1)) a2) 99 (b_i ((w 83 21) + 2)) a3) 99 (b_i ((w 83 21) + 3)) a4) 83 21 (b_i ((w 83 21) + 4)))))))) : b_K (d + 1) mX19_frame [(2, 83), (0, a1), (0, a2), (0, a3), (0, a4)] n w Q X := by
  have i83 := iz83 (Nat.le_trans (Nat.le_of_ble_eq_true rfl) hn)
  have i99 := iz99 (Nat.le_trans (Nat.le_of_ble_eq_true rfl) hn)
  refine k_of (by decide) rfl rfl rfl (ls := [(2, 83), (0, a1), (0, a2), (0, a3), (0, a4)]) rfl ?_
  refine x_aload_n 0 dX19_frame_0 rfl rfl rfl rfl rfl ?_
  refine y_getF 44 20 (c := 18) (z := 99) dX19_frame_1 i83 rfl in_X19 q1312 rfl rfl rfl fn_83_20 (Nat.le_trans (Nat.le_of_ble_eq_true rfl) hn) rfl ?_
  refine x_aload_n 0 dX19_frame_4 rfl rfl rfl rfl rfl ?_
  refine y_get 111 21 (c := 18) (z := w 83 21) dX19_frame_5 i83 rfl in_X19 q1313 rfl rfl rfl rfl rfl ?_
  refine x_iload_n 1 dX19_frame_8 rfl rfl rfl ?_
  obtain ⟨e1, h⟩ := h
  refine y_iast (x' := a1) dX19_frame_9 ⟨90000, i99, e1⟩ rfl rfl ?_
  refine x_aload_n 0 dX19_frame_10 rfl rfl rfl rfl rfl ?_
  refine y_getF 44 20 (c := 18) (z := 99) dX19_frame_11 i83 rfl in_X19 q1312 rfl rfl rfl fn_83_20 (Nat.le_trans (Nat.le_of_ble_eq_true rfl) hn) rfl ?_
  refine x_aload_n 0 dX19_frame_14 rfl rfl rfl rfl rfl ?_
  refine y_get 111 21 (c := 18) (z := w 83 21) dX19_frame_15 i83 rfl in_X19 q1313 rfl rfl rfl rfl rfl ?_
  refine x_iconst 1 (z := 1) dX19_frame_18 rfl (by decide) rfl ?_
  refine x_iadd dX19_frame_19 rfl ?_
  refine x_iload_n 2 dX19_frame_20 rfl rfl rfl ?_
  obtain ⟨e2, h⟩ := h
  refine y_iast (x' := a2) dX19_frame_21 ⟨90000, i99, e2⟩ rfl rfl ?_
  refine x_aload_n 0 dX19_frame_22 rfl rfl rfl rfl rfl ?_
  refine y_getF 44 20 (c := 18) (z := 99) dX19_frame_23 i83 rfl in_X19 q1312 rfl rfl rfl fn_83_20 (Nat.le_trans (Nat.le_of_ble_eq_true rfl) hn) rfl ?_
  refine x_aload_n 0 dX19_frame_26 rfl rfl rfl rfl rfl ?_
  refine y_get 111 21 (c := 18) (z := w 83 21) dX19_frame_27 i83 rfl in_X19 q1313 rfl rfl rfl rfl rfl ?_
  refine x_iconst 2 (z := 2) dX19_frame_30 rfl (by decide) rfl ?_
  refine x_iadd dX19_frame_31 rfl ?_
  refine x_iload_n 3 dX19_frame_32 rfl rfl rfl ?_
  obtain ⟨e3, h⟩ := h
  refine y_iast (x' := a3) dX19_frame_33 ⟨90000, i99, e3⟩ rfl rfl ?_
  refine x_aload_n 0 dX19_frame_34 rfl rfl rfl rfl rfl ?_
  refine y_getF 44 20 (c := 18) (z := 99) dX19_frame_35 i83 rfl in_X19 q1312 rfl rfl rfl fn_83_20 (Nat.le_trans (Nat.le_of_ble_eq_true rfl) hn) rfl ?_
  refine x_aload_n 0 dX19_frame_38 rfl rfl rfl rfl rfl ?_
  refine y_get 111 21 (c := 18) (z := w 83 21) dX19_frame_39 i83 rfl in_X19 q1313 rfl rfl rfl rfl rfl ?_
  refine x_iconst 3 (z := 3) dX19_frame_42 rfl (by decide) rfl ?_
  refine x_iadd dX19_frame_43 rfl ?_
  refine x_iload 4 dX19_frame_44 rfl rfl ?_
  obtain ⟨e4, h⟩ := h
  refine y_iast (x' := a4) dX19_frame_46 ⟨90000, i99, e4⟩ rfl rfl ?_
  refine x_aload_n 0 dX19_frame_47 rfl rfl rfl rfl rfl ?_
  refine x_dup dX19_frame_48 rfl rfl ?_
  refine y_get 111 21 (c := 18) (z := w 83 21) dX19_frame_49 i83 rfl in_X19 q1313 rfl rfl rfl rfl rfl ?_
  refine x_iconst 4 (z := 4) dX19_frame_52 rfl (by decide) rfl ?_
  refine x_iadd dX19_frame_53 rfl ?_
  refine x_put 111 21 (c := 18) dX19_frame_54 i83 rfl in_X19 tyX19_ok nmX19 q1313 rfl rfl rfl (Or.inl rfl) (Or.inl ⟨rfl, rfl⟩) rfl ?_
  exact y_vret dX19_frame_57 rfl h
theorem rX19_loopLeft {d n : Nat} {w : bW} {Q : Int → bW → Prop} {X : String → bW → Prop} (hn : 143 ≤ n) (a1 : Int) (h : b_K d mX19_cell [(2, 83), (0, a1), (0, 4)] n w (fun r1 w2 => b_K d mX19_pop [(2, 83)] n (b_up w2 83 22 r1) (fun r3 w4 => b_K d mX8_cell [(2, 27), (0, r3), (0, 2)] n w4 (fun r5 w6 => b_K d mX19_push [(2, 83), (0, r5)] n w6 (fun r7 w8 => b_K d mX8_kind [(2, 27), (0, r3)] n w8 (fun r9 w10 => if r9 ≠ 5 then (Q 0 w10) else (b_K d mX19_frame [(2, 83), (0, 3), (0, a1), (0, 0), (0, 0)] n w10 (fun r11 w12 => b_K d mX19_cell [(2, 83), (0, a1), (0, 1)] n w12 (fun r13 w14 => Q 0 (b_up w14 83 22 r13)) X) X)) X) X) X) X) X) : b_K (d + 1) mX19_loopLeft [(2, 83), (0, a1)] n w Q X := by
  have i27 := iz27 (Nat.le_trans (Nat.le_of_ble_eq_true rfl) hn)
  have i83 := iz83 (Nat.le_trans (Nat.le_of_ble_eq_true rfl) hn)
  refine k_of (by decide) rfl rfl rfl (ls := [(2, 83), (0, a1), (9, 0)]) rfl ?_
  refine x_aload_n 0 dX19_loopLeft_0 rfl rfl rfl rfl rfl ?_
  refine x_aload_n 0 dX19_loopLeft_1 rfl rfl rfl rfl rfl ?_
  refine x_iload_n 1 dX19_loopLeft_2 rfl rfl rfl ?_
  refine x_iconst 4 (z := 4) dX19_loopLeft_3 rfl (by decide) rfl ?_
  refine y_Vi 131 (M := mX19_cell) (As := [(0, a1), (0, 4)]) (st := [(2, 83)]) dX19_loopLeft_4 i83 rfl q2579 q2581 qs111 q386 q2582 rfl hmX19_cell rfl rfl rfl rfl rfl rfl rfl rfl (k_mono h (fun r1 w2 h => ?_))
  refine x_put 125 22 (c := 18) dX19_loopLeft_7 i83 rfl in_X19 tyX19_ok nmX19 q1314 rfl rfl rfl (Or.inl rfl) (Or.inl ⟨rfl, rfl⟩) rfl ?_
  refine x_aload_n 0 dX19_loopLeft_10 rfl rfl rfl rfl rfl ?_
  refine y_Vi 139 (M := mX19_pop) (As := []) (st := []) dX19_loopLeft_11 i83 rfl q2583 q2585 qs112 q386 q2586 rfl hmX19_pop rfl rfl rfl rfl rfl rfl rfl rfl (k_mono h (fun r3 w4 h => ?_))
  refine x_istore_n 2 (ls' := [(2, 83), (0, a1), (0, r3)]) dX19_loopLeft_14 rfl rfl rfl rfl ?_
  refine x_aload_n 0 dX19_loopLeft_15 rfl rfl rfl rfl rfl ?_
  refine x_aload_n 0 dX19_loopLeft_16 rfl rfl rfl rfl rfl ?_
  refine y_getF 54 0 (c := 18) (z := 27) dX19_loopLeft_17 i83 rfl in_X19 q1292 rfl rfl rfl fn_83_0 (Nat.le_trans (Nat.le_of_ble_eq_true rfl) hn) rfl ?_
  refine x_iload_n 2 dX19_loopLeft_20 rfl rfl rfl ?_
  refine x_iconst 2 (z := 2) dX19_loopLeft_21 rfl (by decide) rfl ?_
  refine y_Vi 199 (M := mX8_cell) (As := [(0, r3), (0, 2)]) (st := [(2, 83)]) dX19_loopLeft_22 i27 rfl q2595 q2010 q2011 q375 q2012 rfl hmX8_cell rfl rfl rfl rfl rfl rfl rfl rfl (k_mono h (fun r5 w6 h => ?_))
  refine y_Vv 122 (M := mX19_push) (As := [(0, r5)]) (st := []) dX19_loopLeft_25 i83 rfl q2567 q2569 qs108 q386 q2570 rfl hmX19_push rfl rfl rfl rfl rfl rfl rfl (k_mono h (fun r7 w8 h => ?_))
  refine x_aload_n 0 dX19_loopLeft_28 rfl rfl rfl rfl rfl ?_
  refine y_getF 54 0 (c := 18) (z := 27) dX19_loopLeft_29 i83 rfl in_X19 q1292 rfl rfl rfl fn_83_0 (Nat.le_trans (Nat.le_of_ble_eq_true rfl) hn) rfl ?_
  refine x_iload_n 2 dX19_loopLeft_32 rfl rfl rfl ?_
  refine y_Vi 236 (M := mX8_kind) (As := [(0, r3)]) (st := []) dX19_loopLeft_33 i27 rfl q2596 q2042 q2043 q375 q2044 rfl hmX8_kind rfl rfl rfl rfl rfl rfl rfl rfl (k_mono h (fun r9 w10 h => ?_))
  refine x_iconst 5 (z := 5) dX19_loopLeft_36 rfl (by decide) rfl ?_
  refine x_icmp_ne (t := 58) 21 dX19_loopLeft_37 rfl rfl (b_ite h (fun hc h => ?_) (fun hc h => ?_))
  · exact y_vret dX19_loopLeft_58 rfl h
  · refine x_aload_n 0 dX19_loopLeft_40 rfl rfl rfl rfl rfl ?_
    refine x_iconst 3 (z := 3) dX19_loopLeft_41 rfl (by decide) rfl ?_
    refine x_iload_n 1 dX19_loopLeft_42 rfl rfl rfl ?_
    refine x_iconst 0 (z := 0) dX19_loopLeft_43 rfl (by decide) rfl ?_
    refine x_iconst 0 (z := 0) dX19_loopLeft_44 rfl (by decide) rfl ?_
    refine y_Vv 159 (M := mX19_frame) (As := [(0, 3), (0, a1), (0, 0), (0, 0)]) (st := []) dX19_loopLeft_45 i83 rfl q2587 q2589 qs113 q386 q2590 rfl hmX19_frame rfl rfl rfl rfl rfl rfl rfl (k_mono h (fun r11 w12 h => ?_))
    refine x_aload_n 0 dX19_loopLeft_48 rfl rfl rfl rfl rfl ?_
    refine x_aload_n 0 dX19_loopLeft_49 rfl rfl rfl rfl rfl ?_
    refine x_iload_n 1 dX19_loopLeft_50 rfl rfl rfl ?_
    refine x_iconst 1 (z := 1) dX19_loopLeft_51 rfl (by decide) rfl ?_
    refine y_Vi 131 (M := mX19_cell) (As := [(0, a1), (0, 1)]) (st := [(2, 83)]) dX19_loopLeft_52 i83 rfl q2579 q2581 qs111 q386 q2582 rfl hmX19_cell rfl rfl rfl rfl rfl rfl rfl rfl (k_mono h (fun r13 w14 h => ?_))
    refine x_put 125 22 (c := 18) dX19_loopLeft_55 i83 rfl in_X19 tyX19_ok nmX19 q1314 rfl rfl rfl (Or.inl rfl) (Or.inl ⟨rfl, rfl⟩) rfl ?_
    exact y_vret dX19_loopLeft_58 rfl h
theorem rX19_each {d n : Nat} {w : bW} {Q : Int → bW → Prop} {X : String → bW → Prop} (hn : 143 ≤ n) (a1 : Int) (a2 : Int) (a3 : Int) (h : b_K d mX19_cell [(2, 83), (0, a1), (0, 2)] n w (fun r1 w2 => b_K d mX19_cell [(2, 83), (0, a1), (0, 4)] n w2 (fun r3 w4 => b_K d mX19_isThrough [(2, 83), (0, r1), (0, a2), (0, a3)] n (b_up w4 83 22 r3) (fun r5 w6 => if r5 = 0 then (b_K d mX18_use [(2, 82), (1, 10)] n w6 (fun r7 w8 => b_K d mX19_element [(2, 83), (0, r1), (0, a2), (0, a3)] n w8 (fun r9 w10 => b_K d mX19_push [(2, 83), (0, r9)] n w10 (fun r11 w12 => if r1 ≠ 0 then (b_K d mX19_frame [(2, 83), (0, 4), (0, a1), (0, a2), (0, b_i (a3 + 1))] n w12 (fun r13 w14 => b_K d mX19_cell [(2, 83), (0, a1), (0, 1)] n w14 (fun r15 w16 => Q 0 (b_up w16 83 22 r15)) X) X) else (b_K d mX8_cell [(2, 27), (0, a2), (0, 3)] n w12 (fun r17 w18 => b_K d mX19_frame [(2, 83), (0, 4), (0, a1), (0, r17), (0, b_i (a3 + 1))] n w18 (fun r19 w20 => b_K d mX19_cell [(2, 83), (0, a1), (0, 1)] n w20 (fun r21 w22 => Q 0 (b_up w22 83 22 r21)) X) X) X)) X) X) X) else (Q 0 w6)) X) X) X) : b_K (d + 1) mX19_each [(2, 83), (0, a1), (0, a2), (0, a3)] n w Q X := by
  have i27 := iz27 (Nat.le_trans (Nat.le_of_ble_eq_true rfl) hn)
  have i82 := iz82 (Nat.le_trans (Nat.le_of_ble_eq_true rfl) hn)
  have i83 := iz83 (Nat.le_trans (Nat.le_of_ble_eq_true rfl) hn)
  refine k_of (by decide) rfl rfl rfl (ls := [(2, 83), (0, a1), (0, a2), (0, a3), (9, 0)]) rfl ?_
  refine x_aload_n 0 dX19_each_0 rfl rfl rfl rfl rfl ?_
  refine x_iload_n 1 dX19_each_1 rfl rfl rfl ?_
  refine x_iconst 2 (z := 2) dX19_each_2 rfl (by decide) rfl ?_
  refine y_Vi 131 (M := mX19_cell) (As := [(0, a1), (0, 2)]) (st := []) dX19_each_3 i83 rfl q2579 q2581 qs111 q386 q2582 rfl hmX19_cell rfl rfl rfl rfl rfl rfl rfl rfl (k_mono h (fun r1 w2 h => ?_))
  refine x_istore 4 (ls' := [(2, 83), (0, a1), (0, a2), (0, a3), (0, r1)]) dX19_each_6 rfl rfl rfl ?_
  refine x_aload_n 0 dX19_each_8 rfl rfl rfl rfl rfl ?_
  refine x_aload_n 0 dX19_each_9 rfl rfl rfl rfl rfl ?_
  refine x_iload_n 1 dX19_each_10 rfl rfl rfl ?_
  refine x_iconst 4 (z := 4) dX19_each_11 rfl (by decide) rfl ?_
  refine y_Vi 131 (M := mX19_cell) (As := [(0, a1), (0, 4)]) (st := [(2, 83)]) dX19_each_12 i83 rfl q2579 q2581 qs111 q386 q2582 rfl hmX19_cell rfl rfl rfl rfl rfl rfl rfl rfl (k_mono h (fun r3 w4 h => ?_))
  refine x_put 125 22 (c := 18) dX19_each_15 i83 rfl in_X19 tyX19_ok nmX19 q1314 rfl rfl rfl (Or.inl rfl) (Or.inl ⟨rfl, rfl⟩) rfl ?_
  refine x_aload_n 0 dX19_each_18 rfl rfl rfl rfl rfl ?_
  refine x_iload 4 dX19_each_19 rfl rfl ?_
  refine x_iload_n 2 dX19_each_21 rfl rfl rfl ?_
  refine x_iload_n 3 dX19_each_22 rfl rfl rfl ?_
  refine y_Vi 248 (M := mX19_isThrough) (As := [(0, r1), (0, a2), (0, a3)]) (st := []) dX19_each_23 i83 rfl q2601 q2603 qs116 q386 q2604 rfl hmX19_isThrough rfl rfl rfl rfl rfl rfl rfl rfl (k_mono h (fun r5 w6 h => ?_))
  refine x_if_eq (t := 30) 4 dX19_each_26 rfl rfl (b_ite h (fun hc h => ?_) (fun hc h => ?_))
  · refine x_aload_n 0 dX19_each_30 rfl rfl rfl rfl rfl ?_
    refine y_getF 94 10 (c := 18) (z := 82) dX19_each_31 i83 rfl in_X19 q1302 rfl rfl rfl fn_83_10 (Nat.le_trans (Nat.le_of_ble_eq_true rfl) hn) rfl ?_
    refine x_ldc2 206 (x := 10) dX19_each_34 q2606 rfl (by decide) rfl ?_
    refine y_Vv 183 (M := mX18_use) (As := [(1, 10)]) (st := []) dX19_each_37 i82 rfl q2607 q2500 q2501 q385 q2502 rfl hmX18_use rfl rfl rfl rfl rfl rfl rfl (k_mono h (fun r7 w8 h => ?_))
    refine x_aload_n 0 dX19_each_40 rfl rfl rfl rfl rfl ?_
    refine x_aload_n 0 dX19_each_41 rfl rfl rfl rfl rfl ?_
    refine x_iload 4 dX19_each_42 rfl rfl ?_
    refine x_iload_n 2 dX19_each_44 rfl rfl rfl ?_
    refine x_iload_n 3 dX19_each_45 rfl rfl rfl ?_
    refine y_Vi 252 (M := mX19_element) (As := [(0, r1), (0, a2), (0, a3)]) (st := [(2, 83)]) dX19_each_46 i83 rfl q2608 q2610 qs117 q386 q2611 rfl hmX19_element rfl rfl rfl rfl rfl rfl rfl rfl (k_mono h (fun r9 w10 h => ?_))
    refine y_Vv 122 (M := mX19_push) (As := [(0, r9)]) (st := []) dX19_each_49 i83 rfl q2567 q2569 qs108 q386 q2570 rfl hmX19_push rfl rfl rfl rfl rfl rfl rfl (k_mono h (fun r11 w12 h => ?_))
    refine x_aload_n 0 dX19_each_52 rfl rfl rfl rfl rfl ?_
    refine x_iconst 4 (z := 4) dX19_each_53 rfl (by decide) rfl ?_
    refine x_iload_n 1 dX19_each_54 rfl rfl rfl ?_
    refine x_iload 4 dX19_each_55 rfl rfl ?_
    refine x_if_ne (t := 72) 15 dX19_each_57 rfl rfl (b_ite h (fun hc h => ?_) (fun hc h => ?_))
    · refine x_iload_n 2 dX19_each_72 rfl rfl rfl ?_
      refine x_iload_n 3 dX19_each_73 rfl rfl rfl ?_
      refine x_iconst 1 (z := 1) dX19_each_74 rfl (by decide) rfl ?_
      refine x_iadd dX19_each_75 rfl ?_
      refine y_Vv 159 (M := mX19_frame) (As := [(0, 4), (0, a1), (0, a2), (0, b_i (a3 + 1))]) (st := []) dX19_each_76 i83 rfl q2587 q2589 qs113 q386 q2590 rfl hmX19_frame rfl rfl rfl rfl rfl rfl rfl (k_mono h (fun r13 w14 h => ?_))
      refine x_aload_n 0 dX19_each_79 rfl rfl rfl rfl rfl ?_
      refine x_aload_n 0 dX19_each_80 rfl rfl rfl rfl rfl ?_
      refine x_iload_n 1 dX19_each_81 rfl rfl rfl ?_
      refine x_iconst 1 (z := 1) dX19_each_82 rfl (by decide) rfl ?_
      refine y_Vi 131 (M := mX19_cell) (As := [(0, a1), (0, 1)]) (st := [(2, 83)]) dX19_each_83 i83 rfl q2579 q2581 qs111 q386 q2582 rfl hmX19_cell rfl rfl rfl rfl rfl rfl rfl rfl (k_mono h (fun r15 w16 h => ?_))
      refine x_put 125 22 (c := 18) dX19_each_86 i83 rfl in_X19 tyX19_ok nmX19 q1314 rfl rfl rfl (Or.inl rfl) (Or.inl ⟨rfl, rfl⟩) rfl ?_
      exact y_vret dX19_each_89 rfl h
    · refine x_aload_n 0 dX19_each_60 rfl rfl rfl rfl rfl ?_
      refine y_getF 54 0 (c := 18) (z := 27) dX19_each_61 i83 rfl in_X19 q1292 rfl rfl rfl fn_83_0 (Nat.le_trans (Nat.le_of_ble_eq_true rfl) hn) rfl ?_
      refine x_iload_n 2 dX19_each_64 rfl rfl rfl ?_
      refine x_iconst 3 (z := 3) dX19_each_65 rfl (by decide) rfl ?_
      refine y_Vi 199 (M := mX8_cell) (As := [(0, a2), (0, 3)]) (st := [(0, a1), (0, 4), (2, 83)]) dX19_each_66 i27 rfl q2595 q2010 q2011 q375 q2012 rfl hmX8_cell rfl rfl rfl rfl rfl rfl rfl rfl (k_mono h (fun r17 w18 h => ?_))
      refine x_goto 4 (q := 73) dX19_each_69 rfl ?_
      refine x_iload_n 3 dX19_each_73 rfl rfl rfl ?_
      refine x_iconst 1 (z := 1) dX19_each_74 rfl (by decide) rfl ?_
      refine x_iadd dX19_each_75 rfl ?_
      refine y_Vv 159 (M := mX19_frame) (As := [(0, 4), (0, a1), (0, r17), (0, b_i (a3 + 1))]) (st := []) dX19_each_76 i83 rfl q2587 q2589 qs113 q386 q2590 rfl hmX19_frame rfl rfl rfl rfl rfl rfl rfl (k_mono h (fun r19 w20 h => ?_))
      refine x_aload_n 0 dX19_each_79 rfl rfl rfl rfl rfl ?_
      refine x_aload_n 0 dX19_each_80 rfl rfl rfl rfl rfl ?_
      refine x_iload_n 1 dX19_each_81 rfl rfl rfl ?_
      refine x_iconst 1 (z := 1) dX19_each_82 rfl (by decide) rfl ?_
      refine y_Vi 131 (M := mX19_cell) (As := [(0, a1), (0, 1)]) (st := [(2, 83)]) dX19_each_83 i83 rfl q2579 q2581 qs111 q386 q2582 rfl hmX19_cell rfl rfl rfl rfl rfl rfl rfl rfl (k_mono h (fun r21 w22 h => ?_))
      refine x_put 125 22 (c := 18) dX19_each_86 i83 rfl in_X19 tyX19_ok nmX19 q1314 rfl rfl rfl (Or.inl rfl) (Or.inl ⟨rfl, rfl⟩) rfl ?_
      exact y_vret dX19_each_89 rfl h
  · exact y_vret dX19_each_29 rfl h
theorem rX19_isThrough {d n : Nat} {w : bW} {Q : Int → bW → Prop} {X : String → bW → Prop} (hn : 143 ≤ n) (a1 : Int) (a2 : Int) (a3 : Int) (h : if a1 ≠ 0 then (b_K d mX8_many [(2, 27), (0, a2)] n w (fun r1 w2 => if a3 ≠ r1 then (Q 0 w2) else (Q 1 w2)) X) else (if a2 ≠ 10 then (Q 0 w) else (Q 1 w))) : b_K (d + 1) mX19_isThrough [(2, 83), (0, a1), (0, a2), (0, a3)] n w Q X := by
  have i27 := iz27 (Nat.le_trans (Nat.le_of_ble_eq_true rfl) hn)
  have i83 := iz83 (Nat.le_trans (Nat.le_of_ble_eq_true rfl) hn)
  refine k_of (by decide) rfl rfl rfl (ls := [(2, 83), (0, a1), (0, a2), (0, a3)]) rfl ?_
  refine x_iload_n 1 dX19_isThrough_0 rfl rfl rfl ?_
  refine x_if_ne (t := 18) 17 dX19_isThrough_1 rfl rfl (b_ite h (fun hc h => ?_) (fun hc h => ?_))
  · refine x_iload_n 3 dX19_isThrough_18 rfl rfl rfl ?_
    refine x_aload_n 0 dX19_isThrough_19 rfl rfl rfl rfl rfl ?_
    refine y_getF 54 0 (c := 18) (z := 27) dX19_isThrough_20 i83 rfl in_X19 q1292 rfl rfl rfl fn_83_0 (Nat.le_trans (Nat.le_of_ble_eq_true rfl) hn) rfl ?_
    refine x_iload_n 2 dX19_isThrough_23 rfl rfl rfl ?_
    refine y_Vi 245 (M := mX8_many) (As := [(0, a2)]) (st := [(0, a3)]) dX19_isThrough_24 i27 rfl q2605 q2135 q2136 q375 q2137 rfl hmX8_many rfl rfl rfl rfl rfl rfl rfl rfl (k_mono h (fun r1 w2 h => ?_))
    refine x_icmp_ne (t := 34) 7 dX19_isThrough_27 rfl rfl (b_ite h (fun hc h => ?_) (fun hc h => ?_))
    · refine x_iconst 0 (z := 0) dX19_isThrough_34 rfl (by decide) rfl ?_
      exact y_zret dX19_isThrough_35 rfl (by decide) h
    · refine x_iconst 1 (z := 1) dX19_isThrough_30 rfl (by decide) rfl ?_
      refine x_goto 4 (q := 35) dX19_isThrough_31 rfl ?_
      exact y_zret dX19_isThrough_35 rfl (by decide) h
  · refine x_iload_n 2 dX19_isThrough_4 rfl rfl rfl ?_
    refine x_bipush 10 (z := 10) dX19_isThrough_5 rfl (by decide) rfl ?_
    refine x_icmp_ne (t := 14) 7 dX19_isThrough_7 rfl rfl (b_ite h (fun hc h => ?_) (fun hc h => ?_))
    · refine x_iconst 0 (z := 0) dX19_isThrough_14 rfl (by decide) rfl ?_
      refine x_goto 20 (q := 35) dX19_isThrough_15 rfl ?_
      exact y_zret dX19_isThrough_35 rfl (by decide) h
    · refine x_iconst 1 (z := 1) dX19_isThrough_10 rfl (by decide) rfl ?_
      refine x_goto 24 (q := 35) dX19_isThrough_11 rfl ?_
      exact y_zret dX19_isThrough_35 rfl (by decide) h
theorem rX19_element {d n : Nat} {w : bW} {Q : Int → bW → Prop} {X : String → bW → Prop} (hn : 143 ≤ n) (a1 : Int) (a2 : Int) (a3 : Int) (h : if a1 ≠ 0 then (b_K d mX10_at [(2, 38), (0, a2), (0, a3)] n w (fun r1 w2 => b_K d mX8_cell [(2, 27), (0, r1), (0, 2)] n w2 (fun r3 w4 => if a1 ≠ 1 then (b_K d mX8_cell [(2, 27), (0, r1), (0, 3)] n w4 (fun r5 w6 => b_K d mX8_pair [(2, 27), (0, r3), (0, r5)] n w6 (fun r7 w8 => Q r7 w8) X) X) else (Q r3 w4)) X) X) else (b_K d mX8_cell [(2, 27), (0, a2), (0, 2)] n w (fun r9 w10 => Q r9 w10) X)) : b_K (d + 1) mX19_element [(2, 83), (0, a1), (0, a2), (0, a3)] n w Q X := by
  have i27 := iz27 (Nat.le_trans (Nat.le_of_ble_eq_true rfl) hn)
  have i38 := iz38 (Nat.le_trans (Nat.le_of_ble_eq_true rfl) hn)
  have i83 := iz83 (Nat.le_trans (Nat.le_of_ble_eq_true rfl) hn)
  refine k_of (by decide) rfl rfl rfl (ls := [(2, 83), (0, a1), (0, a2), (0, a3), (9, 0), (9, 0)]) rfl ?_
  refine x_iload_n 1 dX19_element_0 rfl rfl rfl ?_
  refine x_if_ne (t := 14) 13 dX19_element_1 rfl rfl (b_ite h (fun hc h => ?_) (fun hc h => ?_))
  · refine x_aload_n 0 dX19_element_14 rfl rfl rfl rfl rfl ?_
    refine y_getF 74 5 (c := 18) (z := 38) dX19_element_15 i83 rfl in_X19 q1297 rfl rfl rfl fn_83_5 (Nat.le_trans (Nat.le_of_ble_eq_true rfl) hn) rfl ?_
    refine x_iload_n 2 dX19_element_18 rfl rfl rfl ?_
    refine x_iload_n 3 dX19_element_19 rfl rfl rfl ?_
    refine y_Vi 239 (M := mX10_at) (As := [(0, a2), (0, a3)]) (st := []) dX19_element_20 i38 rfl q2612 q2613 q2614 q377 q2615 rfl hmX10_at rfl rfl rfl rfl rfl rfl rfl rfl (k_mono h (fun r1 w2 h => ?_))
    refine x_istore 4 (ls' := [(2, 83), (0, a1), (0, a2), (0, a3), (0, r1), (9, 0)]) dX19_element_23 rfl rfl rfl ?_
    refine x_aload_n 0 dX19_element_25 rfl rfl rfl rfl rfl ?_
    refine y_getF 54 0 (c := 18) (z := 27) dX19_element_26 i83 rfl in_X19 q1292 rfl rfl rfl fn_83_0 (Nat.le_trans (Nat.le_of_ble_eq_true rfl) hn) rfl ?_
    refine x_iload 4 dX19_element_29 rfl rfl ?_
    refine x_iconst 2 (z := 2) dX19_element_31 rfl (by decide) rfl ?_
    refine y_Vi 199 (M := mX8_cell) (As := [(0, r1), (0, 2)]) (st := []) dX19_element_32 i27 rfl q2595 q2010 q2011 q375 q2012 rfl hmX8_cell rfl rfl rfl rfl rfl rfl rfl rfl (k_mono h (fun r3 w4 h => ?_))
    refine x_istore 5 (ls' := [(2, 83), (0, a1), (0, a2), (0, a3), (0, r1), (0, r3)]) dX19_element_35 rfl rfl rfl ?_
    refine x_iload_n 1 dX19_element_37 rfl rfl rfl ?_
    refine x_iconst 1 (z := 1) dX19_element_38 rfl (by decide) rfl ?_
    refine x_icmp_ne (t := 47) 8 dX19_element_39 rfl rfl (b_ite h (fun hc h => ?_) (fun hc h => ?_))
    · refine x_aload_n 0 dX19_element_47 rfl rfl rfl rfl rfl ?_
      refine y_getF 54 0 (c := 18) (z := 27) dX19_element_48 i83 rfl in_X19 q1292 rfl rfl rfl fn_83_0 (Nat.le_trans (Nat.le_of_ble_eq_true rfl) hn) rfl ?_
      refine x_iload 5 dX19_element_51 rfl rfl ?_
      refine x_aload_n 0 dX19_element_53 rfl rfl rfl rfl rfl ?_
      refine y_getF 54 0 (c := 18) (z := 27) dX19_element_54 i83 rfl in_X19 q1292 rfl rfl rfl fn_83_0 (Nat.le_trans (Nat.le_of_ble_eq_true rfl) hn) rfl ?_
      refine x_iload 4 dX19_element_57 rfl rfl ?_
      refine x_iconst 3 (z := 3) dX19_element_59 rfl (by decide) rfl ?_
      refine y_Vi 199 (M := mX8_cell) (As := [(0, r1), (0, 3)]) (st := [(0, r3), (2, 27)]) dX19_element_60 i27 rfl q2595 q2010 q2011 q375 q2012 rfl hmX8_cell rfl rfl rfl rfl rfl rfl rfl rfl (k_mono h (fun r5 w6 h => ?_))
      refine y_Vi 203 (M := mX8_pair) (As := [(0, r3), (0, r5)]) (st := []) dX19_element_63 i27 rfl q2626 q2054 q2055 q375 q2056 rfl hmX8_pair rfl rfl rfl rfl rfl rfl rfl rfl (k_mono h (fun r7 w8 h => ?_))
      exact y_iret dX19_element_66 rfl h
    · refine x_iload 5 dX19_element_42 rfl rfl ?_
      refine x_goto 22 (q := 66) dX19_element_44 rfl ?_
      exact y_iret dX19_element_66 rfl h
  · refine x_aload_n 0 dX19_element_4 rfl rfl rfl rfl rfl ?_
    refine y_getF 54 0 (c := 18) (z := 27) dX19_element_5 i83 rfl in_X19 q1292 rfl rfl rfl fn_83_0 (Nat.le_trans (Nat.le_of_ble_eq_true rfl) hn) rfl ?_
    refine x_iload_n 2 dX19_element_8 rfl rfl rfl ?_
    refine x_iconst 2 (z := 2) dX19_element_9 rfl (by decide) rfl ?_
    refine y_Vi 199 (M := mX8_cell) (As := [(0, a2), (0, 2)]) (st := []) dX19_element_10 i27 rfl q2595 q2010 q2011 q375 q2012 rfl hmX8_cell rfl rfl rfl rfl rfl rfl rfl rfl (k_mono h (fun r9 w10 h => ?_))
    exact y_iret dX19_element_13 rfl h
theorem rX19_mapped {d n : Nat} {w : bW} {Q : Int → bW → Prop} {X : String → bW → Prop} (hn : 143 ≤ n) (a1 : Int) (a2 : Int) (a3 : Int) (h : b_K d mX19_cell [(2, 83), (0, a1), (0, 2)] n w (fun r1 w2 => b_K d mX19_cell [(2, 83), (0, a1), (0, 4)] n w2 (fun r3 w4 => b_K d mX19_isThrough [(2, 83), (0, r1), (0, a2), (0, a3)] n (b_up w4 83 22 r3) (fun r5 w6 => if r5 ≠ 0 then (if r1 ≠ 0 then (b_K d mX19_tree [(2, 83), (0, a2), (0, a3)] n (b_up w6 83 19 (b_i ((w6 83 19) - a3))) (fun r7 w8 => b_K d mX19_push [(2, 83), (0, r7)] n w8 (fun r9 w10 => Q 0 w10) X) X) else (b_K d mX19_list [(2, 83), (0, a3)] n (b_up w6 83 19 (b_i ((w6 83 19) - a3))) (fun r11 w12 => b_K d mX19_push [(2, 83), (0, r11)] n w12 (fun r13 w14 => Q 0 w14) X) X)) else (b_K d mX18_use [(2, 82), (1, 10)] n w6 (fun r15 w16 => b_K d mX19_element [(2, 83), (0, r1), (0, a2), (0, a3)] n w16 (fun r17 w18 => b_K d mX19_push [(2, 83), (0, r17)] n w18 (fun r19 w20 => if r1 ≠ 0 then (b_K d mX19_frame [(2, 83), (0, 5), (0, a1), (0, a2), (0, b_i (a3 + 1))] n w20 (fun r21 w22 => b_K d mX19_cell [(2, 83), (0, a1), (0, 1)] n w22 (fun r23 w24 => Q 0 (b_up w24 83 22 r23)) X) X) else (b_K d mX8_cell [(2, 27), (0, a2), (0, 3)] n w20 (fun r25 w26 => b_K d mX19_frame [(2, 83), (0, 5), (0, a1), (0, r25), (0, b_i (a3 + 1))] n w26 (fun r27 w28 => b_K d mX19_cell [(2, 83), (0, a1), (0, 1)] n w28 (fun r29 w30 => Q 0 (b_up w30 83 22 r29)) X) X) X)) X) X) X)) X) X) X) : b_K (d + 1) mX19_mapped [(2, 83), (0, a1), (0, a2), (0, a3)] n w Q X := by
  have i27 := iz27 (Nat.le_trans (Nat.le_of_ble_eq_true rfl) hn)
  have i82 := iz82 (Nat.le_trans (Nat.le_of_ble_eq_true rfl) hn)
  have i83 := iz83 (Nat.le_trans (Nat.le_of_ble_eq_true rfl) hn)
  refine k_of (by decide) rfl rfl rfl (ls := [(2, 83), (0, a1), (0, a2), (0, a3), (9, 0)]) rfl ?_
  refine x_aload_n 0 dX19_mapped_0 rfl rfl rfl rfl rfl ?_
  refine x_iload_n 1 dX19_mapped_1 rfl rfl rfl ?_
  refine x_iconst 2 (z := 2) dX19_mapped_2 rfl (by decide) rfl ?_
  refine y_Vi 131 (M := mX19_cell) (As := [(0, a1), (0, 2)]) (st := []) dX19_mapped_3 i83 rfl q2579 q2581 qs111 q386 q2582 rfl hmX19_cell rfl rfl rfl rfl rfl rfl rfl rfl (k_mono h (fun r1 w2 h => ?_))
  refine x_istore 4 (ls' := [(2, 83), (0, a1), (0, a2), (0, a3), (0, r1)]) dX19_mapped_6 rfl rfl rfl ?_
  refine x_aload_n 0 dX19_mapped_8 rfl rfl rfl rfl rfl ?_
  refine x_aload_n 0 dX19_mapped_9 rfl rfl rfl rfl rfl ?_
  refine x_iload_n 1 dX19_mapped_10 rfl rfl rfl ?_
  refine x_iconst 4 (z := 4) dX19_mapped_11 rfl (by decide) rfl ?_
  refine y_Vi 131 (M := mX19_cell) (As := [(0, a1), (0, 4)]) (st := [(2, 83)]) dX19_mapped_12 i83 rfl q2579 q2581 qs111 q386 q2582 rfl hmX19_cell rfl rfl rfl rfl rfl rfl rfl rfl (k_mono h (fun r3 w4 h => ?_))
  refine x_put 125 22 (c := 18) dX19_mapped_15 i83 rfl in_X19 tyX19_ok nmX19 q1314 rfl rfl rfl (Or.inl rfl) (Or.inl ⟨rfl, rfl⟩) rfl ?_
  refine x_aload_n 0 dX19_mapped_18 rfl rfl rfl rfl rfl ?_
  refine x_iload 4 dX19_mapped_19 rfl rfl ?_
  refine x_iload_n 2 dX19_mapped_21 rfl rfl rfl ?_
  refine x_iload_n 3 dX19_mapped_22 rfl rfl rfl ?_
  refine y_Vi 248 (M := mX19_isThrough) (As := [(0, r1), (0, a2), (0, a3)]) (st := []) dX19_mapped_23 i83 rfl q2601 q2603 qs116 q386 q2604 rfl hmX19_isThrough rfl rfl rfl rfl rfl rfl rfl rfl (k_mono h (fun r5 w6 h => ?_))
  refine x_if_ne (t := 89) 63 dX19_mapped_26 rfl rfl (b_ite h (fun hc h => ?_) (fun hc h => ?_))
  · refine x_aload_n 0 dX19_mapped_89 rfl rfl rfl rfl rfl ?_
    refine x_dup dX19_mapped_90 rfl rfl ?_
    refine y_get 119 19 (c := 18) (z := w6 83 19) dX19_mapped_91 i83 rfl in_X19 q1311 rfl rfl rfl rfl rfl ?_
    refine x_iload_n 3 dX19_mapped_94 rfl rfl rfl ?_
    refine x_isub dX19_mapped_95 rfl ?_
    refine x_put 119 19 (c := 18) dX19_mapped_96 i83 rfl in_X19 tyX19_ok nmX19 q1311 rfl rfl rfl (Or.inl rfl) (Or.inl ⟨rfl, rfl⟩) rfl ?_
    refine x_aload_n 0 dX19_mapped_99 rfl rfl rfl rfl rfl ?_
    refine x_iload 4 dX19_mapped_100 rfl rfl ?_
    refine x_if_ne (t := 113) 11 dX19_mapped_102 rfl rfl (b_ite h (fun hc h => ?_) (fun hc h => ?_))
    · refine x_aload_n 0 dX19_mapped_113 rfl rfl rfl rfl rfl ?_
      refine x_iload_n 2 dX19_mapped_114 rfl rfl rfl ?_
      refine x_iload_n 3 dX19_mapped_115 rfl rfl rfl ?_
      refine y_Vi 258 (M := mX19_tree) (As := [(0, a2), (0, a3)]) (st := [(2, 83)]) dX19_mapped_116 i83 rfl q2636 q2638 qs122 q386 q2639 rfl hmX19_tree rfl rfl rfl rfl rfl rfl rfl rfl (k_mono h (fun r7 w8 h => ?_))
      refine y_Vv 122 (M := mX19_push) (As := [(0, r7)]) (st := []) dX19_mapped_119 i83 rfl q2567 q2569 qs108 q386 q2570 rfl hmX19_push rfl rfl rfl rfl rfl rfl rfl (k_mono h (fun r9 w10 h => ?_))
      exact y_vret dX19_mapped_122 rfl h
    · refine x_aload_n 0 dX19_mapped_105 rfl rfl rfl rfl rfl ?_
      refine x_iload_n 3 dX19_mapped_106 rfl rfl rfl ?_
      refine y_Vi 255 (M := mX19_list) (As := [(0, a3)]) (st := [(2, 83)]) dX19_mapped_107 i83 rfl q2631 q2633 qs121 q386 q2634 rfl hmX19_list rfl rfl rfl rfl rfl rfl rfl rfl (k_mono h (fun r11 w12 h => ?_))
      refine x_goto 9 (q := 119) dX19_mapped_110 rfl ?_
      refine y_Vv 122 (M := mX19_push) (As := [(0, r11)]) (st := []) dX19_mapped_119 i83 rfl q2567 q2569 qs108 q386 q2570 rfl hmX19_push rfl rfl rfl rfl rfl rfl rfl (k_mono h (fun r13 w14 h => ?_))
      exact y_vret dX19_mapped_122 rfl h
  · refine x_aload_n 0 dX19_mapped_29 rfl rfl rfl rfl rfl ?_
    refine y_getF 94 10 (c := 18) (z := 82) dX19_mapped_30 i83 rfl in_X19 q1302 rfl rfl rfl fn_83_10 (Nat.le_trans (Nat.le_of_ble_eq_true rfl) hn) rfl ?_
    refine x_ldc2 206 (x := 10) dX19_mapped_33 q2606 rfl (by decide) rfl ?_
    refine y_Vv 183 (M := mX18_use) (As := [(1, 10)]) (st := []) dX19_mapped_36 i82 rfl q2607 q2500 q2501 q385 q2502 rfl hmX18_use rfl rfl rfl rfl rfl rfl rfl (k_mono h (fun r15 w16 h => ?_))
    refine x_aload_n 0 dX19_mapped_39 rfl rfl rfl rfl rfl ?_
    refine x_aload_n 0 dX19_mapped_40 rfl rfl rfl rfl rfl ?_
    refine x_iload 4 dX19_mapped_41 rfl rfl ?_
    refine x_iload_n 2 dX19_mapped_43 rfl rfl rfl ?_
    refine x_iload_n 3 dX19_mapped_44 rfl rfl rfl ?_
    refine y_Vi 252 (M := mX19_element) (As := [(0, r1), (0, a2), (0, a3)]) (st := [(2, 83)]) dX19_mapped_45 i83 rfl q2608 q2610 qs117 q386 q2611 rfl hmX19_element rfl rfl rfl rfl rfl rfl rfl rfl (k_mono h (fun r17 w18 h => ?_))
    refine y_Vv 122 (M := mX19_push) (As := [(0, r17)]) (st := []) dX19_mapped_48 i83 rfl q2567 q2569 qs108 q386 q2570 rfl hmX19_push rfl rfl rfl rfl rfl rfl rfl (k_mono h (fun r19 w20 h => ?_))
    refine x_aload_n 0 dX19_mapped_51 rfl rfl rfl rfl rfl ?_
    refine x_iconst 5 (z := 5) dX19_mapped_52 rfl (by decide) rfl ?_
    refine x_iload_n 1 dX19_mapped_53 rfl rfl rfl ?_
    refine x_iload 4 dX19_mapped_54 rfl rfl ?_
    refine x_if_ne (t := 71) 15 dX19_mapped_56 rfl rfl (b_ite h (fun hc h => ?_) (fun hc h => ?_))
    · refine x_iload_n 2 dX19_mapped_71 rfl rfl rfl ?_
      refine x_iload_n 3 dX19_mapped_72 rfl rfl rfl ?_
      refine x_iconst 1 (z := 1) dX19_mapped_73 rfl (by decide) rfl ?_
      refine x_iadd dX19_mapped_74 rfl ?_
      refine y_Vv 159 (M := mX19_frame) (As := [(0, 5), (0, a1), (0, a2), (0, b_i (a3 + 1))]) (st := []) dX19_mapped_75 i83 rfl q2587 q2589 qs113 q386 q2590 rfl hmX19_frame rfl rfl rfl rfl rfl rfl rfl (k_mono h (fun r21 w22 h => ?_))
      refine x_aload_n 0 dX19_mapped_78 rfl rfl rfl rfl rfl ?_
      refine x_aload_n 0 dX19_mapped_79 rfl rfl rfl rfl rfl ?_
      refine x_iload_n 1 dX19_mapped_80 rfl rfl rfl ?_
      refine x_iconst 1 (z := 1) dX19_mapped_81 rfl (by decide) rfl ?_
      refine y_Vi 131 (M := mX19_cell) (As := [(0, a1), (0, 1)]) (st := [(2, 83)]) dX19_mapped_82 i83 rfl q2579 q2581 qs111 q386 q2582 rfl hmX19_cell rfl rfl rfl rfl rfl rfl rfl rfl (k_mono h (fun r23 w24 h => ?_))
      refine x_put 125 22 (c := 18) dX19_mapped_85 i83 rfl in_X19 tyX19_ok nmX19 q1314 rfl rfl rfl (Or.inl rfl) (Or.inl ⟨rfl, rfl⟩) rfl ?_
      exact y_vret dX19_mapped_88 rfl h
    · refine x_aload_n 0 dX19_mapped_59 rfl rfl rfl rfl rfl ?_
      refine y_getF 54 0 (c := 18) (z := 27) dX19_mapped_60 i83 rfl in_X19 q1292 rfl rfl rfl fn_83_0 (Nat.le_trans (Nat.le_of_ble_eq_true rfl) hn) rfl ?_
      refine x_iload_n 2 dX19_mapped_63 rfl rfl rfl ?_
      refine x_iconst 3 (z := 3) dX19_mapped_64 rfl (by decide) rfl ?_
      refine y_Vi 199 (M := mX8_cell) (As := [(0, a2), (0, 3)]) (st := [(0, a1), (0, 5), (2, 83)]) dX19_mapped_65 i27 rfl q2595 q2010 q2011 q375 q2012 rfl hmX8_cell rfl rfl rfl rfl rfl rfl rfl rfl (k_mono h (fun r25 w26 h => ?_))
      refine x_goto 4 (q := 72) dX19_mapped_68 rfl ?_
      refine x_iload_n 3 dX19_mapped_72 rfl rfl rfl ?_
      refine x_iconst 1 (z := 1) dX19_mapped_73 rfl (by decide) rfl ?_
      refine x_iadd dX19_mapped_74 rfl ?_
      refine y_Vv 159 (M := mX19_frame) (As := [(0, 5), (0, a1), (0, r25), (0, b_i (a3 + 1))]) (st := []) dX19_mapped_75 i83 rfl q2587 q2589 qs113 q386 q2590 rfl hmX19_frame rfl rfl rfl rfl rfl rfl rfl (k_mono h (fun r27 w28 h => ?_))
      refine x_aload_n 0 dX19_mapped_78 rfl rfl rfl rfl rfl ?_
      refine x_aload_n 0 dX19_mapped_79 rfl rfl rfl rfl rfl ?_
      refine x_iload_n 1 dX19_mapped_80 rfl rfl rfl ?_
      refine x_iconst 1 (z := 1) dX19_mapped_81 rfl (by decide) rfl ?_
      refine y_Vi 131 (M := mX19_cell) (As := [(0, a1), (0, 1)]) (st := [(2, 83)]) dX19_mapped_82 i83 rfl q2579 q2581 qs111 q386 q2582 rfl hmX19_cell rfl rfl rfl rfl rfl rfl rfl rfl (k_mono h (fun r29 w30 h => ?_))
      refine x_put 125 22 (c := 18) dX19_mapped_85 i83 rfl in_X19 tyX19_ok nmX19 q1314 rfl rfl rfl (Or.inl rfl) (Or.inl ⟨rfl, rfl⟩) rfl ?_
      exact y_vret dX19_mapped_88 rfl h
abbrev LX19_list_7 (d n : Nat) (Q : Int → bW → Prop) (X : String → bW → Prop) (a2 : Int) (a3 : Int) (w : bW) : Prop := b_Y (d + 1) mX19_list n Q X 7 [(2, 83), (9, 0), (0, a2), (0, a3)] [] w
theorem rX19_list {d n : Nat} {w : bW} {Q : Int → bW → Prop} {X : String → bW → Prop} (hn : 143 ≤ n) (a1 : Int) (h : LX19_list_7 d n Q X 10 (b_i (a1 - 1)) w) : b_K (d + 1) mX19_list [(2, 83), (0, a1)] n w Q X := by
  refine k_of (by decide) rfl rfl rfl (ls := [(2, 83), (0, a1), (9, 0), (9, 0)]) rfl ?_
  refine x_bipush 10 (z := 10) dX19_list_0 rfl (by decide) rfl ?_
  refine x_istore_n 2 (ls' := [(2, 83), (0, a1), (0, 10), (9, 0)]) dX19_list_2 rfl rfl rfl rfl ?_
  refine x_iload_n 1 dX19_list_3 rfl rfl rfl ?_
  refine x_iconst 1 (z := 1) dX19_list_4 rfl (by decide) rfl ?_
  refine x_isub dX19_list_5 rfl ?_
  refine x_istore_n 3 (ls' := [(2, 83), (0, a1), (0, 10), (0, b_i (a1 - 1))]) dX19_list_6 rfl rfl rfl rfl ?_
  exact x_fg (fgk (fgd (fgk (fgk (fg0))))) h
theorem sX19_list_7 {d n : Nat} {w : bW} {Q : Int → bW → Prop} {X : String → bW → Prop} (hn : 143 ≤ n) (a2 : Int) (a3 : Int) (h : if a3 < 0 then (Q a2 w) else ((0 ≤ b_i ((w 83 19) + a3) ∧ b_i ((w 83 19) + a3) < 32000) ∧ (b_K d mX8_cons [(2, 27), (0, w 98 (b_i ((w 83 19) + a3))), (0, a2)] n w (fun r2 w3 => LX19_list_7 d n Q X r2 (b_i (a3 + (-1))) w3) X))) : LX19_list_7 d n Q X a2 a3 w := by
  have i27 := iz27 (Nat.le_trans (Nat.le_of_ble_eq_true rfl) hn)
  have i83 := iz83 (Nat.le_trans (Nat.le_of_ble_eq_true rfl) hn)
  have i98 := iz98 (Nat.le_trans (Nat.le_of_ble_eq_true rfl) hn)
  refine x_iload_n 3 dX19_list_7 rfl rfl rfl ?_
  refine x_if_lt (t := 37) 29 dX19_list_8 rfl rfl (b_ite h (fun hc h => ?_) (fun hc h => ?_))
  · refine x_iload_n 2 dX19_list_37 rfl rfl rfl ?_
    exact y_iret dX19_list_38 rfl h
  · refine x_aload_n 0 dX19_list_11 rfl rfl rfl rfl rfl ?_
    refine y_getF 54 0 (c := 18) (z := 27) dX19_list_12 i83 rfl in_X19 q1292 rfl rfl rfl fn_83_0 (Nat.le_trans (Nat.le_of_ble_eq_true rfl) hn) rfl ?_
    refine x_aload_n 0 dX19_list_15 rfl rfl rfl rfl rfl ?_
    refine y_getF 40 18 (c := 18) (z := 98) dX19_list_16 i83 rfl in_X19 q1310 rfl rfl rfl fn_83_18 (Nat.le_trans (Nat.le_of_ble_eq_true rfl) hn) rfl ?_
    refine x_aload_n 0 dX19_list_19 rfl rfl rfl rfl rfl ?_
    refine y_get 119 19 (c := 18) (z := w 83 19) dX19_list_20 i83 rfl in_X19 q1311 rfl rfl rfl rfl rfl ?_
    refine x_iload_n 3 dX19_list_23 rfl rfl rfl ?_
    refine x_iadd dX19_list_24 rfl ?_
    obtain ⟨e1, h⟩ := h
    refine y_iald (z := w 98 (b_i ((w 83 19) + a3))) dX19_list_25 ⟨32000, i98, e1⟩ rfl rfl ?_
    refine x_iload_n 2 dX19_list_26 rfl rfl rfl ?_
    refine y_Vi 200 (M := mX8_cons) (As := [(0, w 98 (b_i ((w 83 19) + a3))), (0, a2)]) (st := []) dX19_list_27 i27 rfl q2635 q2063 q2064 q375 q2065 rfl hmX8_cons rfl rfl rfl rfl rfl rfl rfl rfl (k_mono h (fun r2 w3 h => ?_))
    refine x_istore_n 2 (ls' := [(2, 83), (9, 0), (0, r2), (0, a3)]) dX19_list_30 rfl rfl rfl rfl ?_
    refine x_iinc 3 (-1) (ls' := [(2, 83), (9, 0), (0, r2), (0, b_i (a3 + (-1)))]) dX19_list_31 rfl rfl rfl rfl ?_
    refine x_goto (-27) (q := 7) dX19_list_34 rfl ?_
    exact x_fg (fgk (fgk (fgk (fgk (fg0))))) h
abbrev LX19_tree_2 (d n : Nat) (Q : Int → bW → Prop) (X : String → bW → Prop) (a1 : Int) (a2 : Int) (a3 : Int) (w : bW) : Prop := b_Y (d + 1) mX19_tree n Q X 2 [(2, 83), (0, a1), (0, a2), (0, a3)] [] w
theorem rX19_tree {d n : Nat} {w : bW} {Q : Int → bW → Prop} {X : String → bW → Prop} (hn : 143 ≤ n) (a1 : Int) (a2 : Int) (h : LX19_tree_2 d n Q X a1 a2 0 w) : b_K (d + 1) mX19_tree [(2, 83), (0, a1), (0, a2)] n w Q X := by
  refine k_of (by decide) rfl rfl rfl (ls := [(2, 83), (0, a1), (0, a2), (9, 0)]) rfl ?_
  refine x_iconst 0 (z := 0) dX19_tree_0 rfl (by decide) rfl ?_
  refine x_istore_n 3 (ls' := [(2, 83), (0, a1), (0, a2), (0, 0)]) dX19_tree_1 rfl rfl rfl rfl ?_
  exact x_fg (fgk (fgk (fgk (fgk (fg0))))) h
theorem sX19_tree_2 {d n : Nat} {w : bW} {Q : Int → bW → Prop} {X : String → bW → Prop} (hn : 143 ≤ n) (a1 : Int) (a2 : Int) (a3 : Int) (h : if a2 ≤ a3 then (b_K d mX10_build [(2, 38), (2, 101), (0, 0), (0, a2), (0, 12000)] n w (fun r1 w2 => Q r1 w2) X) else (b_K d mX10_at [(2, 38), (0, a1), (0, a3)] n w (fun r3 w4 => b_K d mX8_cell [(2, 27), (0, r3), (0, 2)] n w4 (fun r5 w6 => (0 ≤ a3 ∧ a3 < 24000) ∧ ((0 ≤ b_i ((w6 83 19) + a3) ∧ b_i ((w6 83 19) + a3) < 32000) ∧ ((0 ≤ b_i (a3 + 12000) ∧ b_i (a3 + 12000) < 24000) ∧ (LX19_tree_2 d n Q X a1 a2 (b_i (a3 + 1)) (b_up (b_up w6 101 a3 r5) 101 (b_i (a3 + 12000)) (w6 98 (b_i ((w6 83 19) + a3)))))))) X) X)) : LX19_tree_2 d n Q X a1 a2 a3 w := by
  have i27 := iz27 (Nat.le_trans (Nat.le_of_ble_eq_true rfl) hn)
  have i38 := iz38 (Nat.le_trans (Nat.le_of_ble_eq_true rfl) hn)
  have i83 := iz83 (Nat.le_trans (Nat.le_of_ble_eq_true rfl) hn)
  have i98 := iz98 (Nat.le_trans (Nat.le_of_ble_eq_true rfl) hn)
  have i101 := iz101 (Nat.le_trans (Nat.le_of_ble_eq_true rfl) hn)
  refine x_iload_n 3 dX19_tree_2 rfl rfl rfl ?_
  refine x_iload_n 2 dX19_tree_3 rfl rfl rfl ?_
  refine x_icmp_ge (t := 57) 53 dX19_tree_4 rfl rfl (b_ite h (fun hc h => ?_) (fun hc h => ?_))
  · refine x_aload_n 0 dX19_tree_57 rfl rfl rfl rfl rfl ?_
    refine y_getF 74 5 (c := 18) (z := 38) dX19_tree_58 i83 rfl in_X19 q1297 rfl rfl rfl fn_83_5 (Nat.le_trans (Nat.le_of_ble_eq_true rfl) hn) rfl ?_
    refine x_aload_n 0 dX19_tree_61 rfl rfl rfl rfl rfl ?_
    refine y_getF 51 24 (c := 18) (z := 101) dX19_tree_62 i83 rfl in_X19 q1316 rfl rfl rfl fn_83_24 (Nat.le_trans (Nat.le_of_ble_eq_true rfl) hn) rfl ?_
    refine x_iconst 0 (z := 0) dX19_tree_65 rfl (by decide) rfl ?_
    refine x_iload_n 2 dX19_tree_66 rfl rfl rfl ?_
    refine x_sipush 12000 (z := 12000) dX19_tree_67 rfl (by decide) rfl ?_
    refine y_Vi 261 (M := mX10_build) (As := [(2, 101), (0, 0), (0, a2), (0, 12000)]) (st := []) dX19_tree_70 i38 rfl q2640 q2122 q2123 q377 q2124 rfl hmX10_build rfl rfl rfl rfl rfl rfl rfl rfl (k_mono h (fun r1 w2 h => ?_))
    exact y_iret dX19_tree_73 rfl h
  · refine x_aload_n 0 dX19_tree_7 rfl rfl rfl rfl rfl ?_
    refine y_getF 51 24 (c := 18) (z := 101) dX19_tree_8 i83 rfl in_X19 q1316 rfl rfl rfl fn_83_24 (Nat.le_trans (Nat.le_of_ble_eq_true rfl) hn) rfl ?_
    refine x_iload_n 3 dX19_tree_11 rfl rfl rfl ?_
    refine x_aload_n 0 dX19_tree_12 rfl rfl rfl rfl rfl ?_
    refine y_getF 54 0 (c := 18) (z := 27) dX19_tree_13 i83 rfl in_X19 q1292 rfl rfl rfl fn_83_0 (Nat.le_trans (Nat.le_of_ble_eq_true rfl) hn) rfl ?_
    refine x_aload_n 0 dX19_tree_16 rfl rfl rfl rfl rfl ?_
    refine y_getF 74 5 (c := 18) (z := 38) dX19_tree_17 i83 rfl in_X19 q1297 rfl rfl rfl fn_83_5 (Nat.le_trans (Nat.le_of_ble_eq_true rfl) hn) rfl ?_
    refine x_iload_n 1 dX19_tree_20 rfl rfl rfl ?_
    refine x_iload_n 3 dX19_tree_21 rfl rfl rfl ?_
    refine y_Vi 239 (M := mX10_at) (As := [(0, a1), (0, a3)]) (st := [(2, 27), (0, a3), (2, 101)]) dX19_tree_22 i38 rfl q2612 q2613 q2614 q377 q2615 rfl hmX10_at rfl rfl rfl rfl rfl rfl rfl rfl (k_mono h (fun r3 w4 h => ?_))
    refine x_iconst 2 (z := 2) dX19_tree_25 rfl (by decide) rfl ?_
    refine y_Vi 199 (M := mX8_cell) (As := [(0, r3), (0, 2)]) (st := [(0, a3), (2, 101)]) dX19_tree_26 i27 rfl q2595 q2010 q2011 q375 q2012 rfl hmX8_cell rfl rfl rfl rfl rfl rfl rfl rfl (k_mono h (fun r5 w6 h => ?_))
    obtain ⟨e7, h⟩ := h
    refine y_iast (x' := r5) dX19_tree_29 ⟨24000, i101, e7⟩ rfl rfl ?_
    refine x_aload_n 0 dX19_tree_30 rfl rfl rfl rfl rfl ?_
    refine y_getF 51 24 (c := 18) (z := 101) dX19_tree_31 i83 rfl in_X19 q1316 rfl rfl rfl fn_83_24 (Nat.le_trans (Nat.le_of_ble_eq_true rfl) hn) rfl ?_
    refine x_iload_n 3 dX19_tree_34 rfl rfl rfl ?_
    refine x_sipush 12000 (z := 12000) dX19_tree_35 rfl (by decide) rfl ?_
    refine x_iadd dX19_tree_38 rfl ?_
    refine x_aload_n 0 dX19_tree_39 rfl rfl rfl rfl rfl ?_
    refine y_getF 40 18 (c := 18) (z := 98) dX19_tree_40 i83 rfl in_X19 q1310 rfl rfl rfl fn_83_18 (Nat.le_trans (Nat.le_of_ble_eq_true rfl) hn) rfl ?_
    refine x_aload_n 0 dX19_tree_43 rfl rfl rfl rfl rfl ?_
    refine y_get 119 19 (c := 18) (z := w6 83 19) dX19_tree_44 i83 rfl in_X19 q1311 rfl rfl rfl rfl rfl ?_
    refine x_iload_n 3 dX19_tree_47 rfl rfl rfl ?_
    refine x_iadd dX19_tree_48 rfl ?_
    obtain ⟨e8, h⟩ := h
    refine y_iald (z := w6 98 (b_i ((w6 83 19) + a3))) dX19_tree_49 ⟨32000, i98, e8⟩ rfl rfl ?_
    obtain ⟨e9, h⟩ := h
    refine y_iast (x' := w6 98 (b_i ((w6 83 19) + a3))) dX19_tree_50 ⟨24000, i101, e9⟩ rfl rfl ?_
    refine x_iinc 3 1 (ls' := [(2, 83), (0, a1), (0, a2), (0, b_i (a3 + 1))]) dX19_tree_51 rfl rfl rfl rfl ?_
    refine x_goto (-52) (q := 2) dX19_tree_54 rfl ?_
    exact x_fg (fgk (fgk (fgk (fgk (fg0))))) h
theorem rX19_step {d n : Nat} {w : bW} {Q : Int → bW → Prop} {X : String → bW → Prop} (hn : 84 ≤ n) (a1 : Int) (a2 : Int) (h : if 37 < a2 then (if 51 < a2 then (if 63 < a2 then (if 85 < a2 then (if 94 < a2 then (b_K d mX19_ledger [(2, 83), (0, a1), (0, a2)] n w (fun r1 w2 => Q 0 w2) X) else (b_K d mX19_collection [(2, 83), (0, a1), (0, a2)] n w (fun r3 w4 => Q 0 w4) X)) else (b_K d mX19_plain [(2, 83), (0, a1), (0, a2)] n w (fun r5 w6 => Q 0 w6) X)) else (b_K d mX19_control [(2, 83), (0, a1), (0, a2)] n w (fun r7 w8 => Q 0 w8) X)) else (b_K d mX19_maker [(2, 83), (0, a1), (0, a2)] n w (fun r9 w10 => Q 0 w10) X)) else (b_K d mX19_shuffle [(2, 83), (0, a1), (0, a2)] n w (fun r11 w12 => Q 0 w12) X)) : b_K (d + 1) mX19_step [(2, 83), (0, a1), (0, a2)] n w Q X := by
  have i83 := iz83 (Nat.le_trans (Nat.le_of_ble_eq_true rfl) hn)
  refine k_of (by decide) rfl rfl rfl (ls := [(2, 83), (0, a1), (0, a2)]) rfl ?_
  refine x_iload_n 2 dX19_step_0 rfl rfl rfl ?_
  refine x_bipush 37 (z := 37) dX19_step_1 rfl (by decide) rfl ?_
  refine x_icmp_gt (t := 15) 12 dX19_step_3 rfl rfl (b_ite h (fun hc h => ?_) (fun hc h => ?_))
  · refine x_iload_n 2 dX19_step_15 rfl rfl rfl ?_
    refine x_bipush 51 (z := 51) dX19_step_16 rfl (by decide) rfl ?_
    refine x_icmp_gt (t := 30) 12 dX19_step_18 rfl rfl (b_ite h (fun hc h => ?_) (fun hc h => ?_))
    · refine x_iload_n 2 dX19_step_30 rfl rfl rfl ?_
      refine x_bipush 63 (z := 63) dX19_step_31 rfl (by decide) rfl ?_
      refine x_icmp_gt (t := 45) 12 dX19_step_33 rfl rfl (b_ite h (fun hc h => ?_) (fun hc h => ?_))
      · refine x_iload_n 2 dX19_step_45 rfl rfl rfl ?_
        refine x_bipush 85 (z := 85) dX19_step_46 rfl (by decide) rfl ?_
        refine x_icmp_gt (t := 60) 12 dX19_step_48 rfl rfl (b_ite h (fun hc h => ?_) (fun hc h => ?_))
        · refine x_iload_n 2 dX19_step_60 rfl rfl rfl ?_
          refine x_bipush 94 (z := 94) dX19_step_61 rfl (by decide) rfl ?_
          refine x_icmp_gt (t := 75) 12 dX19_step_63 rfl rfl (b_ite h (fun hc h => ?_) (fun hc h => ?_))
          · refine x_aload_n 0 dX19_step_75 rfl rfl rfl rfl rfl ?_
            refine x_iload_n 1 dX19_step_76 rfl rfl rfl ?_
            refine x_iload_n 2 dX19_step_77 rfl rfl rfl ?_
            refine y_Vv 180 (M := mX19_ledger) (As := [(0, a1), (0, a2)]) (st := []) dX19_step_78 i83 rfl q2968 q2970 qs168 q386 q2971 rfl hmX19_ledger rfl rfl rfl rfl rfl rfl rfl (k_mono h (fun r1 w2 h => ?_))
            exact y_vret dX19_step_81 rfl h
          · refine x_aload_n 0 dX19_step_66 rfl rfl rfl rfl rfl ?_
            refine x_iload_n 1 dX19_step_67 rfl rfl rfl ?_
            refine x_iload_n 2 dX19_step_68 rfl rfl rfl ?_
            refine y_Vv 177 (M := mX19_collection) (As := [(0, a1), (0, a2)]) (st := []) dX19_step_69 i83 rfl q2831 q2833 qs146 q386 q2834 rfl hmX19_collection rfl rfl rfl rfl rfl rfl rfl (k_mono h (fun r3 w4 h => ?_))
            refine x_goto 9 (q := 81) dX19_step_72 rfl ?_
            exact y_vret dX19_step_81 rfl h
        · refine x_aload_n 0 dX19_step_51 rfl rfl rfl rfl rfl ?_
          refine x_iload_n 1 dX19_step_52 rfl rfl rfl ?_
          refine x_iload_n 2 dX19_step_53 rfl rfl rfl ?_
          refine y_Vv 174 (M := mX19_plain) (As := [(0, a1), (0, a2)]) (st := []) dX19_step_54 i83 rfl q2700 q2702 qs136 q386 q2703 rfl hmX19_plain rfl rfl rfl rfl rfl rfl rfl (k_mono h (fun r5 w6 h => ?_))
          refine x_goto 24 (q := 81) dX19_step_57 rfl ?_
          exact y_vret dX19_step_81 rfl h
      · refine x_aload_n 0 dX19_step_36 rfl rfl rfl rfl rfl ?_
        refine x_iload_n 1 dX19_step_37 rfl rfl rfl ?_
        refine x_iload_n 2 dX19_step_38 rfl rfl rfl ?_
        refine y_Vv 171 (M := mX19_control) (As := [(0, a1), (0, a2)]) (st := []) dX19_step_39 i83 rfl q2671 q2673 qs130 q386 q2674 rfl hmX19_control rfl rfl rfl rfl rfl rfl rfl (k_mono h (fun r7 w8 h => ?_))
        refine x_goto 39 (q := 81) dX19_step_42 rfl ?_
        exact y_vret dX19_step_81 rfl h
    · refine x_aload_n 0 dX19_step_21 rfl rfl rfl rfl rfl ?_
      refine x_iload_n 1 dX19_step_22 rfl rfl rfl ?_
      refine x_iload_n 2 dX19_step_23 rfl rfl rfl ?_
      refine y_Vv 168 (M := mX19_maker) (As := [(0, a1), (0, a2)]) (st := []) dX19_step_24 i83 rfl q2659 q2661 qs127 q386 q2662 rfl hmX19_maker rfl rfl rfl rfl rfl rfl rfl (k_mono h (fun r9 w10 h => ?_))
      refine x_goto 54 (q := 81) dX19_step_27 rfl ?_
      exact y_vret dX19_step_81 rfl h
  · refine x_aload_n 0 dX19_step_6 rfl rfl rfl rfl rfl ?_
    refine x_iload_n 1 dX19_step_7 rfl rfl rfl ?_
    refine x_iload_n 2 dX19_step_8 rfl rfl rfl ?_
    refine y_Vv 165 (M := mX19_shuffle) (As := [(0, a1), (0, a2)]) (st := []) dX19_step_9 i83 rfl q2646 q2648 qs124 q386 q2649 rfl hmX19_shuffle rfl rfl rfl rfl rfl rfl rfl (k_mono h (fun r11 w12 h => ?_))
    refine x_goto 69 (q := 81) dX19_step_12 rfl ?_
    exact y_vret dX19_step_81 rfl h
abbrev LX19_shuffle_13 (d n : Nat) (Q : Int → bW → Prop) (X : String → bW → Prop) (a1 : Int) (a2 : Int) (s0 : Int) (s1 : Int) (w : bW) : Prop := b_Y (d + 1) mX19_shuffle n Q X 13 [(2, 83), (0, a1), (0, a2), (9, 0), (9, 0)] [(0, s0), (0, s1), (2, 83)] w
abbrev LX19_shuffle_151 (d n : Nat) (Q : Int → bW → Prop) (X : String → bW → Prop) (a1 : Int) (a3 : Int) (a4 : Int) (w : bW) : Prop := b_Y (d + 1) mX19_shuffle n Q X 151 [(2, 83), (0, a1), (9, 0), (0, a3), (0, a4)] [] w
theorem rX19_shuffle {d n : Nat} {w : bW} {Q : Int → bW → Prop} {X : String → bW → Prop} (hn : 143 ≤ n) (a1 : Int) (a2 : Int) (h : if a2 ≠ 37 then (LX19_shuffle_13 d n Q X a1 a2 1 a1 w) else (LX19_shuffle_13 d n Q X a1 a2 2 a1 w)) : b_K (d + 1) mX19_shuffle [(2, 83), (0, a1), (0, a2)] n w Q X := by
  refine k_of (by decide) rfl rfl rfl (ls := [(2, 83), (0, a1), (0, a2), (9, 0), (9, 0)]) rfl ?_
  refine x_aload_n 0 dX19_shuffle_0 rfl rfl rfl rfl rfl ?_
  refine x_iload_n 1 dX19_shuffle_1 rfl rfl rfl ?_
  refine x_iload_n 2 dX19_shuffle_2 rfl rfl rfl ?_
  refine x_bipush 37 (z := 37) dX19_shuffle_3 rfl (by decide) rfl ?_
  refine x_icmp_ne (t := 12) 7 dX19_shuffle_5 rfl rfl (b_ite h (fun hc h => ?_) (fun hc h => ?_))
  · refine x_iconst 1 (z := 1) dX19_shuffle_12 rfl (by decide) rfl ?_
    exact x_fg (fgk (fgk (fgk (fgk (fgk (fg0)))))) h
  · refine x_iconst 2 (z := 2) dX19_shuffle_8 rfl (by decide) rfl ?_
    refine x_goto 4 (q := 13) dX19_shuffle_9 rfl ?_
    exact x_fg (fgk (fgk (fgk (fgk (fgk (fg0)))))) h
theorem sX19_shuffle_13 {d n : Nat} {w : bW} {Q : Int → bW → Prop} {X : String → bW → Prop} (hn : 143 ≤ n) (a1 : Int) (a2 : Int) (s0 : Int) (s1 : Int) (h : b_K d mX19_cell [(2, 83), (0, s1), (0, s0)] n w (fun r1 w2 => if a2 ≠ 36 then (b_K d mX19_cell [(2, 83), (0, a1), (0, 3)] n w2 (fun r3 w4 => b_K d mX18_use [(2, 82), (1, b_i (10 + r3))] n w4 (fun r5 w6 => if a2 = 31 then (Q 0 (b_up w6 83 17 (b_i ((w6 83 17) - r1)))) else (if a2 = 32 then (b_K d mX19_at [(2, 83), (0, b_i (r1 - 1))] n w6 (fun r7 w8 => b_K d mX19_push [(2, 83), (0, r7)] n w8 (fun r9 w10 => Q 0 w10) X) X) else (if a2 = 33 then (b_K d mX19_turn [(2, 83), (0, 1), (0, 1)] n w6 (fun r11 w12 => Q 0 w12) X) else (if a2 = 37 then (LX19_shuffle_151 d n Q X a1 r1 0 w6) else ((if a2 ≠ 34 then (b_K d mX19_turn [(2, 83), (0, r1), (0, 0)] n w6 (fun r13 w14 => Q 0 w14) X) else (b_K d mX19_turn [(2, 83), (0, r1), (0, 1)] n w6 (fun r15 w16 => Q 0 w16) X))))))) X) X) else (b_K d mX8_length [(2, 27), (0, r1)] n w2 (fun r17 w18 => b_K d mX18_use [(2, 82), (1, b_i (10 + (b_div r17 8)))] n w18 (fun r19 w20 => b_K d mX19_push [(2, 83), (0, r1)] n w20 (fun r21 w22 => Q 0 w22) X) X) X)) X) : LX19_shuffle_13 d n Q X a1 a2 s0 s1 w := by
  have i27 := iz27 (Nat.le_trans (Nat.le_of_ble_eq_true rfl) hn)
  have i82 := iz82 (Nat.le_trans (Nat.le_of_ble_eq_true rfl) hn)
  have i83 := iz83 (Nat.le_trans (Nat.le_of_ble_eq_true rfl) hn)
  refine y_Vi 131 (M := mX19_cell) (As := [(0, s1), (0, s0)]) (st := []) dX19_shuffle_13 i83 rfl q2579 q2581 qs111 q386 q2582 rfl hmX19_cell rfl rfl rfl rfl rfl rfl rfl rfl (k_mono h (fun r1 w2 h => ?_))
  refine x_istore_n 3 (ls' := [(2, 83), (0, a1), (0, a2), (0, r1), (9, 0)]) dX19_shuffle_16 rfl rfl rfl rfl ?_
  refine x_iload_n 2 dX19_shuffle_17 rfl rfl rfl ?_
  refine x_bipush 36 (z := 36) dX19_shuffle_18 rfl (by decide) rfl ?_
  refine x_icmp_ne (t := 51) 31 dX19_shuffle_20 rfl rfl (b_ite h (fun hc h => ?_) (fun hc h => ?_))
  · refine x_aload_n 0 dX19_shuffle_51 rfl rfl rfl rfl rfl ?_
    refine y_getF 94 10 (c := 18) (z := 82) dX19_shuffle_52 i83 rfl in_X19 q1302 rfl rfl rfl fn_83_10 (Nat.le_trans (Nat.le_of_ble_eq_true rfl) hn) rfl ?_
    refine x_bipush 10 (z := 10) dX19_shuffle_55 rfl (by decide) rfl ?_
    refine x_aload_n 0 dX19_shuffle_57 rfl rfl rfl rfl rfl ?_
    refine x_iload_n 1 dX19_shuffle_58 rfl rfl rfl ?_
    refine x_iconst 3 (z := 3) dX19_shuffle_59 rfl (by decide) rfl ?_
    refine y_Vi 131 (M := mX19_cell) (As := [(0, a1), (0, 3)]) (st := [(0, 10), (2, 82)]) dX19_shuffle_60 i83 rfl q2579 q2581 qs111 q386 q2582 rfl hmX19_cell rfl rfl rfl rfl rfl rfl rfl rfl (k_mono h (fun r3 w4 h => ?_))
    refine x_iadd dX19_shuffle_63 rfl ?_
    refine x_i2l dX19_shuffle_64 rfl ?_
    refine y_Vv 183 (M := mX18_use) (As := [(1, b_i (10 + r3))]) (st := []) dX19_shuffle_65 i82 rfl q2607 q2500 q2501 q385 q2502 rfl hmX18_use rfl rfl rfl rfl rfl rfl rfl (k_mono h (fun r5 w6 h => ?_))
    refine x_iload_n 2 dX19_shuffle_68 rfl rfl rfl ?_
    refine b_itc h (fun hc h => ?_) (fun hn0 h => ?_)
    · have key : b_Y (d + 1) mX19_shuffle n Q X 112 [(2, 83), (0, a1), (0, a2), (0, r1), (9, 0)] [] w6 := by
        refine x_aload_n 0 dX19_shuffle_112 rfl rfl rfl rfl rfl ?_
        refine x_dup dX19_shuffle_113 rfl rfl ?_
        refine y_get 98 17 (c := 18) (z := w6 83 17) dX19_shuffle_114 i83 rfl in_X19 q1309 rfl rfl rfl rfl rfl ?_
        refine x_iload_n 3 dX19_shuffle_117 rfl rfl rfl ?_
        refine x_isub dX19_shuffle_118 rfl ?_
        refine x_put 98 17 (c := 18) dX19_shuffle_119 i83 rfl in_X19 tyX19_ok nmX19 q1309 rfl rfl rfl (Or.inl rfl) (Or.inl ⟨rfl, rfl⟩) rfl ?_
        refine x_goto 101 (q := 223) dX19_shuffle_122 rfl ?_
        exact y_vret dX19_shuffle_223 rfl h
      have e := hc
      exact x_tsI (off := 43) (t := 112) dX19_shuffle_69 (by rw [e]; decide) (by rw [e]; decide) (by rw [e]; rfl) rfl key
    · refine b_itc h (fun hc h => ?_) (fun hn1 h => ?_)
      · have key : b_Y (d + 1) mX19_shuffle n Q X 125 [(2, 83), (0, a1), (0, a2), (0, r1), (9, 0)] [] w6 := by
          refine x_aload_n 0 dX19_shuffle_125 rfl rfl rfl rfl rfl ?_
          refine x_aload_n 0 dX19_shuffle_126 rfl rfl rfl rfl rfl ?_
          refine x_iload_n 3 dX19_shuffle_127 rfl rfl rfl ?_
          refine x_iconst 1 (z := 1) dX19_shuffle_128 rfl (by decide) rfl ?_
          refine x_isub dX19_shuffle_129 rfl ?_
          refine y_Vi 102 (M := mX19_at) (As := [(0, b_i (r1 - 1))]) (st := [(2, 83)]) dX19_shuffle_130 i83 rfl q2651 q2653 qs125 q386 q2654 rfl hmX19_at rfl rfl rfl rfl rfl rfl rfl rfl (k_mono h (fun r7 w8 h => ?_))
          refine y_Vv 122 (M := mX19_push) (As := [(0, r7)]) (st := []) dX19_shuffle_133 i83 rfl q2567 q2569 qs108 q386 q2570 rfl hmX19_push rfl rfl rfl rfl rfl rfl rfl (k_mono h (fun r9 w10 h => ?_))
          refine x_goto 87 (q := 223) dX19_shuffle_136 rfl ?_
          exact y_vret dX19_shuffle_223 rfl h
        have e := hc
        exact x_tsI (off := 56) (t := 125) dX19_shuffle_69 (by rw [e]; decide) (by rw [e]; decide) (by rw [e]; rfl) rfl key
      · refine b_itc h (fun hc h => ?_) (fun hn2 h => ?_)
        · have key : b_Y (d + 1) mX19_shuffle n Q X 139 [(2, 83), (0, a1), (0, a2), (0, r1), (9, 0)] [] w6 := by
            refine x_aload_n 0 dX19_shuffle_139 rfl rfl rfl rfl rfl ?_
            refine x_iconst 1 (z := 1) dX19_shuffle_140 rfl (by decide) rfl ?_
            refine x_iconst 1 (z := 1) dX19_shuffle_141 rfl (by decide) rfl ?_
            refine y_Vv 189 (M := mX19_turn) (As := [(0, 1), (0, 1)]) (st := []) dX19_shuffle_142 i83 rfl q2655 q2657 qs126 q386 q2658 rfl hmX19_turn rfl rfl rfl rfl rfl rfl rfl (k_mono h (fun r11 w12 h => ?_))
            refine x_goto 78 (q := 223) dX19_shuffle_145 rfl ?_
            exact y_vret dX19_shuffle_223 rfl h
          have e := hc
          exact x_tsI (off := 70) (t := 139) dX19_shuffle_69 (by rw [e]; decide) (by rw [e]; decide) (by rw [e]; rfl) rfl key
        · refine b_itc h (fun hc h => ?_) (fun hn3 h => ?_)
          · have key : b_Y (d + 1) mX19_shuffle n Q X 148 [(2, 83), (0, a1), (0, a2), (0, r1), (9, 0)] [] w6 := by
              refine x_iconst 0 (z := 0) dX19_shuffle_148 rfl (by decide) rfl ?_
              refine x_istore 4 (ls' := [(2, 83), (0, a1), (0, a2), (0, r1), (0, 0)]) dX19_shuffle_149 rfl rfl rfl ?_
              exact x_fg (fgk (fgk (fgd (fgk (fgk (fg0)))))) h
            have e := hc
            exact x_tsI (off := 79) (t := 148) dX19_shuffle_69 (by rw [e]; decide) (by rw [e]; decide) (by rw [e]; rfl) rfl key
          · have key : b_Y (d + 1) mX19_shuffle n Q X 207 [(2, 83), (0, a1), (0, a2), (0, r1), (9, 0)] [] w6 := by
              refine x_aload_n 0 dX19_shuffle_207 rfl rfl rfl rfl rfl ?_
              refine x_iload_n 3 dX19_shuffle_208 rfl rfl rfl ?_
              refine x_iload_n 2 dX19_shuffle_209 rfl rfl rfl ?_
              refine x_bipush 34 (z := 34) dX19_shuffle_210 rfl (by decide) rfl ?_
              refine x_icmp_ne (t := 219) 7 dX19_shuffle_212 rfl rfl (b_ite h (fun hc h => ?_) (fun hc h => ?_))
              · refine x_iconst 0 (z := 0) dX19_shuffle_219 rfl (by decide) rfl ?_
                refine y_Vv 189 (M := mX19_turn) (As := [(0, r1), (0, 0)]) (st := []) dX19_shuffle_220 i83 rfl q2655 q2657 qs126 q386 q2658 rfl hmX19_turn rfl rfl rfl rfl rfl rfl rfl (k_mono h (fun r13 w14 h => ?_))
                exact y_vret dX19_shuffle_223 rfl h
              · refine x_iconst 1 (z := 1) dX19_shuffle_215 rfl (by decide) rfl ?_
                refine x_goto 4 (q := 220) dX19_shuffle_216 rfl ?_
                refine y_Vv 189 (M := mX19_turn) (As := [(0, r1), (0, 1)]) (st := []) dX19_shuffle_220 i83 rfl q2655 q2657 qs126 q386 q2658 rfl hmX19_turn rfl rfl rfl rfl rfl rfl rfl (k_mono h (fun r15 w16 h => ?_))
                exact y_vret dX19_shuffle_223 rfl h
            by_cases e : a2 = 34
            · exact x_tsI (off := 138) (t := 207) dX19_shuffle_69 (by rw [e]; decide) (by rw [e]; decide) (by rw [e]; rfl) rfl key
            have hx34 := e
            by_cases e : a2 = 35
            · exact x_tsI (off := 138) (t := 207) dX19_shuffle_69 (by rw [e]; decide) (by rw [e]; decide) (by rw [e]; rfl) rfl key
            have hx35 := e
            by_cases e : a2 = 36
            · exact x_tsI (off := 138) (t := 207) dX19_shuffle_69 (by rw [e]; decide) (by rw [e]; decide) (by rw [e]; rfl) rfl key
            have hx36 := e
            exact x_tsO (t := 207) dX19_shuffle_69 (by omega) rfl key
  · refine x_aload_n 0 dX19_shuffle_23 rfl rfl rfl rfl rfl ?_
    refine y_getF 94 10 (c := 18) (z := 82) dX19_shuffle_24 i83 rfl in_X19 q1302 rfl rfl rfl fn_83_10 (Nat.le_trans (Nat.le_of_ble_eq_true rfl) hn) rfl ?_
    refine x_bipush 10 (z := 10) dX19_shuffle_27 rfl (by decide) rfl ?_
    refine x_aload_n 0 dX19_shuffle_29 rfl rfl rfl rfl rfl ?_
    refine y_getF 54 0 (c := 18) (z := 27) dX19_shuffle_30 i83 rfl in_X19 q1292 rfl rfl rfl fn_83_0 (Nat.le_trans (Nat.le_of_ble_eq_true rfl) hn) rfl ?_
    refine x_iload_n 3 dX19_shuffle_33 rfl rfl rfl ?_
    refine y_Vi 106 (M := mX8_length) (As := [(0, r1)]) (st := [(0, 10), (2, 82)]) dX19_shuffle_34 i27 rfl q2650 q2028 q2029 q375 q2030 rfl hmX8_length rfl rfl rfl rfl rfl rfl rfl rfl (k_mono h (fun r17 w18 h => ?_))
    refine x_bipush 8 (z := 8) dX19_shuffle_37 rfl (by decide) rfl ?_
    refine x_idiv dX19_shuffle_39 (by decide) rfl ?_
    refine x_iadd dX19_shuffle_40 rfl ?_
    refine x_i2l dX19_shuffle_41 rfl ?_
    refine y_Vv 183 (M := mX18_use) (As := [(1, b_i (10 + (b_div r17 8)))]) (st := []) dX19_shuffle_42 i82 rfl q2607 q2500 q2501 q385 q2502 rfl hmX18_use rfl rfl rfl rfl rfl rfl rfl (k_mono h (fun r19 w20 h => ?_))
    refine x_aload_n 0 dX19_shuffle_45 rfl rfl rfl rfl rfl ?_
    refine x_iload_n 3 dX19_shuffle_46 rfl rfl rfl ?_
    refine y_Vv 122 (M := mX19_push) (As := [(0, r1)]) (st := []) dX19_shuffle_47 i83 rfl q2567 q2569 qs108 q386 q2570 rfl hmX19_push rfl rfl rfl rfl rfl rfl rfl (k_mono h (fun r21 w22 h => ?_))
    exact y_vret dX19_shuffle_50 rfl h
theorem sX19_shuffle_151 {d n : Nat} {w : bW} {Q : Int → bW → Prop} {X : String → bW → Prop} (hn : 143 ≤ n) (a1 : Int) (a3 : Int) (a4 : Int) (h : if a3 ≤ a4 then (b_K d mX19_frame [(2, 83), (0, 1), (0, w 83 22), (0, a3), (0, 0)] n w (fun r1 w2 => b_K d mX19_cell [(2, 83), (0, a1), (0, 1)] n w2 (fun r3 w4 => Q 0 (b_up w4 83 22 r3)) X) X) else (b_K d mX19_pop [(2, 83)] n (b_up w 83 19 (b_i ((w 83 19) + 1))) (fun r5 w6 => (0 ≤ w 83 19 ∧ w 83 19 < 32000) ∧ (LX19_shuffle_151 d n Q X a1 a3 (b_i (a4 + 1)) (b_up w6 98 (w 83 19) r5))) X)) : LX19_shuffle_151 d n Q X a1 a3 a4 w := by
  have i83 := iz83 (Nat.le_trans (Nat.le_of_ble_eq_true rfl) hn)
  have i98 := iz98 (Nat.le_trans (Nat.le_of_ble_eq_true rfl) hn)
  refine x_iload 4 dX19_shuffle_151 rfl rfl ?_
  refine x_iload_n 3 dX19_shuffle_153 rfl rfl rfl ?_
  refine x_icmp_ge (t := 183) 29 dX19_shuffle_154 rfl rfl (b_ite h (fun hc h => ?_) (fun hc h => ?_))
  · refine x_aload_n 0 dX19_shuffle_183 rfl rfl rfl rfl rfl ?_
    refine x_iconst 1 (z := 1) dX19_shuffle_184 rfl (by decide) rfl ?_
    refine x_aload_n 0 dX19_shuffle_185 rfl rfl rfl rfl rfl ?_
    refine y_get 125 22 (c := 18) (z := w 83 22) dX19_shuffle_186 i83 rfl in_X19 q1314 rfl rfl rfl rfl rfl ?_
    refine x_iload_n 3 dX19_shuffle_189 rfl rfl rfl ?_
    refine x_iconst 0 (z := 0) dX19_shuffle_190 rfl (by decide) rfl ?_
    refine y_Vv 159 (M := mX19_frame) (As := [(0, 1), (0, w 83 22), (0, a3), (0, 0)]) (st := []) dX19_shuffle_191 i83 rfl q2587 q2589 qs113 q386 q2590 rfl hmX19_frame rfl rfl rfl rfl rfl rfl rfl (k_mono h (fun r1 w2 h => ?_))
    refine x_aload_n 0 dX19_shuffle_194 rfl rfl rfl rfl rfl ?_
    refine x_aload_n 0 dX19_shuffle_195 rfl rfl rfl rfl rfl ?_
    refine x_iload_n 1 dX19_shuffle_196 rfl rfl rfl ?_
    refine x_iconst 1 (z := 1) dX19_shuffle_197 rfl (by decide) rfl ?_
    refine y_Vi 131 (M := mX19_cell) (As := [(0, a1), (0, 1)]) (st := [(2, 83)]) dX19_shuffle_198 i83 rfl q2579 q2581 qs111 q386 q2582 rfl hmX19_cell rfl rfl rfl rfl rfl rfl rfl rfl (k_mono h (fun r3 w4 h => ?_))
    refine x_put 125 22 (c := 18) dX19_shuffle_201 i83 rfl in_X19 tyX19_ok nmX19 q1314 rfl rfl rfl (Or.inl rfl) (Or.inl ⟨rfl, rfl⟩) rfl ?_
    refine x_goto 19 (q := 223) dX19_shuffle_204 rfl ?_
    exact y_vret dX19_shuffle_223 rfl h
  · refine x_aload_n 0 dX19_shuffle_157 rfl rfl rfl rfl rfl ?_
    refine y_getF 40 18 (c := 18) (z := 98) dX19_shuffle_158 i83 rfl in_X19 q1310 rfl rfl rfl fn_83_18 (Nat.le_trans (Nat.le_of_ble_eq_true rfl) hn) rfl ?_
    refine x_aload_n 0 dX19_shuffle_161 rfl rfl rfl rfl rfl ?_
    refine x_dup dX19_shuffle_162 rfl rfl ?_
    refine y_get 119 19 (c := 18) (z := w 83 19) dX19_shuffle_163 i83 rfl in_X19 q1311 rfl rfl rfl rfl rfl ?_
    refine x_dup_x1 dX19_shuffle_166 rfl rfl rfl ?_
    refine x_iconst 1 (z := 1) dX19_shuffle_167 rfl (by decide) rfl ?_
    refine x_iadd dX19_shuffle_168 rfl ?_
    refine x_put 119 19 (c := 18) dX19_shuffle_169 i83 rfl in_X19 tyX19_ok nmX19 q1311 rfl rfl rfl (Or.inl rfl) (Or.inl ⟨rfl, rfl⟩) rfl ?_
    refine x_aload_n 0 dX19_shuffle_172 rfl rfl rfl rfl rfl ?_
    refine y_Vi 139 (M := mX19_pop) (As := []) (st := [(0, w 83 19), (2, 98)]) dX19_shuffle_173 i83 rfl q2583 q2585 qs112 q386 q2586 rfl hmX19_pop rfl rfl rfl rfl rfl rfl rfl rfl (k_mono h (fun r5 w6 h => ?_))
    obtain ⟨e7, h⟩ := h
    refine y_iast (x' := r5) dX19_shuffle_176 ⟨32000, i98, e7⟩ rfl rfl ?_
    refine x_iinc 4 1 (ls' := [(2, 83), (0, a1), (9, 0), (0, a3), (0, b_i (a4 + 1))]) dX19_shuffle_177 rfl rfl rfl rfl ?_
    refine x_goto (-29) (q := 151) dX19_shuffle_180 rfl ?_
    exact x_fg (fgk (fgk (fgk (fgk (fgk (fg0)))))) h
theorem rX19_at {d n : Nat} {w : bW} {Q : Int → bW → Prop} {X : String → bW → Prop} (hn : 143 ≤ n) (a1 : Int) (h : (0 ≤ b_i ((b_i ((w 83 17) - 1)) - a1) ∧ b_i ((b_i ((w 83 17) - 1)) - a1) < 16000) ∧ (Q (w 97 (b_i ((b_i ((w 83 17) - 1)) - a1))) w)) : b_K (d + 1) mX19_at [(2, 83), (0, a1)] n w Q X := by
  have i83 := iz83 (Nat.le_trans (Nat.le_of_ble_eq_true rfl) hn)
  have i97 := iz97 (Nat.le_trans (Nat.le_of_ble_eq_true rfl) hn)
  refine k_of (by decide) rfl rfl rfl (ls := [(2, 83), (0, a1)]) rfl ?_
  refine x_aload_n 0 dX19_at_0 rfl rfl rfl rfl rfl ?_
  refine y_getF 36 16 (c := 18) (z := 97) dX19_at_1 i83 rfl in_X19 q1308 rfl rfl rfl fn_83_16 (Nat.le_trans (Nat.le_of_ble_eq_true rfl) hn) rfl ?_
  refine x_aload_n 0 dX19_at_4 rfl rfl rfl rfl rfl ?_
  refine y_get 98 17 (c := 18) (z := w 83 17) dX19_at_5 i83 rfl in_X19 q1309 rfl rfl rfl rfl rfl ?_
  refine x_iconst 1 (z := 1) dX19_at_8 rfl (by decide) rfl ?_
  refine x_isub dX19_at_9 rfl ?_
  refine x_iload_n 1 dX19_at_10 rfl rfl rfl ?_
  refine x_isub dX19_at_11 rfl ?_
  obtain ⟨e1, h⟩ := h
  refine y_iald (z := w 97 (b_i ((b_i ((w 83 17) - 1)) - a1))) dX19_at_12 ⟨16000, i97, e1⟩ rfl rfl ?_
  exact y_iret dX19_at_13 rfl h
abbrev LX19_turn_44 (d n : Nat) (Q : Int → bW → Prop) (X : String → bW → Prop) (a1 : Int) (a3 : Int) (a4 : Int) (a5 : Int) (a6 : Int) (w : bW) : Prop := b_Y (d + 1) mX19_turn n Q X 44 [(2, 83), (0, a1), (9, 0), (0, a3), (0, a4), (0, a5), (0, a6)] [] w
theorem rX19_turn {d n : Nat} {w : bW} {Q : Int → bW → Prop} {X : String → bW → Prop} (hn : 143 ≤ n) (a1 : Int) (a2 : Int) (h : if a2 = 0 then ((0 ≤ b_i ((w 83 17) - 1) ∧ b_i ((w 83 17) - 1) < 16000) ∧ (if a2 = 0 then (LX19_turn_44 d n Q X a1 (b_i ((w 83 17) - 1)) (w 97 (b_i ((w 83 17) - 1))) (-1) 0 w) else (LX19_turn_44 d n Q X a1 (b_i ((w 83 17) - 1)) (w 97 (b_i ((w 83 17) - 1))) 1 0 w))) else ((0 ≤ b_i ((b_i ((w 83 17) - 1)) - a1) ∧ b_i ((b_i ((w 83 17) - 1)) - a1) < 16000) ∧ (if a2 = 0 then (LX19_turn_44 d n Q X a1 (b_i ((b_i ((w 83 17) - 1)) - a1)) (w 97 (b_i ((b_i ((w 83 17) - 1)) - a1))) (-1) 0 w) else (LX19_turn_44 d n Q X a1 (b_i ((b_i ((w 83 17) - 1)) - a1)) (w 97 (b_i ((b_i ((w 83 17) - 1)) - a1))) 1 0 w)))) : b_K (d + 1) mX19_turn [(2, 83), (0, a1), (0, a2)] n w Q X := by
  have i83 := iz83 (Nat.le_trans (Nat.le_of_ble_eq_true rfl) hn)
  have i97 := iz97 (Nat.le_trans (Nat.le_of_ble_eq_true rfl) hn)
  refine k_of (by decide) rfl rfl rfl (ls := [(2, 83), (0, a1), (0, a2), (9, 0), (9, 0), (9, 0), (9, 0)]) rfl ?_
  refine x_iload_n 2 dX19_turn_0 rfl rfl rfl ?_
  refine x_if_eq (t := 15) 14 dX19_turn_1 rfl rfl (b_ite h (fun hc h => ?_) (fun hc h => ?_))
  · refine x_aload_n 0 dX19_turn_15 rfl rfl rfl rfl rfl ?_
    refine y_get 98 17 (c := 18) (z := w 83 17) dX19_turn_16 i83 rfl in_X19 q1309 rfl rfl rfl rfl rfl ?_
    refine x_iconst 1 (z := 1) dX19_turn_19 rfl (by decide) rfl ?_
    refine x_isub dX19_turn_20 rfl ?_
    refine x_istore_n 3 (ls' := [(2, 83), (0, a1), (0, a2), (0, b_i ((w 83 17) - 1)), (9, 0), (9, 0), (9, 0)]) dX19_turn_21 rfl rfl rfl rfl ?_
    refine x_aload_n 0 dX19_turn_22 rfl rfl rfl rfl rfl ?_
    refine y_getF 36 16 (c := 18) (z := 97) dX19_turn_23 i83 rfl in_X19 q1308 rfl rfl rfl fn_83_16 (Nat.le_trans (Nat.le_of_ble_eq_true rfl) hn) rfl ?_
    refine x_iload_n 3 dX19_turn_26 rfl rfl rfl ?_
    obtain ⟨e1, h⟩ := h
    refine y_iald (z := w 97 (b_i ((w 83 17) - 1))) dX19_turn_27 ⟨16000, i97, e1⟩ rfl rfl ?_
    refine x_istore 4 (ls' := [(2, 83), (0, a1), (0, a2), (0, b_i ((w 83 17) - 1)), (0, w 97 (b_i ((w 83 17) - 1))), (9, 0), (9, 0)]) dX19_turn_28 rfl rfl rfl ?_
    refine x_iload_n 2 dX19_turn_30 rfl rfl rfl ?_
    refine x_if_eq (t := 38) 7 dX19_turn_31 rfl rfl (b_ite h (fun hc h => ?_) (fun hc h => ?_))
    · refine x_iconst (-1) (z := (-1)) dX19_turn_38 rfl (by decide) rfl ?_
      refine x_istore 5 (ls' := [(2, 83), (0, a1), (0, a2), (0, b_i ((w 83 17) - 1)), (0, w 97 (b_i ((w 83 17) - 1))), (0, (-1)), (9, 0)]) dX19_turn_39 rfl rfl rfl ?_
      refine x_iconst 0 (z := 0) dX19_turn_41 rfl (by decide) rfl ?_
      refine x_istore 6 (ls' := [(2, 83), (0, a1), (0, a2), (0, b_i ((w 83 17) - 1)), (0, w 97 (b_i ((w 83 17) - 1))), (0, (-1)), (0, 0)]) dX19_turn_42 rfl rfl rfl ?_
      exact x_fg (fgk (fgk (fgd (fgk (fgk (fgk (fgk (fg0)))))))) h
    · refine x_iconst 1 (z := 1) dX19_turn_34 rfl (by decide) rfl ?_
      refine x_goto 4 (q := 39) dX19_turn_35 rfl ?_
      refine x_istore 5 (ls' := [(2, 83), (0, a1), (0, a2), (0, b_i ((w 83 17) - 1)), (0, w 97 (b_i ((w 83 17) - 1))), (0, 1), (9, 0)]) dX19_turn_39 rfl rfl rfl ?_
      refine x_iconst 0 (z := 0) dX19_turn_41 rfl (by decide) rfl ?_
      refine x_istore 6 (ls' := [(2, 83), (0, a1), (0, a2), (0, b_i ((w 83 17) - 1)), (0, w 97 (b_i ((w 83 17) - 1))), (0, 1), (0, 0)]) dX19_turn_42 rfl rfl rfl ?_
      exact x_fg (fgk (fgk (fgd (fgk (fgk (fgk (fgk (fg0)))))))) h
  · refine x_aload_n 0 dX19_turn_4 rfl rfl rfl rfl rfl ?_
    refine y_get 98 17 (c := 18) (z := w 83 17) dX19_turn_5 i83 rfl in_X19 q1309 rfl rfl rfl rfl rfl ?_
    refine x_iconst 1 (z := 1) dX19_turn_8 rfl (by decide) rfl ?_
    refine x_isub dX19_turn_9 rfl ?_
    refine x_iload_n 1 dX19_turn_10 rfl rfl rfl ?_
    refine x_isub dX19_turn_11 rfl ?_
    refine x_goto 9 (q := 21) dX19_turn_12 rfl ?_
    refine x_istore_n 3 (ls' := [(2, 83), (0, a1), (0, a2), (0, b_i ((b_i ((w 83 17) - 1)) - a1)), (9, 0), (9, 0), (9, 0)]) dX19_turn_21 rfl rfl rfl rfl ?_
    refine x_aload_n 0 dX19_turn_22 rfl rfl rfl rfl rfl ?_
    refine y_getF 36 16 (c := 18) (z := 97) dX19_turn_23 i83 rfl in_X19 q1308 rfl rfl rfl fn_83_16 (Nat.le_trans (Nat.le_of_ble_eq_true rfl) hn) rfl ?_
    refine x_iload_n 3 dX19_turn_26 rfl rfl rfl ?_
    obtain ⟨e2, h⟩ := h
    refine y_iald (z := w 97 (b_i ((b_i ((w 83 17) - 1)) - a1))) dX19_turn_27 ⟨16000, i97, e2⟩ rfl rfl ?_
    refine x_istore 4 (ls' := [(2, 83), (0, a1), (0, a2), (0, b_i ((b_i ((w 83 17) - 1)) - a1)), (0, w 97 (b_i ((b_i ((w 83 17) - 1)) - a1))), (9, 0), (9, 0)]) dX19_turn_28 rfl rfl rfl ?_
    refine x_iload_n 2 dX19_turn_30 rfl rfl rfl ?_
    refine x_if_eq (t := 38) 7 dX19_turn_31 rfl rfl (b_ite h (fun hc h => ?_) (fun hc h => ?_))
    · refine x_iconst (-1) (z := (-1)) dX19_turn_38 rfl (by decide) rfl ?_
      refine x_istore 5 (ls' := [(2, 83), (0, a1), (0, a2), (0, b_i ((b_i ((w 83 17) - 1)) - a1)), (0, w 97 (b_i ((b_i ((w 83 17) - 1)) - a1))), (0, (-1)), (9, 0)]) dX19_turn_39 rfl rfl rfl ?_
      refine x_iconst 0 (z := 0) dX19_turn_41 rfl (by decide) rfl ?_
      refine x_istore 6 (ls' := [(2, 83), (0, a1), (0, a2), (0, b_i ((b_i ((w 83 17) - 1)) - a1)), (0, w 97 (b_i ((b_i ((w 83 17) - 1)) - a1))), (0, (-1)), (0, 0)]) dX19_turn_42 rfl rfl rfl ?_
      exact x_fg (fgk (fgk (fgd (fgk (fgk (fgk (fgk (fg0)))))))) h
    · refine x_iconst 1 (z := 1) dX19_turn_34 rfl (by decide) rfl ?_
      refine x_goto 4 (q := 39) dX19_turn_35 rfl ?_
      refine x_istore 5 (ls' := [(2, 83), (0, a1), (0, a2), (0, b_i ((b_i ((w 83 17) - 1)) - a1)), (0, w 97 (b_i ((b_i ((w 83 17) - 1)) - a1))), (0, 1), (9, 0)]) dX19_turn_39 rfl rfl rfl ?_
      refine x_iconst 0 (z := 0) dX19_turn_41 rfl (by decide) rfl ?_
      refine x_istore 6 (ls' := [(2, 83), (0, a1), (0, a2), (0, b_i ((b_i ((w 83 17) - 1)) - a1)), (0, w 97 (b_i ((b_i ((w 83 17) - 1)) - a1))), (0, 1), (0, 0)]) dX19_turn_42 rfl rfl rfl ?_
      exact x_fg (fgk (fgk (fgd (fgk (fgk (fgk (fgk (fg0)))))))) h
theorem sX19_turn_44 {d n : Nat} {w : bW} {Q : Int → bW → Prop} {X : String → bW → Prop} (hn : 143 ≤ n) (a1 : Int) (a3 : Int) (a4 : Int) (a5 : Int) (a6 : Int) (h : if a1 ≤ a6 then ((0 ≤ a3 ∧ a3 < 16000) ∧ (Q 0 (b_up w 97 a3 a4))) else ((0 ≤ b_i (a3 + a5) ∧ b_i (a3 + a5) < 16000) ∧ ((0 ≤ a3 ∧ a3 < 16000) ∧ (LX19_turn_44 d n Q X a1 (b_i (a3 + a5)) a4 a5 (b_i (a6 + 1)) (b_up w 97 a3 (w 97 (b_i (a3 + a5)))))))) : LX19_turn_44 d n Q X a1 a3 a4 a5 a6 w := by
  have i83 := iz83 (Nat.le_trans (Nat.le_of_ble_eq_true rfl) hn)
  have i97 := iz97 (Nat.le_trans (Nat.le_of_ble_eq_true rfl) hn)
  refine x_iload 6 dX19_turn_44 rfl rfl ?_
  refine x_iload_n 1 dX19_turn_46 rfl rfl rfl ?_
  refine x_icmp_ge (t := 76) 29 dX19_turn_47 rfl rfl (b_ite h (fun hc h => ?_) (fun hc h => ?_))
  · refine x_aload_n 0 dX19_turn_76 rfl rfl rfl rfl rfl ?_
    refine y_getF 36 16 (c := 18) (z := 97) dX19_turn_77 i83 rfl in_X19 q1308 rfl rfl rfl fn_83_16 (Nat.le_trans (Nat.le_of_ble_eq_true rfl) hn) rfl ?_
    refine x_iload_n 3 dX19_turn_80 rfl rfl rfl ?_
    refine x_iload 4 dX19_turn_81 rfl rfl ?_
    obtain ⟨e1, h⟩ := h
    refine y_iast (x' := a4) dX19_turn_83 ⟨16000, i97, e1⟩ rfl rfl ?_
    exact y_vret dX19_turn_84 rfl h
  · refine x_aload_n 0 dX19_turn_50 rfl rfl rfl rfl rfl ?_
    refine y_getF 36 16 (c := 18) (z := 97) dX19_turn_51 i83 rfl in_X19 q1308 rfl rfl rfl fn_83_16 (Nat.le_trans (Nat.le_of_ble_eq_true rfl) hn) rfl ?_
    refine x_iload_n 3 dX19_turn_54 rfl rfl rfl ?_
    refine x_aload_n 0 dX19_turn_55 rfl rfl rfl rfl rfl ?_
    refine y_getF 36 16 (c := 18) (z := 97) dX19_turn_56 i83 rfl in_X19 q1308 rfl rfl rfl fn_83_16 (Nat.le_trans (Nat.le_of_ble_eq_true rfl) hn) rfl ?_
    refine x_iload_n 3 dX19_turn_59 rfl rfl rfl ?_
    refine x_iload 5 dX19_turn_60 rfl rfl ?_
    refine x_iadd dX19_turn_62 rfl ?_
    obtain ⟨e2, h⟩ := h
    refine y_iald (z := w 97 (b_i (a3 + a5))) dX19_turn_63 ⟨16000, i97, e2⟩ rfl rfl ?_
    obtain ⟨e3, h⟩ := h
    refine y_iast (x' := w 97 (b_i (a3 + a5))) dX19_turn_64 ⟨16000, i97, e3⟩ rfl rfl ?_
    refine x_iload_n 3 dX19_turn_65 rfl rfl rfl ?_
    refine x_iload 5 dX19_turn_66 rfl rfl ?_
    refine x_iadd dX19_turn_68 rfl ?_
    refine x_istore_n 3 (ls' := [(2, 83), (0, a1), (9, 0), (0, b_i (a3 + a5)), (0, a4), (0, a5), (0, a6)]) dX19_turn_69 rfl rfl rfl rfl ?_
    refine x_iinc 6 1 (ls' := [(2, 83), (0, a1), (9, 0), (0, b_i (a3 + a5)), (0, a4), (0, a5), (0, b_i (a6 + 1))]) dX19_turn_70 rfl rfl rfl rfl ?_
    refine x_goto (-29) (q := 44) dX19_turn_73 rfl ?_
    exact x_fg (fgk (fgk (fgk (fgk (fgk (fgk (fgk (fg0)))))))) h
theorem rX19_maker {d n : Nat} {w : bW} {Q : Int → bW → Prop} {X : String → bW → Prop} (hn : 143 ≤ n) (a1 : Int) (a2 : Int) (h : b_K d mX19_cell [(2, 83), (0, a1), (0, 3)] n w (fun r1 w2 => b_K d mX18_use [(2, 82), (1, b_i (10 + r1))] n w2 (fun r3 w4 => b_K d mX19_cell [(2, 83), (0, a1), (0, 1)] n w4 (fun r5 w6 => if a2 = 38 then (b_K d mX19_push [(2, 83), (0, 2)] n w6 (fun r7 w8 => Q 0 w8) X) else (if a2 = 39 then (b_K d mX19_comb [(2, 83), (0, r5)] n w6 (fun r9 w10 => Q 0 w10) X) else (if a2 = 40 then (b_K d mX19_uncomb [(2, 83), (0, r5)] n w6 (fun r11 w12 => Q 0 w12) X) else (if a2 = 41 ∨ a2 = 42 then (b_K d mX19_pop [(2, 83)] n w6 (fun r13 w14 => if a2 ≠ 41 then (b_K d mX8_cell [(2, 27), (0, r13), (0, 3)] n w14 (fun r15 w16 => b_K d mX19_push [(2, 83), (0, r15)] n w16 (fun r17 w18 => Q 0 w18) X) X) else (b_K d mX8_cell [(2, 27), (0, r13), (0, 2)] n w14 (fun r19 w20 => b_K d mX19_push [(2, 83), (0, r19)] n w20 (fun r21 w22 => Q 0 w22) X) X)) X) else (if a2 = 43 then (b_K d mX19_pop [(2, 83)] n w6 (fun r23 w24 => b_K d mX8_wrap [(2, 27), (0, 4), (0, r23)] n w24 (fun r25 w26 => b_K d mX19_push [(2, 83), (0, r25)] n w26 (fun r27 w28 => Q 0 w28) X) X) X) else (if a2 = 44 then (b_K d mX19_push [(2, 83), (0, 8)] n w6 (fun r29 w30 => Q 0 w30) X) else (if a2 = 45 ∨ a2 = 46 then (if a2 ≠ 45 then (b_K d mX19_pop [(2, 83)] n w6 (fun r31 w32 => b_K d mX8_wrap [(2, 27), (0, 6), (0, r31)] n w32 (fun r33 w34 => b_K d mX19_push [(2, 83), (0, r33)] n w34 (fun r35 w36 => Q 0 w36) X) X) X) else (b_K d mX19_pop [(2, 83)] n w6 (fun r37 w38 => b_K d mX8_wrap [(2, 27), (0, 5), (0, r37)] n w38 (fun r39 w40 => b_K d mX19_push [(2, 83), (0, r39)] n w40 (fun r41 w42 => Q 0 w42) X) X) X)) else (if a2 = 47 then (b_K d mX19_push [(2, 83), (0, 10)] n w6 (fun r43 w44 => Q 0 w44) X) else (if a2 = 48 then (b_K d mX19_pop [(2, 83)] n w6 (fun r45 w46 => b_K d mX19_pop [(2, 83)] n w46 (fun r47 w48 => b_K d mX8_cons [(2, 27), (0, r45), (0, r47)] n w48 (fun r49 w50 => b_K d mX19_push [(2, 83), (0, r49)] n w50 (fun r51 w52 => Q 0 w52) X) X) X) X) else ((b_K d mX19_push [(2, 83), (0, 12)] n w6 (fun r53 w54 => Q 0 w54) X))))))))))) X) X) X) : b_K (d + 1) mX19_maker [(2, 83), (0, a1), (0, a2)] n w Q X := by
  have i27 := iz27 (Nat.le_trans (Nat.le_of_ble_eq_true rfl) hn)
  have i82 := iz82 (Nat.le_trans (Nat.le_of_ble_eq_true rfl) hn)
  have i83 := iz83 (Nat.le_trans (Nat.le_of_ble_eq_true rfl) hn)
  refine k_of (by decide) rfl rfl rfl (ls := [(2, 83), (0, a1), (0, a2), (9, 0), (9, 0)]) rfl ?_
  refine x_aload_n 0 dX19_maker_0 rfl rfl rfl rfl rfl ?_
  refine y_getF 94 10 (c := 18) (z := 82) dX19_maker_1 i83 rfl in_X19 q1302 rfl rfl rfl fn_83_10 (Nat.le_trans (Nat.le_of_ble_eq_true rfl) hn) rfl ?_
  refine x_bipush 10 (z := 10) dX19_maker_4 rfl (by decide) rfl ?_
  refine x_aload_n 0 dX19_maker_6 rfl rfl rfl rfl rfl ?_
  refine x_iload_n 1 dX19_maker_7 rfl rfl rfl ?_
  refine x_iconst 3 (z := 3) dX19_maker_8 rfl (by decide) rfl ?_
  refine y_Vi 131 (M := mX19_cell) (As := [(0, a1), (0, 3)]) (st := [(0, 10), (2, 82)]) dX19_maker_9 i83 rfl q2579 q2581 qs111 q386 q2582 rfl hmX19_cell rfl rfl rfl rfl rfl rfl rfl rfl (k_mono h (fun r1 w2 h => ?_))
  refine x_iadd dX19_maker_12 rfl ?_
  refine x_i2l dX19_maker_13 rfl ?_
  refine y_Vv 183 (M := mX18_use) (As := [(1, b_i (10 + r1))]) (st := []) dX19_maker_14 i82 rfl q2607 q2500 q2501 q385 q2502 rfl hmX18_use rfl rfl rfl rfl rfl rfl rfl (k_mono h (fun r3 w4 h => ?_))
  refine x_aload_n 0 dX19_maker_17 rfl rfl rfl rfl rfl ?_
  refine x_iload_n 1 dX19_maker_18 rfl rfl rfl ?_
  refine x_iconst 1 (z := 1) dX19_maker_19 rfl (by decide) rfl ?_
  refine y_Vi 131 (M := mX19_cell) (As := [(0, a1), (0, 1)]) (st := []) dX19_maker_20 i83 rfl q2579 q2581 qs111 q386 q2582 rfl hmX19_cell rfl rfl rfl rfl rfl rfl rfl rfl (k_mono h (fun r5 w6 h => ?_))
  refine x_istore_n 3 (ls' := [(2, 83), (0, a1), (0, a2), (0, r5), (9, 0)]) dX19_maker_23 rfl rfl rfl rfl ?_
  refine x_iload_n 2 dX19_maker_24 rfl rfl rfl ?_
  refine b_itc h (fun hc h => ?_) (fun hn0 h => ?_)
  · have key : b_Y (d + 1) mX19_maker n Q X 84 [(2, 83), (0, a1), (0, a2), (0, r5), (9, 0)] [] w6 := by
      refine x_aload_n 0 dX19_maker_84 rfl rfl rfl rfl rfl ?_
      refine x_iconst 2 (z := 2) dX19_maker_85 rfl (by decide) rfl ?_
      refine y_Vv 122 (M := mX19_push) (As := [(0, 2)]) (st := []) dX19_maker_86 i83 rfl q2567 q2569 qs108 q386 q2570 rfl hmX19_push rfl rfl rfl rfl rfl rfl rfl (k_mono h (fun r7 w8 h => ?_))
      refine x_goto 147 (q := 236) dX19_maker_89 rfl ?_
      exact y_vret dX19_maker_236 rfl h
    have e := hc
    exact x_tsI (off := 59) (t := 84) dX19_maker_25 (by rw [e]; decide) (by rw [e]; decide) (by rw [e]; rfl) rfl key
  · refine b_itc h (fun hc h => ?_) (fun hn1 h => ?_)
    · have key : b_Y (d + 1) mX19_maker n Q X 92 [(2, 83), (0, a1), (0, a2), (0, r5), (9, 0)] [] w6 := by
        refine x_aload_n 0 dX19_maker_92 rfl rfl rfl rfl rfl ?_
        refine x_iload_n 3 dX19_maker_93 rfl rfl rfl ?_
        refine y_Vv 193 (M := mX19_comb) (As := [(0, r5)]) (st := []) dX19_maker_94 i83 rfl q2663 q2665 qs128 q386 q2666 rfl hmX19_comb rfl rfl rfl rfl rfl rfl rfl (k_mono h (fun r9 w10 h => ?_))
        refine x_goto 139 (q := 236) dX19_maker_97 rfl ?_
        exact y_vret dX19_maker_236 rfl h
      have e := hc
      exact x_tsI (off := 67) (t := 92) dX19_maker_25 (by rw [e]; decide) (by rw [e]; decide) (by rw [e]; rfl) rfl key
    · refine b_itc h (fun hc h => ?_) (fun hn2 h => ?_)
      · have key : b_Y (d + 1) mX19_maker n Q X 100 [(2, 83), (0, a1), (0, a2), (0, r5), (9, 0)] [] w6 := by
          refine x_aload_n 0 dX19_maker_100 rfl rfl rfl rfl rfl ?_
          refine x_iload_n 3 dX19_maker_101 rfl rfl rfl ?_
          refine y_Vv 196 (M := mX19_uncomb) (As := [(0, r5)]) (st := []) dX19_maker_102 i83 rfl q2667 q2669 qs129 q386 q2670 rfl hmX19_uncomb rfl rfl rfl rfl rfl rfl rfl (k_mono h (fun r11 w12 h => ?_))
          refine x_goto 131 (q := 236) dX19_maker_105 rfl ?_
          exact y_vret dX19_maker_236 rfl h
        have e := hc
        exact x_tsI (off := 75) (t := 100) dX19_maker_25 (by rw [e]; decide) (by rw [e]; decide) (by rw [e]; rfl) rfl key
      · refine b_itc h (fun hc h => ?_) (fun hn3 h => ?_)
        · have key : b_Y (d + 1) mX19_maker n Q X 108 [(2, 83), (0, a1), (0, a2), (0, r5), (9, 0)] [] w6 := by
            refine x_aload_n 0 dX19_maker_108 rfl rfl rfl rfl rfl ?_
            refine x_aload_n 0 dX19_maker_109 rfl rfl rfl rfl rfl ?_
            refine y_getF 54 0 (c := 18) (z := 27) dX19_maker_110 i83 rfl in_X19 q1292 rfl rfl rfl fn_83_0 (Nat.le_trans (Nat.le_of_ble_eq_true rfl) hn) rfl ?_
            refine x_aload_n 0 dX19_maker_113 rfl rfl rfl rfl rfl ?_
            refine y_Vi 139 (M := mX19_pop) (As := []) (st := [(2, 27), (2, 83)]) dX19_maker_114 i83 rfl q2583 q2585 qs112 q386 q2586 rfl hmX19_pop rfl rfl rfl rfl rfl rfl rfl rfl (k_mono h (fun r13 w14 h => ?_))
            refine x_iload_n 2 dX19_maker_117 rfl rfl rfl ?_
            refine x_bipush 41 (z := 41) dX19_maker_118 rfl (by decide) rfl ?_
            refine x_icmp_ne (t := 127) 7 dX19_maker_120 rfl rfl (b_ite h (fun hc h => ?_) (fun hc h => ?_))
            · refine x_iconst 3 (z := 3) dX19_maker_127 rfl (by decide) rfl ?_
              refine y_Vi 199 (M := mX8_cell) (As := [(0, r13), (0, 3)]) (st := [(2, 83)]) dX19_maker_128 i27 rfl q2595 q2010 q2011 q375 q2012 rfl hmX8_cell rfl rfl rfl rfl rfl rfl rfl rfl (k_mono h (fun r15 w16 h => ?_))
              refine y_Vv 122 (M := mX19_push) (As := [(0, r15)]) (st := []) dX19_maker_131 i83 rfl q2567 q2569 qs108 q386 q2570 rfl hmX19_push rfl rfl rfl rfl rfl rfl rfl (k_mono h (fun r17 w18 h => ?_))
              refine x_goto 102 (q := 236) dX19_maker_134 rfl ?_
              exact y_vret dX19_maker_236 rfl h
            · refine x_iconst 2 (z := 2) dX19_maker_123 rfl (by decide) rfl ?_
              refine x_goto 4 (q := 128) dX19_maker_124 rfl ?_
              refine y_Vi 199 (M := mX8_cell) (As := [(0, r13), (0, 2)]) (st := [(2, 83)]) dX19_maker_128 i27 rfl q2595 q2010 q2011 q375 q2012 rfl hmX8_cell rfl rfl rfl rfl rfl rfl rfl rfl (k_mono h (fun r19 w20 h => ?_))
              refine y_Vv 122 (M := mX19_push) (As := [(0, r19)]) (st := []) dX19_maker_131 i83 rfl q2567 q2569 qs108 q386 q2570 rfl hmX19_push rfl rfl rfl rfl rfl rfl rfl (k_mono h (fun r21 w22 h => ?_))
              refine x_goto 102 (q := 236) dX19_maker_134 rfl ?_
              exact y_vret dX19_maker_236 rfl h
          rcases hc with e | e
          · exact x_tsI (off := 83) (t := 108) dX19_maker_25 (by rw [e]; decide) (by rw [e]; decide) (by rw [e]; rfl) rfl key
          · exact x_tsI (off := 83) (t := 108) dX19_maker_25 (by rw [e]; decide) (by rw [e]; decide) (by rw [e]; rfl) rfl key
        · refine b_itc h (fun hc h => ?_) (fun hn4 h => ?_)
          · have key : b_Y (d + 1) mX19_maker n Q X 137 [(2, 83), (0, a1), (0, a2), (0, r5), (9, 0)] [] w6 := by
              refine x_aload_n 0 dX19_maker_137 rfl rfl rfl rfl rfl ?_
              refine x_aload_n 0 dX19_maker_138 rfl rfl rfl rfl rfl ?_
              refine y_getF 54 0 (c := 18) (z := 27) dX19_maker_139 i83 rfl in_X19 q1292 rfl rfl rfl fn_83_0 (Nat.le_trans (Nat.le_of_ble_eq_true rfl) hn) rfl ?_
              refine x_iconst 4 (z := 4) dX19_maker_142 rfl (by decide) rfl ?_
              refine x_aload_n 0 dX19_maker_143 rfl rfl rfl rfl rfl ?_
              refine y_Vi 139 (M := mX19_pop) (As := []) (st := [(0, 4), (2, 27), (2, 83)]) dX19_maker_144 i83 rfl q2583 q2585 qs112 q386 q2586 rfl hmX19_pop rfl rfl rfl rfl rfl rfl rfl rfl (k_mono h (fun r23 w24 h => ?_))
              refine y_Vi 156 (M := mX8_wrap) (As := [(0, 4), (0, r23)]) (st := [(2, 83)]) dX19_maker_147 i27 rfl q2641 q2024 q2025 q375 q2026 rfl hmX8_wrap rfl rfl rfl rfl rfl rfl rfl rfl (k_mono h (fun r25 w26 h => ?_))
              refine y_Vv 122 (M := mX19_push) (As := [(0, r25)]) (st := []) dX19_maker_150 i83 rfl q2567 q2569 qs108 q386 q2570 rfl hmX19_push rfl rfl rfl rfl rfl rfl rfl (k_mono h (fun r27 w28 h => ?_))
              refine x_goto 83 (q := 236) dX19_maker_153 rfl ?_
              exact y_vret dX19_maker_236 rfl h
            have e := hc
            exact x_tsI (off := 112) (t := 137) dX19_maker_25 (by rw [e]; decide) (by rw [e]; decide) (by rw [e]; rfl) rfl key
          · refine b_itc h (fun hc h => ?_) (fun hn5 h => ?_)
            · have key : b_Y (d + 1) mX19_maker n Q X 156 [(2, 83), (0, a1), (0, a2), (0, r5), (9, 0)] [] w6 := by
                refine x_aload_n 0 dX19_maker_156 rfl rfl rfl rfl rfl ?_
                refine x_bipush 8 (z := 8) dX19_maker_157 rfl (by decide) rfl ?_
                refine y_Vv 122 (M := mX19_push) (As := [(0, 8)]) (st := []) dX19_maker_159 i83 rfl q2567 q2569 qs108 q386 q2570 rfl hmX19_push rfl rfl rfl rfl rfl rfl rfl (k_mono h (fun r29 w30 h => ?_))
                refine x_goto 74 (q := 236) dX19_maker_162 rfl ?_
                exact y_vret dX19_maker_236 rfl h
              have e := hc
              exact x_tsI (off := 131) (t := 156) dX19_maker_25 (by rw [e]; decide) (by rw [e]; decide) (by rw [e]; rfl) rfl key
            · refine b_itc h (fun hc h => ?_) (fun hn6 h => ?_)
              · have key : b_Y (d + 1) mX19_maker n Q X 165 [(2, 83), (0, a1), (0, a2), (0, r5), (9, 0)] [] w6 := by
                  refine x_aload_n 0 dX19_maker_165 rfl rfl rfl rfl rfl ?_
                  refine x_aload_n 0 dX19_maker_166 rfl rfl rfl rfl rfl ?_
                  refine y_getF 54 0 (c := 18) (z := 27) dX19_maker_167 i83 rfl in_X19 q1292 rfl rfl rfl fn_83_0 (Nat.le_trans (Nat.le_of_ble_eq_true rfl) hn) rfl ?_
                  refine x_iload_n 2 dX19_maker_170 rfl rfl rfl ?_
                  refine x_bipush 45 (z := 45) dX19_maker_171 rfl (by decide) rfl ?_
                  refine x_icmp_ne (t := 180) 7 dX19_maker_173 rfl rfl (b_ite h (fun hc h => ?_) (fun hc h => ?_))
                  · refine x_bipush 6 (z := 6) dX19_maker_180 rfl (by decide) rfl ?_
                    refine x_aload_n 0 dX19_maker_182 rfl rfl rfl rfl rfl ?_
                    refine y_Vi 139 (M := mX19_pop) (As := []) (st := [(0, 6), (2, 27), (2, 83)]) dX19_maker_183 i83 rfl q2583 q2585 qs112 q386 q2586 rfl hmX19_pop rfl rfl rfl rfl rfl rfl rfl rfl (k_mono h (fun r31 w32 h => ?_))
                    refine y_Vi 156 (M := mX8_wrap) (As := [(0, 6), (0, r31)]) (st := [(2, 83)]) dX19_maker_186 i27 rfl q2641 q2024 q2025 q375 q2026 rfl hmX8_wrap rfl rfl rfl rfl rfl rfl rfl rfl (k_mono h (fun r33 w34 h => ?_))
                    refine y_Vv 122 (M := mX19_push) (As := [(0, r33)]) (st := []) dX19_maker_189 i83 rfl q2567 q2569 qs108 q386 q2570 rfl hmX19_push rfl rfl rfl rfl rfl rfl rfl (k_mono h (fun r35 w36 h => ?_))
                    refine x_goto 44 (q := 236) dX19_maker_192 rfl ?_
                    exact y_vret dX19_maker_236 rfl h
                  · refine x_iconst 5 (z := 5) dX19_maker_176 rfl (by decide) rfl ?_
                    refine x_goto 5 (q := 182) dX19_maker_177 rfl ?_
                    refine x_aload_n 0 dX19_maker_182 rfl rfl rfl rfl rfl ?_
                    refine y_Vi 139 (M := mX19_pop) (As := []) (st := [(0, 5), (2, 27), (2, 83)]) dX19_maker_183 i83 rfl q2583 q2585 qs112 q386 q2586 rfl hmX19_pop rfl rfl rfl rfl rfl rfl rfl rfl (k_mono h (fun r37 w38 h => ?_))
                    refine y_Vi 156 (M := mX8_wrap) (As := [(0, 5), (0, r37)]) (st := [(2, 83)]) dX19_maker_186 i27 rfl q2641 q2024 q2025 q375 q2026 rfl hmX8_wrap rfl rfl rfl rfl rfl rfl rfl rfl (k_mono h (fun r39 w40 h => ?_))
                    refine y_Vv 122 (M := mX19_push) (As := [(0, r39)]) (st := []) dX19_maker_189 i83 rfl q2567 q2569 qs108 q386 q2570 rfl hmX19_push rfl rfl rfl rfl rfl rfl rfl (k_mono h (fun r41 w42 h => ?_))
                    refine x_goto 44 (q := 236) dX19_maker_192 rfl ?_
                    exact y_vret dX19_maker_236 rfl h
                rcases hc with e | e
                · exact x_tsI (off := 140) (t := 165) dX19_maker_25 (by rw [e]; decide) (by rw [e]; decide) (by rw [e]; rfl) rfl key
                · exact x_tsI (off := 140) (t := 165) dX19_maker_25 (by rw [e]; decide) (by rw [e]; decide) (by rw [e]; rfl) rfl key
              · refine b_itc h (fun hc h => ?_) (fun hn7 h => ?_)
                · have key : b_Y (d + 1) mX19_maker n Q X 195 [(2, 83), (0, a1), (0, a2), (0, r5), (9, 0)] [] w6 := by
                    refine x_aload_n 0 dX19_maker_195 rfl rfl rfl rfl rfl ?_
                    refine x_bipush 10 (z := 10) dX19_maker_196 rfl (by decide) rfl ?_
                    refine y_Vv 122 (M := mX19_push) (As := [(0, 10)]) (st := []) dX19_maker_198 i83 rfl q2567 q2569 qs108 q386 q2570 rfl hmX19_push rfl rfl rfl rfl rfl rfl rfl (k_mono h (fun r43 w44 h => ?_))
                    refine x_goto 35 (q := 236) dX19_maker_201 rfl ?_
                    exact y_vret dX19_maker_236 rfl h
                  have e := hc
                  exact x_tsI (off := 170) (t := 195) dX19_maker_25 (by rw [e]; decide) (by rw [e]; decide) (by rw [e]; rfl) rfl key
                · refine b_itc h (fun hc h => ?_) (fun hn8 h => ?_)
                  · have key : b_Y (d + 1) mX19_maker n Q X 204 [(2, 83), (0, a1), (0, a2), (0, r5), (9, 0)] [] w6 := by
                      refine x_aload_n 0 dX19_maker_204 rfl rfl rfl rfl rfl ?_
                      refine y_Vi 139 (M := mX19_pop) (As := []) (st := []) dX19_maker_205 i83 rfl q2583 q2585 qs112 q386 q2586 rfl hmX19_pop rfl rfl rfl rfl rfl rfl rfl rfl (k_mono h (fun r45 w46 h => ?_))
                      refine x_istore 4 (ls' := [(2, 83), (0, a1), (0, a2), (0, r5), (0, r45)]) dX19_maker_208 rfl rfl rfl ?_
                      refine x_aload_n 0 dX19_maker_210 rfl rfl rfl rfl rfl ?_
                      refine x_aload_n 0 dX19_maker_211 rfl rfl rfl rfl rfl ?_
                      refine y_getF 54 0 (c := 18) (z := 27) dX19_maker_212 i83 rfl in_X19 q1292 rfl rfl rfl fn_83_0 (Nat.le_trans (Nat.le_of_ble_eq_true rfl) hn) rfl ?_
                      refine x_iload 4 dX19_maker_215 rfl rfl ?_
                      refine x_aload_n 0 dX19_maker_217 rfl rfl rfl rfl rfl ?_
                      refine y_Vi 139 (M := mX19_pop) (As := []) (st := [(0, r45), (2, 27), (2, 83)]) dX19_maker_218 i83 rfl q2583 q2585 qs112 q386 q2586 rfl hmX19_pop rfl rfl rfl rfl rfl rfl rfl rfl (k_mono h (fun r47 w48 h => ?_))
                      refine y_Vi 200 (M := mX8_cons) (As := [(0, r45), (0, r47)]) (st := [(2, 83)]) dX19_maker_221 i27 rfl q2635 q2063 q2064 q375 q2065 rfl hmX8_cons rfl rfl rfl rfl rfl rfl rfl rfl (k_mono h (fun r49 w50 h => ?_))
                      refine y_Vv 122 (M := mX19_push) (As := [(0, r49)]) (st := []) dX19_maker_224 i83 rfl q2567 q2569 qs108 q386 q2570 rfl hmX19_push rfl rfl rfl rfl rfl rfl rfl (k_mono h (fun r51 w52 h => ?_))
                      refine x_goto 9 (q := 236) dX19_maker_227 rfl ?_
                      exact y_vret dX19_maker_236 rfl h
                    have e := hc
                    exact x_tsI (off := 179) (t := 204) dX19_maker_25 (by rw [e]; decide) (by rw [e]; decide) (by rw [e]; rfl) rfl key
                  · have key : b_Y (d + 1) mX19_maker n Q X 230 [(2, 83), (0, a1), (0, a2), (0, r5), (9, 0)] [] w6 := by
                      refine x_aload_n 0 dX19_maker_230 rfl rfl rfl rfl rfl ?_
                      refine x_bipush 12 (z := 12) dX19_maker_231 rfl (by decide) rfl ?_
                      refine y_Vv 122 (M := mX19_push) (As := [(0, 12)]) (st := []) dX19_maker_233 i83 rfl q2567 q2569 qs108 q386 q2570 rfl hmX19_push rfl rfl rfl rfl rfl rfl rfl (k_mono h (fun r53 w54 h => ?_))
                      exact y_vret dX19_maker_236 rfl h
                    exact x_tsO (t := 230) dX19_maker_25 (by omega) rfl key
abbrev LX19_comb_12 (d n : Nat) (Q : Int → bW → Prop) (X : String → bW → Prop) (a1 : Int) (a2 : Int) (a3 : Int) (w : bW) : Prop := b_Y (d + 1) mX19_comb n Q X 12 [(2, 83), (0, a1), (0, a2), (0, a3)] [] w
theorem rX19_comb {d n : Nat} {w : bW} {Q : Int → bW → Prop} {X : String → bW → Prop} (hn : 143 ≤ n) (a1 : Int) (h : b_K d mX19_at [(2, 83), (0, b_i (a1 - 1))] n w (fun r1 w2 => LX19_comb_12 d n Q X a1 r1 (b_i (a1 - 2)) w2) X) : b_K (d + 1) mX19_comb [(2, 83), (0, a1)] n w Q X := by
  have i83 := iz83 (Nat.le_trans (Nat.le_of_ble_eq_true rfl) hn)
  refine k_of (by decide) rfl rfl rfl (ls := [(2, 83), (0, a1), (9, 0), (9, 0)]) rfl ?_
  refine x_aload_n 0 dX19_comb_0 rfl rfl rfl rfl rfl ?_
  refine x_iload_n 1 dX19_comb_1 rfl rfl rfl ?_
  refine x_iconst 1 (z := 1) dX19_comb_2 rfl (by decide) rfl ?_
  refine x_isub dX19_comb_3 rfl ?_
  refine y_Vi 102 (M := mX19_at) (As := [(0, b_i (a1 - 1))]) (st := []) dX19_comb_4 i83 rfl q2651 q2653 qs125 q386 q2654 rfl hmX19_at rfl rfl rfl rfl rfl rfl rfl rfl (k_mono h (fun r1 w2 h => ?_))
  refine x_istore_n 2 (ls' := [(2, 83), (0, a1), (0, r1), (9, 0)]) dX19_comb_7 rfl rfl rfl rfl ?_
  refine x_iload_n 1 dX19_comb_8 rfl rfl rfl ?_
  refine x_iconst 2 (z := 2) dX19_comb_9 rfl (by decide) rfl ?_
  refine x_isub dX19_comb_10 rfl ?_
  refine x_istore_n 3 (ls' := [(2, 83), (0, a1), (0, r1), (0, b_i (a1 - 2))]) dX19_comb_11 rfl rfl rfl rfl ?_
  exact x_fg (fgk (fgk (fgk (fgk (fg0))))) h
theorem sX19_comb_12 {d n : Nat} {w : bW} {Q : Int → bW → Prop} {X : String → bW → Prop} (hn : 143 ≤ n) (a1 : Int) (a2 : Int) (a3 : Int) (h : if a3 < 0 then (b_K d mX19_push [(2, 83), (0, a2)] n (b_up w 83 17 (b_i ((w 83 17) - a1))) (fun r1 w2 => Q 0 w2) X) else (b_K d mX19_at [(2, 83), (0, a3)] n w (fun r3 w4 => b_K d mX8_pair [(2, 27), (0, r3), (0, a2)] n w4 (fun r5 w6 => LX19_comb_12 d n Q X a1 r5 (b_i (a3 + (-1))) w6) X) X)) : LX19_comb_12 d n Q X a1 a2 a3 w := by
  have i27 := iz27 (Nat.le_trans (Nat.le_of_ble_eq_true rfl) hn)
  have i83 := iz83 (Nat.le_trans (Nat.le_of_ble_eq_true rfl) hn)
  refine x_iload_n 3 dX19_comb_12 rfl rfl rfl ?_
  refine x_if_lt (t := 36) 23 dX19_comb_13 rfl rfl (b_ite h (fun hc h => ?_) (fun hc h => ?_))
  · refine x_aload_n 0 dX19_comb_36 rfl rfl rfl rfl rfl ?_
    refine x_dup dX19_comb_37 rfl rfl ?_
    refine y_get 98 17 (c := 18) (z := w 83 17) dX19_comb_38 i83 rfl in_X19 q1309 rfl rfl rfl rfl rfl ?_
    refine x_iload_n 1 dX19_comb_41 rfl rfl rfl ?_
    refine x_isub dX19_comb_42 rfl ?_
    refine x_put 98 17 (c := 18) dX19_comb_43 i83 rfl in_X19 tyX19_ok nmX19 q1309 rfl rfl rfl (Or.inl rfl) (Or.inl ⟨rfl, rfl⟩) rfl ?_
    refine x_aload_n 0 dX19_comb_46 rfl rfl rfl rfl rfl ?_
    refine x_iload_n 2 dX19_comb_47 rfl rfl rfl ?_
    refine y_Vv 122 (M := mX19_push) (As := [(0, a2)]) (st := []) dX19_comb_48 i83 rfl q2567 q2569 qs108 q386 q2570 rfl hmX19_push rfl rfl rfl rfl rfl rfl rfl (k_mono h (fun r1 w2 h => ?_))
    exact y_vret dX19_comb_51 rfl h
  · refine x_aload_n 0 dX19_comb_16 rfl rfl rfl rfl rfl ?_
    refine y_getF 54 0 (c := 18) (z := 27) dX19_comb_17 i83 rfl in_X19 q1292 rfl rfl rfl fn_83_0 (Nat.le_trans (Nat.le_of_ble_eq_true rfl) hn) rfl ?_
    refine x_aload_n 0 dX19_comb_20 rfl rfl rfl rfl rfl ?_
    refine x_iload_n 3 dX19_comb_21 rfl rfl rfl ?_
    refine y_Vi 102 (M := mX19_at) (As := [(0, a3)]) (st := [(2, 27)]) dX19_comb_22 i83 rfl q2651 q2653 qs125 q386 q2654 rfl hmX19_at rfl rfl rfl rfl rfl rfl rfl rfl (k_mono h (fun r3 w4 h => ?_))
    refine x_iload_n 2 dX19_comb_25 rfl rfl rfl ?_
    refine y_Vi 203 (M := mX8_pair) (As := [(0, r3), (0, a2)]) (st := []) dX19_comb_26 i27 rfl q2626 q2054 q2055 q375 q2056 rfl hmX8_pair rfl rfl rfl rfl rfl rfl rfl rfl (k_mono h (fun r5 w6 h => ?_))
    refine x_istore_n 2 (ls' := [(2, 83), (0, a1), (0, r5), (0, a3)]) dX19_comb_29 rfl rfl rfl rfl ?_
    refine x_iinc 3 (-1) (ls' := [(2, 83), (0, a1), (0, r5), (0, b_i (a3 + (-1)))]) dX19_comb_30 rfl rfl rfl rfl ?_
    refine x_goto (-21) (q := 12) dX19_comb_33 rfl ?_
    exact x_fg (fgk (fgk (fgk (fgk (fg0))))) h
abbrev LX19_uncomb_7 (d n : Nat) (Q : Int → bW → Prop) (X : String → bW → Prop) (a1 : Int) (a2 : Int) (a3 : Int) (w : bW) : Prop := b_Y (d + 1) mX19_uncomb n Q X 7 [(2, 83), (0, a1), (0, a2), (0, a3)] [] w
theorem rX19_uncomb {d n : Nat} {w : bW} {Q : Int → bW → Prop} {X : String → bW → Prop} (hn : 143 ≤ n) (a1 : Int) (h : b_K d mX19_pop [(2, 83)] n w (fun r1 w2 => LX19_uncomb_7 d n Q X a1 r1 0 w2) X) : b_K (d + 1) mX19_uncomb [(2, 83), (0, a1)] n w Q X := by
  have i83 := iz83 (Nat.le_trans (Nat.le_of_ble_eq_true rfl) hn)
  refine k_of (by decide) rfl rfl rfl (ls := [(2, 83), (0, a1), (9, 0), (9, 0)]) rfl ?_
  refine x_aload_n 0 dX19_uncomb_0 rfl rfl rfl rfl rfl ?_
  refine y_Vi 139 (M := mX19_pop) (As := []) (st := []) dX19_uncomb_1 i83 rfl q2583 q2585 qs112 q386 q2586 rfl hmX19_pop rfl rfl rfl rfl rfl rfl rfl rfl (k_mono h (fun r1 w2 h => ?_))
  refine x_istore_n 2 (ls' := [(2, 83), (0, a1), (0, r1), (9, 0)]) dX19_uncomb_4 rfl rfl rfl rfl ?_
  refine x_iconst 0 (z := 0) dX19_uncomb_5 rfl (by decide) rfl ?_
  refine x_istore_n 3 (ls' := [(2, 83), (0, a1), (0, r1), (0, 0)]) dX19_uncomb_6 rfl rfl rfl rfl ?_
  exact x_fg (fgk (fgk (fgk (fgk (fg0))))) h
theorem sX19_uncomb_7 {d n : Nat} {w : bW} {Q : Int → bW → Prop} {X : String → bW → Prop} (hn : 143 ≤ n) (a1 : Int) (a2 : Int) (a3 : Int) (h : if b_i (a1 - 1) ≤ a3 then ((0 ≤ w 83 17 ∧ w 83 17 < 16000) ∧ (Q 0 (b_up (b_up w 97 (w 83 17) a2) 83 17 (b_i ((w 83 17) + a1))))) else (b_K d mX8_cell [(2, 27), (0, a2), (0, 2)] n w (fun r2 w3 => (0 ≤ b_i ((b_i ((b_i ((w 83 17) + a1)) - 1)) - a3) ∧ b_i ((b_i ((b_i ((w 83 17) + a1)) - 1)) - a3) < 16000) ∧ (b_K d mX8_cell [(2, 27), (0, a2), (0, 3)] n (b_up w3 97 (b_i ((b_i ((b_i ((w 83 17) + a1)) - 1)) - a3)) r2) (fun r5 w6 => LX19_uncomb_7 d n Q X a1 r5 (b_i (a3 + 1)) w6) X)) X)) : LX19_uncomb_7 d n Q X a1 a2 a3 w := by
  have i27 := iz27 (Nat.le_trans (Nat.le_of_ble_eq_true rfl) hn)
  have i83 := iz83 (Nat.le_trans (Nat.le_of_ble_eq_true rfl) hn)
  have i97 := iz97 (Nat.le_trans (Nat.le_of_ble_eq_true rfl) hn)
  refine x_iload_n 3 dX19_uncomb_7 rfl rfl rfl ?_
  refine x_iload_n 1 dX19_uncomb_8 rfl rfl rfl ?_
  refine x_iconst 1 (z := 1) dX19_uncomb_9 rfl (by decide) rfl ?_
  refine x_isub dX19_uncomb_10 rfl ?_
  refine x_icmp_ge (t := 54) 43 dX19_uncomb_11 rfl rfl (b_ite h (fun hc h => ?_) (fun hc h => ?_))
  · refine x_aload_n 0 dX19_uncomb_54 rfl rfl rfl rfl rfl ?_
    refine y_getF 36 16 (c := 18) (z := 97) dX19_uncomb_55 i83 rfl in_X19 q1308 rfl rfl rfl fn_83_16 (Nat.le_trans (Nat.le_of_ble_eq_true rfl) hn) rfl ?_
    refine x_aload_n 0 dX19_uncomb_58 rfl rfl rfl rfl rfl ?_
    refine y_get 98 17 (c := 18) (z := w 83 17) dX19_uncomb_59 i83 rfl in_X19 q1309 rfl rfl rfl rfl rfl ?_
    refine x_iload_n 2 dX19_uncomb_62 rfl rfl rfl ?_
    obtain ⟨e1, h⟩ := h
    refine y_iast (x' := a2) dX19_uncomb_63 ⟨16000, i97, e1⟩ rfl rfl ?_
    refine x_aload_n 0 dX19_uncomb_64 rfl rfl rfl rfl rfl ?_
    refine x_dup dX19_uncomb_65 rfl rfl ?_
    refine y_get 98 17 (c := 18) (z := w 83 17) dX19_uncomb_66 i83 rfl in_X19 q1309 rfl rfl rfl rfl rfl ?_
    refine x_iload_n 1 dX19_uncomb_69 rfl rfl rfl ?_
    refine x_iadd dX19_uncomb_70 rfl ?_
    refine x_put 98 17 (c := 18) dX19_uncomb_71 i83 rfl in_X19 tyX19_ok nmX19 q1309 rfl rfl rfl (Or.inl rfl) (Or.inl ⟨rfl, rfl⟩) rfl ?_
    exact y_vret dX19_uncomb_74 rfl h
  · refine x_aload_n 0 dX19_uncomb_14 rfl rfl rfl rfl rfl ?_
    refine y_getF 36 16 (c := 18) (z := 97) dX19_uncomb_15 i83 rfl in_X19 q1308 rfl rfl rfl fn_83_16 (Nat.le_trans (Nat.le_of_ble_eq_true rfl) hn) rfl ?_
    refine x_aload_n 0 dX19_uncomb_18 rfl rfl rfl rfl rfl ?_
    refine y_get 98 17 (c := 18) (z := w 83 17) dX19_uncomb_19 i83 rfl in_X19 q1309 rfl rfl rfl rfl rfl ?_
    refine x_iload_n 1 dX19_uncomb_22 rfl rfl rfl ?_
    refine x_iadd dX19_uncomb_23 rfl ?_
    refine x_iconst 1 (z := 1) dX19_uncomb_24 rfl (by decide) rfl ?_
    refine x_isub dX19_uncomb_25 rfl ?_
    refine x_iload_n 3 dX19_uncomb_26 rfl rfl rfl ?_
    refine x_isub dX19_uncomb_27 rfl ?_
    refine x_aload_n 0 dX19_uncomb_28 rfl rfl rfl rfl rfl ?_
    refine y_getF 54 0 (c := 18) (z := 27) dX19_uncomb_29 i83 rfl in_X19 q1292 rfl rfl rfl fn_83_0 (Nat.le_trans (Nat.le_of_ble_eq_true rfl) hn) rfl ?_
    refine x_iload_n 2 dX19_uncomb_32 rfl rfl rfl ?_
    refine x_iconst 2 (z := 2) dX19_uncomb_33 rfl (by decide) rfl ?_
    refine y_Vi 199 (M := mX8_cell) (As := [(0, a2), (0, 2)]) (st := [(0, b_i ((b_i ((b_i ((w 83 17) + a1)) - 1)) - a3)), (2, 97)]) dX19_uncomb_34 i27 rfl q2595 q2010 q2011 q375 q2012 rfl hmX8_cell rfl rfl rfl rfl rfl rfl rfl rfl (k_mono h (fun r2 w3 h => ?_))
    obtain ⟨e4, h⟩ := h
    refine y_iast (x' := r2) dX19_uncomb_37 ⟨16000, i97, e4⟩ rfl rfl ?_
    refine x_aload_n 0 dX19_uncomb_38 rfl rfl rfl rfl rfl ?_
    refine y_getF 54 0 (c := 18) (z := 27) dX19_uncomb_39 i83 rfl in_X19 q1292 rfl rfl rfl fn_83_0 (Nat.le_trans (Nat.le_of_ble_eq_true rfl) hn) rfl ?_
    refine x_iload_n 2 dX19_uncomb_42 rfl rfl rfl ?_
    refine x_iconst 3 (z := 3) dX19_uncomb_43 rfl (by decide) rfl ?_
    refine y_Vi 199 (M := mX8_cell) (As := [(0, a2), (0, 3)]) (st := []) dX19_uncomb_44 i27 rfl q2595 q2010 q2011 q375 q2012 rfl hmX8_cell rfl rfl rfl rfl rfl rfl rfl rfl (k_mono h (fun r5 w6 h => ?_))
    refine x_istore_n 2 (ls' := [(2, 83), (0, a1), (0, r5), (0, a3)]) dX19_uncomb_47 rfl rfl rfl rfl ?_
    refine x_iinc 3 1 (ls' := [(2, 83), (0, a1), (0, r5), (0, b_i (a3 + 1))]) dX19_uncomb_48 rfl rfl rfl rfl ?_
    refine x_goto (-44) (q := 7) dX19_uncomb_51 rfl ?_
    exact x_fg (fgk (fgk (fgk (fgk (fg0))))) h
theorem rX19_control {d n : Nat} {w : bW} {Q : Int → bW → Prop} {X : String → bW → Prop} (hn : 143 ≤ n) (a1 : Int) (a2 : Int) (h : b_K d mX18_use [(2, 82), (1, 10)] n w (fun r1 w2 => if a2 = 52 then (b_K d mX19_pop [(2, 83)] n w2 (fun r3 w4 => if r3 ≠ 6 then (b_K d mX19_cell [(2, 83), (0, a1), (0, 2)] n w4 (fun r5 w6 => b_K d mX19_enter [(2, 83), (0, r5)] n w6 (fun r7 w8 => Q 0 w8) X) X) else (b_K d mX19_cell [(2, 83), (0, a1), (0, 1)] n w4 (fun r9 w10 => b_K d mX19_enter [(2, 83), (0, r9)] n w10 (fun r11 w12 => Q 0 w12) X) X)) X) else (if a2 = 53 ∨ a2 = 54 ∨ a2 = 55 then (b_K d mX19_branch [(2, 83), (0, a1), (0, a2)] n w2 (fun r13 w14 => Q 0 w14) X) else (if a2 = 56 then (b_K d mX19_loop [(2, 83), (0, a1)] n w2 (fun r15 w16 => Q 0 w16) X) else (if a2 = 57 then (b_K d mX19_loopLeft [(2, 83), (0, a1)] n w2 (fun r17 w18 => Q 0 w18) X) else (if a2 = 58 then (b_K d mX19_pop [(2, 83)] n w2 (fun r19 w20 => b_K d mX19_each [(2, 83), (0, a1), (0, r19), (0, 0)] n w20 (fun r21 w22 => Q 0 w22) X) X) else (if a2 = 59 then (b_K d mX19_pop [(2, 83)] n w2 (fun r23 w24 => b_K d mX19_map [(2, 83), (0, a1), (0, r23)] n w24 (fun r25 w26 => Q 0 w26) X) X) else (if a2 = 60 then (b_K d mX19_at [(2, 83), (0, 0)] n w2 (fun r27 w28 => b_K d mX19_cell [(2, 83), (0, a1), (0, 1)] n (b_up w28 83 30 r27) (fun r29 w30 => b_K d mX2_fail [(2, 2), (0, 1)] n (b_up w30 83 31 r29) (fun r31 w32 => Q 0 w32) X) X) X) else (if a2 = 61 then (b_K d mX19_cell [(2, 83), (0, a1), (0, 1)] n w2 (fun r33 w34 => b_K d mX8_lambda [(2, 27), (0, r33), (0, 0), (0, 0)] n w34 (fun r35 w36 => b_K d mX19_push [(2, 83), (0, r35)] n w36 (fun r37 w38 => Q 0 w38) X) X) X) else (if a2 = 62 then (b_K d mX19_exec [(2, 83)] n w2 (fun r39 w40 => Q 0 w40) X) else ((b_K d mX19_length [(2, 83), (0, 0)] n w2 (fun r41 w42 => b_K d mX18_use [(2, 82), (1, b_div r41 8)] n w42 (fun r43 w44 => b_K d mX19_pop [(2, 83)] n w44 (fun r45 w46 => b_K d mX19_pop [(2, 83)] n w46 (fun r47 w48 => b_K d mX8_lambda [(2, 27), (0, 0), (0, r47), (0, r45)] n w48 (fun r49 w50 => b_K d mX19_push [(2, 83), (0, r49)] n w50 (fun r51 w52 => Q 0 w52) X) X) X) X) X) X))))))))))) X) : b_K (d + 1) mX19_control [(2, 83), (0, a1), (0, a2)] n w Q X := by
  have i2 := iz2 (Nat.le_trans (Nat.le_of_ble_eq_true rfl) hn)
  have i27 := iz27 (Nat.le_trans (Nat.le_of_ble_eq_true rfl) hn)
  have i82 := iz82 (Nat.le_trans (Nat.le_of_ble_eq_true rfl) hn)
  have i83 := iz83 (Nat.le_trans (Nat.le_of_ble_eq_true rfl) hn)
  refine k_of (by decide) rfl rfl rfl (ls := [(2, 83), (0, a1), (0, a2), (9, 0)]) rfl ?_
  refine x_aload_n 0 dX19_control_0 rfl rfl rfl rfl rfl ?_
  refine y_getF 94 10 (c := 18) (z := 82) dX19_control_1 i83 rfl in_X19 q1302 rfl rfl rfl fn_83_10 (Nat.le_trans (Nat.le_of_ble_eq_true rfl) hn) rfl ?_
  refine x_ldc2 206 (x := 10) dX19_control_4 q2606 rfl (by decide) rfl ?_
  refine y_Vv 183 (M := mX18_use) (As := [(1, 10)]) (st := []) dX19_control_7 i82 rfl q2607 q2500 q2501 q385 q2502 rfl hmX18_use rfl rfl rfl rfl rfl rfl rfl (k_mono h (fun r1 w2 h => ?_))
  refine x_iload_n 2 dX19_control_10 rfl rfl rfl ?_
  refine b_itc h (fun hc h => ?_) (fun hn0 h => ?_)
  · have key : b_Y (d + 1) mX19_control n Q X 68 [(2, 83), (0, a1), (0, a2), (9, 0)] [] w2 := by
      refine x_aload_n 0 dX19_control_68 rfl rfl rfl rfl rfl ?_
      refine x_aload_n 0 dX19_control_69 rfl rfl rfl rfl rfl ?_
      refine x_iload_n 1 dX19_control_70 rfl rfl rfl ?_
      refine x_aload_n 0 dX19_control_71 rfl rfl rfl rfl rfl ?_
      refine y_Vi 139 (M := mX19_pop) (As := []) (st := [(0, a1), (2, 83), (2, 83)]) dX19_control_72 i83 rfl q2583 q2585 qs112 q386 q2586 rfl hmX19_pop rfl rfl rfl rfl rfl rfl rfl rfl (k_mono h (fun r3 w4 h => ?_))
      refine x_bipush 6 (z := 6) dX19_control_75 rfl (by decide) rfl ?_
      refine x_icmp_ne (t := 84) 7 dX19_control_77 rfl rfl (b_ite h (fun hc h => ?_) (fun hc h => ?_))
      · refine x_iconst 2 (z := 2) dX19_control_84 rfl (by decide) rfl ?_
        refine y_Vi 131 (M := mX19_cell) (As := [(0, a1), (0, 2)]) (st := [(2, 83)]) dX19_control_85 i83 rfl q2579 q2581 qs111 q386 q2582 rfl hmX19_cell rfl rfl rfl rfl rfl rfl rfl rfl (k_mono h (fun r5 w6 h => ?_))
        refine y_Vv 208 (M := mX19_enter) (As := [(0, r5)]) (st := []) dX19_control_88 i83 rfl q2675 q2677 qs131 q386 q2678 rfl hmX19_enter rfl rfl rfl rfl rfl rfl rfl (k_mono h (fun r7 w8 h => ?_))
        refine x_goto 153 (q := 244) dX19_control_91 rfl ?_
        exact y_vret dX19_control_244 rfl h
      · refine x_iconst 1 (z := 1) dX19_control_80 rfl (by decide) rfl ?_
        refine x_goto 4 (q := 85) dX19_control_81 rfl ?_
        refine y_Vi 131 (M := mX19_cell) (As := [(0, a1), (0, 1)]) (st := [(2, 83)]) dX19_control_85 i83 rfl q2579 q2581 qs111 q386 q2582 rfl hmX19_cell rfl rfl rfl rfl rfl rfl rfl rfl (k_mono h (fun r9 w10 h => ?_))
        refine y_Vv 208 (M := mX19_enter) (As := [(0, r9)]) (st := []) dX19_control_88 i83 rfl q2675 q2677 qs131 q386 q2678 rfl hmX19_enter rfl rfl rfl rfl rfl rfl rfl (k_mono h (fun r11 w12 h => ?_))
        refine x_goto 153 (q := 244) dX19_control_91 rfl ?_
        exact y_vret dX19_control_244 rfl h
    have e := hc
    exact x_tsI (off := 57) (t := 68) dX19_control_11 (by rw [e]; decide) (by rw [e]; decide) (by rw [e]; rfl) rfl key
  · refine b_itc h (fun hc h => ?_) (fun hn1 h => ?_)
    · have key : b_Y (d + 1) mX19_control n Q X 94 [(2, 83), (0, a1), (0, a2), (9, 0)] [] w2 := by
        refine x_aload_n 0 dX19_control_94 rfl rfl rfl rfl rfl ?_
        refine x_iload_n 1 dX19_control_95 rfl rfl rfl ?_
        refine x_iload_n 2 dX19_control_96 rfl rfl rfl ?_
        refine y_Vv 211 (M := mX19_branch) (As := [(0, a1), (0, a2)]) (st := []) dX19_control_97 i83 rfl q2679 q2681 qs132 q386 q2682 rfl hmX19_branch rfl rfl rfl rfl rfl rfl rfl (k_mono h (fun r13 w14 h => ?_))
        refine x_goto 144 (q := 244) dX19_control_100 rfl ?_
        exact y_vret dX19_control_244 rfl h
      rcases hc with e | e | e
      · exact x_tsI (off := 83) (t := 94) dX19_control_11 (by rw [e]; decide) (by rw [e]; decide) (by rw [e]; rfl) rfl key
      · exact x_tsI (off := 83) (t := 94) dX19_control_11 (by rw [e]; decide) (by rw [e]; decide) (by rw [e]; rfl) rfl key
      · exact x_tsI (off := 83) (t := 94) dX19_control_11 (by rw [e]; decide) (by rw [e]; decide) (by rw [e]; rfl) rfl key
    · refine b_itc h (fun hc h => ?_) (fun hn2 h => ?_)
      · have key : b_Y (d + 1) mX19_control n Q X 103 [(2, 83), (0, a1), (0, a2), (9, 0)] [] w2 := by
          refine x_aload_n 0 dX19_control_103 rfl rfl rfl rfl rfl ?_
          refine x_iload_n 1 dX19_control_104 rfl rfl rfl ?_
          refine y_Vv 143 (M := mX19_loop) (As := [(0, a1)]) (st := []) dX19_control_105 i83 rfl q2575 q2577 qs110 q386 q2578 rfl hmX19_loop rfl rfl rfl rfl rfl rfl rfl (k_mono h (fun r15 w16 h => ?_))
          refine x_goto 136 (q := 244) dX19_control_108 rfl ?_
          exact y_vret dX19_control_244 rfl h
        have e := hc
        exact x_tsI (off := 92) (t := 103) dX19_control_11 (by rw [e]; decide) (by rw [e]; decide) (by rw [e]; rfl) rfl key
      · refine b_itc h (fun hc h => ?_) (fun hn3 h => ?_)
        · have key : b_Y (d + 1) mX19_control n Q X 111 [(2, 83), (0, a1), (0, a2), (9, 0)] [] w2 := by
            refine x_aload_n 0 dX19_control_111 rfl rfl rfl rfl rfl ?_
            refine x_iload_n 1 dX19_control_112 rfl rfl rfl ?_
            refine y_Vv 146 (M := mX19_loopLeft) (As := [(0, a1)]) (st := []) dX19_control_113 i83 rfl q2591 q2593 qs114 q386 q2594 rfl hmX19_loopLeft rfl rfl rfl rfl rfl rfl rfl (k_mono h (fun r17 w18 h => ?_))
            refine x_goto 128 (q := 244) dX19_control_116 rfl ?_
            exact y_vret dX19_control_244 rfl h
          have e := hc
          exact x_tsI (off := 100) (t := 111) dX19_control_11 (by rw [e]; decide) (by rw [e]; decide) (by rw [e]; rfl) rfl key
        · refine b_itc h (fun hc h => ?_) (fun hn4 h => ?_)
          · have key : b_Y (d + 1) mX19_control n Q X 119 [(2, 83), (0, a1), (0, a2), (9, 0)] [] w2 := by
              refine x_aload_n 0 dX19_control_119 rfl rfl rfl rfl rfl ?_
              refine x_iload_n 1 dX19_control_120 rfl rfl rfl ?_
              refine x_aload_n 0 dX19_control_121 rfl rfl rfl rfl rfl ?_
              refine y_Vi 139 (M := mX19_pop) (As := []) (st := [(0, a1), (2, 83)]) dX19_control_122 i83 rfl q2583 q2585 qs112 q386 q2586 rfl hmX19_pop rfl rfl rfl rfl rfl rfl rfl rfl (k_mono h (fun r19 w20 h => ?_))
              refine x_iconst 0 (z := 0) dX19_control_125 rfl (by decide) rfl ?_
              refine y_Vv 149 (M := mX19_each) (As := [(0, a1), (0, r19), (0, 0)]) (st := []) dX19_control_126 i83 rfl q2597 q2599 qs115 q386 q2600 rfl hmX19_each rfl rfl rfl rfl rfl rfl rfl (k_mono h (fun r21 w22 h => ?_))
              refine x_goto 115 (q := 244) dX19_control_129 rfl ?_
              exact y_vret dX19_control_244 rfl h
            have e := hc
            exact x_tsI (off := 108) (t := 119) dX19_control_11 (by rw [e]; decide) (by rw [e]; decide) (by rw [e]; rfl) rfl key
          · refine b_itc h (fun hc h => ?_) (fun hn5 h => ?_)
            · have key : b_Y (d + 1) mX19_control n Q X 132 [(2, 83), (0, a1), (0, a2), (9, 0)] [] w2 := by
                refine x_aload_n 0 dX19_control_132 rfl rfl rfl rfl rfl ?_
                refine x_iload_n 1 dX19_control_133 rfl rfl rfl ?_
                refine x_aload_n 0 dX19_control_134 rfl rfl rfl rfl rfl ?_
                refine y_Vi 139 (M := mX19_pop) (As := []) (st := [(0, a1), (2, 83)]) dX19_control_135 i83 rfl q2583 q2585 qs112 q386 q2586 rfl hmX19_pop rfl rfl rfl rfl rfl rfl rfl rfl (k_mono h (fun r23 w24 h => ?_))
                refine y_Vv 214 (M := mX19_map) (As := [(0, a1), (0, r23)]) (st := []) dX19_control_138 i83 rfl q2683 q2685 qs133 q386 q2686 rfl hmX19_map rfl rfl rfl rfl rfl rfl rfl (k_mono h (fun r25 w26 h => ?_))
                refine x_goto 103 (q := 244) dX19_control_141 rfl ?_
                exact y_vret dX19_control_244 rfl h
              have e := hc
              exact x_tsI (off := 121) (t := 132) dX19_control_11 (by rw [e]; decide) (by rw [e]; decide) (by rw [e]; rfl) rfl key
            · refine b_itc h (fun hc h => ?_) (fun hn6 h => ?_)
              · have key : b_Y (d + 1) mX19_control n Q X 144 [(2, 83), (0, a1), (0, a2), (9, 0)] [] w2 := by
                  refine x_aload_n 0 dX19_control_144 rfl rfl rfl rfl rfl ?_
                  refine x_aload_n 0 dX19_control_145 rfl rfl rfl rfl rfl ?_
                  refine x_iconst 0 (z := 0) dX19_control_146 rfl (by decide) rfl ?_
                  refine y_Vi 102 (M := mX19_at) (As := [(0, 0)]) (st := [(2, 83)]) dX19_control_147 i83 rfl q2651 q2653 qs125 q386 q2654 rfl hmX19_at rfl rfl rfl rfl rfl rfl rfl rfl (k_mono h (fun r27 w28 h => ?_))
                  refine x_put 217 30 (c := 18) dX19_control_150 i83 rfl in_X19 tyX19_ok nmX19 q1328 rfl rfl rfl (Or.inl rfl) (Or.inl ⟨rfl, rfl⟩) rfl ?_
                  refine x_aload_n 0 dX19_control_153 rfl rfl rfl rfl rfl ?_
                  refine x_aload_n 0 dX19_control_154 rfl rfl rfl rfl rfl ?_
                  refine x_iload_n 1 dX19_control_155 rfl rfl rfl ?_
                  refine x_iconst 1 (z := 1) dX19_control_156 rfl (by decide) rfl ?_
                  refine y_Vi 131 (M := mX19_cell) (As := [(0, a1), (0, 1)]) (st := [(2, 83)]) dX19_control_157 i83 rfl q2579 q2581 qs111 q386 q2582 rfl hmX19_cell rfl rfl rfl rfl rfl rfl rfl rfl (k_mono h (fun r29 w30 h => ?_))
                  refine x_put 220 31 (c := 18) dX19_control_160 i83 rfl in_X19 tyX19_ok nmX19 q1330 rfl rfl rfl (Or.inl rfl) (Or.inl ⟨rfl, rfl⟩) rfl ?_
                  refine x_aload_n 0 dX19_control_163 rfl rfl rfl rfl rfl ?_
                  refine y_getF 90 9 (c := 18) (z := 2) dX19_control_164 i83 rfl in_X19 q1301 rfl rfl rfl fn_83_9 (Nat.le_trans (Nat.le_of_ble_eq_true rfl) hn) rfl ?_
                  refine x_iconst 1 (z := 1) dX19_control_167 rfl (by decide) rfl ?_
                  refine y_Vv 225 (M := mX2_fail) (As := [(0, 1)]) (st := []) dX19_control_168 i2 rfl q2687 q1958 q1959 q359 q1960 rfl hmX2_fail rfl rfl rfl rfl rfl rfl rfl (k_mono h (fun r31 w32 h => ?_))
                  refine x_goto 73 (q := 244) dX19_control_171 rfl ?_
                  exact y_vret dX19_control_244 rfl h
                have e := hc
                exact x_tsI (off := 133) (t := 144) dX19_control_11 (by rw [e]; decide) (by rw [e]; decide) (by rw [e]; rfl) rfl key
              · refine b_itc h (fun hc h => ?_) (fun hn7 h => ?_)
                · have key : b_Y (d + 1) mX19_control n Q X 174 [(2, 83), (0, a1), (0, a2), (9, 0)] [] w2 := by
                    refine x_aload_n 0 dX19_control_174 rfl rfl rfl rfl rfl ?_
                    refine x_aload_n 0 dX19_control_175 rfl rfl rfl rfl rfl ?_
                    refine y_getF 54 0 (c := 18) (z := 27) dX19_control_176 i83 rfl in_X19 q1292 rfl rfl rfl fn_83_0 (Nat.le_trans (Nat.le_of_ble_eq_true rfl) hn) rfl ?_
                    refine x_aload_n 0 dX19_control_179 rfl rfl rfl rfl rfl ?_
                    refine x_iload_n 1 dX19_control_180 rfl rfl rfl ?_
                    refine x_iconst 1 (z := 1) dX19_control_181 rfl (by decide) rfl ?_
                    refine y_Vi 131 (M := mX19_cell) (As := [(0, a1), (0, 1)]) (st := [(2, 27), (2, 83)]) dX19_control_182 i83 rfl q2579 q2581 qs111 q386 q2582 rfl hmX19_cell rfl rfl rfl rfl rfl rfl rfl rfl (k_mono h (fun r33 w34 h => ?_))
                    refine x_iconst 0 (z := 0) dX19_control_185 rfl (by decide) rfl ?_
                    refine x_iconst 0 (z := 0) dX19_control_186 rfl (by decide) rfl ?_
                    refine y_Vi 228 (M := mX8_lambda) (As := [(0, r33), (0, 0), (0, 0)]) (st := [(2, 83)]) dX19_control_187 i27 rfl q2688 q2689 q2690 q375 q2691 rfl hmX8_lambda rfl rfl rfl rfl rfl rfl rfl rfl (k_mono h (fun r35 w36 h => ?_))
                    refine y_Vv 122 (M := mX19_push) (As := [(0, r35)]) (st := []) dX19_control_190 i83 rfl q2567 q2569 qs108 q386 q2570 rfl hmX19_push rfl rfl rfl rfl rfl rfl rfl (k_mono h (fun r37 w38 h => ?_))
                    refine x_goto 51 (q := 244) dX19_control_193 rfl ?_
                    exact y_vret dX19_control_244 rfl h
                  have e := hc
                  exact x_tsI (off := 163) (t := 174) dX19_control_11 (by rw [e]; decide) (by rw [e]; decide) (by rw [e]; rfl) rfl key
                · refine b_itc h (fun hc h => ?_) (fun hn8 h => ?_)
                  · have key : b_Y (d + 1) mX19_control n Q X 196 [(2, 83), (0, a1), (0, a2), (9, 0)] [] w2 := by
                      refine x_aload_n 0 dX19_control_196 rfl rfl rfl rfl rfl ?_
                      refine y_Vv 232 (M := mX19_exec) (As := []) (st := []) dX19_control_197 i83 rfl q2692 q2694 qs134 q386 q2695 rfl hmX19_exec rfl rfl rfl rfl rfl rfl rfl (k_mono h (fun r39 w40 h => ?_))
                      refine x_goto 44 (q := 244) dX19_control_200 rfl ?_
                      exact y_vret dX19_control_244 rfl h
                    have e := hc
                    exact x_tsI (off := 185) (t := 196) dX19_control_11 (by rw [e]; decide) (by rw [e]; decide) (by rw [e]; rfl) rfl key
                  · have key : b_Y (d + 1) mX19_control n Q X 203 [(2, 83), (0, a1), (0, a2), (9, 0)] [] w2 := by
                      refine x_aload_n 0 dX19_control_203 rfl rfl rfl rfl rfl ?_
                      refine y_getF 94 10 (c := 18) (z := 82) dX19_control_204 i83 rfl in_X19 q1302 rfl rfl rfl fn_83_10 (Nat.le_trans (Nat.le_of_ble_eq_true rfl) hn) rfl ?_
                      refine x_aload_n 0 dX19_control_207 rfl rfl rfl rfl rfl ?_
                      refine x_iconst 0 (z := 0) dX19_control_208 rfl (by decide) rfl ?_
                      refine y_Vi 235 (M := mX19_length) (As := [(0, 0)]) (st := [(2, 82)]) dX19_control_209 i83 rfl q2696 q2698 qs135 q386 q2699 rfl hmX19_length rfl rfl rfl rfl rfl rfl rfl rfl (k_mono h (fun r41 w42 h => ?_))
                      refine x_bipush 8 (z := 8) dX19_control_212 rfl (by decide) rfl ?_
                      refine x_idiv dX19_control_214 (by decide) rfl ?_
                      refine x_i2l dX19_control_215 rfl ?_
                      refine y_Vv 183 (M := mX18_use) (As := [(1, b_div r41 8)]) (st := []) dX19_control_216 i82 rfl q2607 q2500 q2501 q385 q2502 rfl hmX18_use rfl rfl rfl rfl rfl rfl rfl (k_mono h (fun r43 w44 h => ?_))
                      refine x_aload_n 0 dX19_control_219 rfl rfl rfl rfl rfl ?_
                      refine y_Vi 139 (M := mX19_pop) (As := []) (st := []) dX19_control_220 i83 rfl q2583 q2585 qs112 q386 q2586 rfl hmX19_pop rfl rfl rfl rfl rfl rfl rfl rfl (k_mono h (fun r45 w46 h => ?_))
                      refine x_istore_n 3 (ls' := [(2, 83), (0, a1), (0, a2), (0, r45)]) dX19_control_223 rfl rfl rfl rfl ?_
                      refine x_aload_n 0 dX19_control_224 rfl rfl rfl rfl rfl ?_
                      refine x_aload_n 0 dX19_control_225 rfl rfl rfl rfl rfl ?_
                      refine y_getF 54 0 (c := 18) (z := 27) dX19_control_226 i83 rfl in_X19 q1292 rfl rfl rfl fn_83_0 (Nat.le_trans (Nat.le_of_ble_eq_true rfl) hn) rfl ?_
                      refine x_iconst 0 (z := 0) dX19_control_229 rfl (by decide) rfl ?_
                      refine x_aload_n 0 dX19_control_230 rfl rfl rfl rfl rfl ?_
                      refine y_Vi 139 (M := mX19_pop) (As := []) (st := [(0, 0), (2, 27), (2, 83)]) dX19_control_231 i83 rfl q2583 q2585 qs112 q386 q2586 rfl hmX19_pop rfl rfl rfl rfl rfl rfl rfl rfl (k_mono h (fun r47 w48 h => ?_))
                      refine x_iload_n 3 dX19_control_234 rfl rfl rfl ?_
                      refine y_Vi 228 (M := mX8_lambda) (As := [(0, 0), (0, r47), (0, r45)]) (st := [(2, 83)]) dX19_control_235 i27 rfl q2688 q2689 q2690 q375 q2691 rfl hmX8_lambda rfl rfl rfl rfl rfl rfl rfl rfl (k_mono h (fun r49 w50 h => ?_))
                      refine y_Vv 122 (M := mX19_push) (As := [(0, r49)]) (st := []) dX19_control_238 i83 rfl q2567 q2569 qs108 q386 q2570 rfl hmX19_push rfl rfl rfl rfl rfl rfl rfl (k_mono h (fun r51 w52 h => ?_))
                      refine x_goto 3 (q := 244) dX19_control_241 rfl ?_
                      exact y_vret dX19_control_244 rfl h
                    exact x_tsO (t := 203) dX19_control_11 (by omega) rfl key
theorem rX19_enter {d n : Nat} {w : bW} {Q : Int → bW → Prop} {X : String → bW → Prop} (hn : 84 ≤ n) (a1 : Int) (h : if w 83 22 = 0 then (Q 0 (b_up w 83 22 a1)) else (b_K d mX19_frame [(2, 83), (0, 0), (0, w 83 22), (0, 0), (0, 0)] n w (fun r1 w2 => Q 0 (b_up w2 83 22 a1)) X)) : b_K (d + 1) mX19_enter [(2, 83), (0, a1)] n w Q X := by
  have i83 := iz83 (Nat.le_trans (Nat.le_of_ble_eq_true rfl) hn)
  refine k_of (by decide) rfl rfl rfl (ls := [(2, 83), (0, a1)]) rfl ?_
  refine x_aload_n 0 dX19_enter_0 rfl rfl rfl rfl rfl ?_
  refine y_get 125 22 (c := 18) (z := w 83 22) dX19_enter_1 i83 rfl in_X19 q1314 rfl rfl rfl rfl rfl ?_
  refine x_if_eq (t := 18) 14 dX19_enter_4 rfl rfl (b_ite h (fun hc h => ?_) (fun hc h => ?_))
  · refine x_aload_n 0 dX19_enter_18 rfl rfl rfl rfl rfl ?_
    refine x_iload_n 1 dX19_enter_19 rfl rfl rfl ?_
    refine x_put 125 22 (c := 18) dX19_enter_20 i83 rfl in_X19 tyX19_ok nmX19 q1314 rfl rfl rfl (Or.inl rfl) (Or.inl ⟨rfl, rfl⟩) rfl ?_
    exact y_vret dX19_enter_23 rfl h
  · refine x_aload_n 0 dX19_enter_7 rfl rfl rfl rfl rfl ?_
    refine x_iconst 0 (z := 0) dX19_enter_8 rfl (by decide) rfl ?_
    refine x_aload_n 0 dX19_enter_9 rfl rfl rfl rfl rfl ?_
    refine y_get 125 22 (c := 18) (z := w 83 22) dX19_enter_10 i83 rfl in_X19 q1314 rfl rfl rfl rfl rfl ?_
    refine x_iconst 0 (z := 0) dX19_enter_13 rfl (by decide) rfl ?_
    refine x_iconst 0 (z := 0) dX19_enter_14 rfl (by decide) rfl ?_
    refine y_Vv 159 (M := mX19_frame) (As := [(0, 0), (0, w 83 22), (0, 0), (0, 0)]) (st := []) dX19_enter_15 i83 rfl q2587 q2589 qs113 q386 q2590 rfl hmX19_frame rfl rfl rfl rfl rfl rfl rfl (k_mono h (fun r1 w2 h => ?_))
    refine x_aload_n 0 dX19_enter_18 rfl rfl rfl rfl rfl ?_
    refine x_iload_n 1 dX19_enter_19 rfl rfl rfl ?_
    refine x_put 125 22 (c := 18) dX19_enter_20 i83 rfl in_X19 tyX19_ok nmX19 q1314 rfl rfl rfl (Or.inl rfl) (Or.inl ⟨rfl, rfl⟩) rfl ?_
    exact y_vret dX19_enter_23 rfl h
abbrev LX19_branch_92 (d n : Nat) (Q : Int → bW → Prop) (X : String → bW → Prop) (a1 : Int) (a2 : Int) (a3 : Int) (a4 : Int) (w : bW) : Prop := b_Y (d + 1) mX19_branch n Q X 92 [(2, 83), (0, a1), (0, a2), (0, a3), (0, a4)] [] w
theorem rX19_branch {d n : Nat} {w : bW} {Q : Int → bW → Prop} {X : String → bW → Prop} (hn : 143 ≤ n) (a1 : Int) (a2 : Int) (h : b_K d mX19_pop [(2, 83)] n w (fun r1 w2 => if a2 ≠ 53 then (if a2 ≠ 54 then (if r1 = 10 then (if a2 ≠ 55 then (LX19_branch_92 d n Q X a1 a2 r1 0 w2) else (LX19_branch_92 d n Q X a1 a2 r1 0 w2)) else (if a2 ≠ 55 then (LX19_branch_92 d n Q X a1 a2 r1 1 w2) else (b_K d mX8_cell [(2, 27), (0, r1), (0, 3)] n w2 (fun r3 w4 => b_K d mX19_push [(2, 83), (0, r3)] n w4 (fun r5 w6 => LX19_branch_92 d n Q X a1 a2 r1 1 w6) X) X))) else (b_K d mX8_kind [(2, 27), (0, r1)] n w2 (fun r7 w8 => if r7 ≠ 5 then (if a2 ≠ 55 then (LX19_branch_92 d n Q X a1 a2 r1 0 w8) else (LX19_branch_92 d n Q X a1 a2 r1 0 w8)) else (if a2 ≠ 55 then (LX19_branch_92 d n Q X a1 a2 r1 1 w8) else (b_K d mX8_cell [(2, 27), (0, r1), (0, 3)] n w8 (fun r9 w10 => b_K d mX19_push [(2, 83), (0, r9)] n w10 (fun r11 w12 => LX19_branch_92 d n Q X a1 a2 r1 1 w12) X) X))) X)) else (if r1 ≠ 8 then (if a2 ≠ 55 then (LX19_branch_92 d n Q X a1 a2 r1 0 w2) else (LX19_branch_92 d n Q X a1 a2 r1 0 w2)) else (if a2 ≠ 55 then (LX19_branch_92 d n Q X a1 a2 r1 1 w2) else (b_K d mX8_cell [(2, 27), (0, r1), (0, 3)] n w2 (fun r13 w14 => b_K d mX19_push [(2, 83), (0, r13)] n w14 (fun r15 w16 => LX19_branch_92 d n Q X a1 a2 r1 1 w16) X) X)))) X) : b_K (d + 1) mX19_branch [(2, 83), (0, a1), (0, a2)] n w Q X := by
  have i27 := iz27 (Nat.le_trans (Nat.le_of_ble_eq_true rfl) hn)
  have i83 := iz83 (Nat.le_trans (Nat.le_of_ble_eq_true rfl) hn)
  refine k_of (by decide) rfl rfl rfl (ls := [(2, 83), (0, a1), (0, a2), (9, 0), (9, 0)]) rfl ?_
  refine x_aload_n 0 dX19_branch_0 rfl rfl rfl rfl rfl ?_
  refine y_Vi 139 (M := mX19_pop) (As := []) (st := []) dX19_branch_1 i83 rfl q2583 q2585 qs112 q386 q2586 rfl hmX19_pop rfl rfl rfl rfl rfl rfl rfl rfl (k_mono h (fun r1 w2 h => ?_))
  refine x_istore_n 3 (ls' := [(2, 83), (0, a1), (0, a2), (0, r1), (9, 0)]) dX19_branch_4 rfl rfl rfl rfl ?_
  refine x_iload_n 2 dX19_branch_5 rfl rfl rfl ?_
  refine x_bipush 53 (z := 53) dX19_branch_6 rfl (by decide) rfl ?_
  refine x_icmp_ne (t := 27) 19 dX19_branch_8 rfl rfl (b_ite h (fun hc h => ?_) (fun hc h => ?_))
  · refine x_iload_n 2 dX19_branch_27 rfl rfl rfl ?_
    refine x_bipush 54 (z := 54) dX19_branch_28 rfl (by decide) rfl ?_
    refine x_icmp_ne (t := 55) 25 dX19_branch_30 rfl rfl (b_ite h (fun hc h => ?_) (fun hc h => ?_))
    · refine x_iload_n 3 dX19_branch_55 rfl rfl rfl ?_
      refine x_bipush 10 (z := 10) dX19_branch_56 rfl (by decide) rfl ?_
      refine x_icmp_eq (t := 65) 7 dX19_branch_58 rfl rfl (b_ite h (fun hc h => ?_) (fun hc h => ?_))
      · refine x_iconst 0 (z := 0) dX19_branch_65 rfl (by decide) rfl ?_
        refine x_istore 4 (ls' := [(2, 83), (0, a1), (0, a2), (0, r1), (0, 0)]) dX19_branch_66 rfl rfl rfl ?_
        refine x_iload_n 2 dX19_branch_68 rfl rfl rfl ?_
        refine x_bipush 55 (z := 55) dX19_branch_69 rfl (by decide) rfl ?_
        refine x_icmp_ne (t := 92) 21 dX19_branch_71 rfl rfl (b_ite h (fun hc h => ?_) (fun hc h => ?_))
        · exact x_fg (fgk (fgk (fgk (fgk (fgk (fg0)))))) h
        · refine x_iload 4 dX19_branch_74 rfl rfl ?_
          refine x_if_eq (t := 92) 16 dX19_branch_76 rfl rfl (b_ifT (by decide) ?_)
          exact x_fg (fgk (fgk (fgk (fgk (fgk (fg0)))))) h
      · refine x_iconst 1 (z := 1) dX19_branch_61 rfl (by decide) rfl ?_
        refine x_goto 4 (q := 66) dX19_branch_62 rfl ?_
        refine x_istore 4 (ls' := [(2, 83), (0, a1), (0, a2), (0, r1), (0, 1)]) dX19_branch_66 rfl rfl rfl ?_
        refine x_iload_n 2 dX19_branch_68 rfl rfl rfl ?_
        refine x_bipush 55 (z := 55) dX19_branch_69 rfl (by decide) rfl ?_
        refine x_icmp_ne (t := 92) 21 dX19_branch_71 rfl rfl (b_ite h (fun hc h => ?_) (fun hc h => ?_))
        · exact x_fg (fgk (fgk (fgk (fgk (fgk (fg0)))))) h
        · refine x_iload 4 dX19_branch_74 rfl rfl ?_
          refine x_if_eq (t := 92) 16 dX19_branch_76 rfl rfl (b_ifF (by decide) ?_)
          refine x_aload_n 0 dX19_branch_79 rfl rfl rfl rfl rfl ?_
          refine x_aload_n 0 dX19_branch_80 rfl rfl rfl rfl rfl ?_
          refine y_getF 54 0 (c := 18) (z := 27) dX19_branch_81 i83 rfl in_X19 q1292 rfl rfl rfl fn_83_0 (Nat.le_trans (Nat.le_of_ble_eq_true rfl) hn) rfl ?_
          refine x_iload_n 3 dX19_branch_84 rfl rfl rfl ?_
          refine x_iconst 3 (z := 3) dX19_branch_85 rfl (by decide) rfl ?_
          refine y_Vi 199 (M := mX8_cell) (As := [(0, r1), (0, 3)]) (st := [(2, 83)]) dX19_branch_86 i27 rfl q2595 q2010 q2011 q375 q2012 rfl hmX8_cell rfl rfl rfl rfl rfl rfl rfl rfl (k_mono h (fun r3 w4 h => ?_))
          refine y_Vv 122 (M := mX19_push) (As := [(0, r3)]) (st := []) dX19_branch_89 i83 rfl q2567 q2569 qs108 q386 q2570 rfl hmX19_push rfl rfl rfl rfl rfl rfl rfl (k_mono h (fun r5 w6 h => ?_))
          exact x_fg (fgk (fgk (fgk (fgk (fgk (fg0)))))) h
    · refine x_aload_n 0 dX19_branch_33 rfl rfl rfl rfl rfl ?_
      refine y_getF 54 0 (c := 18) (z := 27) dX19_branch_34 i83 rfl in_X19 q1292 rfl rfl rfl fn_83_0 (Nat.le_trans (Nat.le_of_ble_eq_true rfl) hn) rfl ?_
      refine x_iload_n 3 dX19_branch_37 rfl rfl rfl ?_
      refine y_Vi 236 (M := mX8_kind) (As := [(0, r1)]) (st := []) dX19_branch_38 i27 rfl q2596 q2042 q2043 q375 q2044 rfl hmX8_kind rfl rfl rfl rfl rfl rfl rfl rfl (k_mono h (fun r7 w8 h => ?_))
      refine x_iconst 5 (z := 5) dX19_branch_41 rfl (by decide) rfl ?_
      refine x_icmp_ne (t := 49) 7 dX19_branch_42 rfl rfl (b_ite h (fun hc h => ?_) (fun hc h => ?_))
      · refine x_iconst 0 (z := 0) dX19_branch_49 rfl (by decide) rfl ?_
        refine x_istore 4 (ls' := [(2, 83), (0, a1), (0, a2), (0, r1), (0, 0)]) dX19_branch_50 rfl rfl rfl ?_
        refine x_goto 16 (q := 68) dX19_branch_52 rfl ?_
        refine x_iload_n 2 dX19_branch_68 rfl rfl rfl ?_
        refine x_bipush 55 (z := 55) dX19_branch_69 rfl (by decide) rfl ?_
        refine x_icmp_ne (t := 92) 21 dX19_branch_71 rfl rfl (b_ite h (fun hc h => ?_) (fun hc h => ?_))
        · exact x_fg (fgk (fgk (fgk (fgk (fgk (fg0)))))) h
        · refine x_iload 4 dX19_branch_74 rfl rfl ?_
          refine x_if_eq (t := 92) 16 dX19_branch_76 rfl rfl (b_ifT (by decide) ?_)
          exact x_fg (fgk (fgk (fgk (fgk (fgk (fg0)))))) h
      · refine x_iconst 1 (z := 1) dX19_branch_45 rfl (by decide) rfl ?_
        refine x_goto 4 (q := 50) dX19_branch_46 rfl ?_
        refine x_istore 4 (ls' := [(2, 83), (0, a1), (0, a2), (0, r1), (0, 1)]) dX19_branch_50 rfl rfl rfl ?_
        refine x_goto 16 (q := 68) dX19_branch_52 rfl ?_
        refine x_iload_n 2 dX19_branch_68 rfl rfl rfl ?_
        refine x_bipush 55 (z := 55) dX19_branch_69 rfl (by decide) rfl ?_
        refine x_icmp_ne (t := 92) 21 dX19_branch_71 rfl rfl (b_ite h (fun hc h => ?_) (fun hc h => ?_))
        · exact x_fg (fgk (fgk (fgk (fgk (fgk (fg0)))))) h
        · refine x_iload 4 dX19_branch_74 rfl rfl ?_
          refine x_if_eq (t := 92) 16 dX19_branch_76 rfl rfl (b_ifF (by decide) ?_)
          refine x_aload_n 0 dX19_branch_79 rfl rfl rfl rfl rfl ?_
          refine x_aload_n 0 dX19_branch_80 rfl rfl rfl rfl rfl ?_
          refine y_getF 54 0 (c := 18) (z := 27) dX19_branch_81 i83 rfl in_X19 q1292 rfl rfl rfl fn_83_0 (Nat.le_trans (Nat.le_of_ble_eq_true rfl) hn) rfl ?_
          refine x_iload_n 3 dX19_branch_84 rfl rfl rfl ?_
          refine x_iconst 3 (z := 3) dX19_branch_85 rfl (by decide) rfl ?_
          refine y_Vi 199 (M := mX8_cell) (As := [(0, r1), (0, 3)]) (st := [(2, 83)]) dX19_branch_86 i27 rfl q2595 q2010 q2011 q375 q2012 rfl hmX8_cell rfl rfl rfl rfl rfl rfl rfl rfl (k_mono h (fun r9 w10 h => ?_))
          refine y_Vv 122 (M := mX19_push) (As := [(0, r9)]) (st := []) dX19_branch_89 i83 rfl q2567 q2569 qs108 q386 q2570 rfl hmX19_push rfl rfl rfl rfl rfl rfl rfl (k_mono h (fun r11 w12 h => ?_))
          exact x_fg (fgk (fgk (fgk (fgk (fgk (fg0)))))) h
  · refine x_iload_n 3 dX19_branch_11 rfl rfl rfl ?_
    refine x_bipush 8 (z := 8) dX19_branch_12 rfl (by decide) rfl ?_
    refine x_icmp_ne (t := 21) 7 dX19_branch_14 rfl rfl (b_ite h (fun hc h => ?_) (fun hc h => ?_))
    · refine x_iconst 0 (z := 0) dX19_branch_21 rfl (by decide) rfl ?_
      refine x_istore 4 (ls' := [(2, 83), (0, a1), (0, a2), (0, r1), (0, 0)]) dX19_branch_22 rfl rfl rfl ?_
      refine x_goto 44 (q := 68) dX19_branch_24 rfl ?_
      refine x_iload_n 2 dX19_branch_68 rfl rfl rfl ?_
      refine x_bipush 55 (z := 55) dX19_branch_69 rfl (by decide) rfl ?_
      refine x_icmp_ne (t := 92) 21 dX19_branch_71 rfl rfl (b_ite h (fun hc h => ?_) (fun hc h => ?_))
      · exact x_fg (fgk (fgk (fgk (fgk (fgk (fg0)))))) h
      · refine x_iload 4 dX19_branch_74 rfl rfl ?_
        refine x_if_eq (t := 92) 16 dX19_branch_76 rfl rfl (b_ifT (by decide) ?_)
        exact x_fg (fgk (fgk (fgk (fgk (fgk (fg0)))))) h
    · refine x_iconst 1 (z := 1) dX19_branch_17 rfl (by decide) rfl ?_
      refine x_goto 4 (q := 22) dX19_branch_18 rfl ?_
      refine x_istore 4 (ls' := [(2, 83), (0, a1), (0, a2), (0, r1), (0, 1)]) dX19_branch_22 rfl rfl rfl ?_
      refine x_goto 44 (q := 68) dX19_branch_24 rfl ?_
      refine x_iload_n 2 dX19_branch_68 rfl rfl rfl ?_
      refine x_bipush 55 (z := 55) dX19_branch_69 rfl (by decide) rfl ?_
      refine x_icmp_ne (t := 92) 21 dX19_branch_71 rfl rfl (b_ite h (fun hc h => ?_) (fun hc h => ?_))
      · exact x_fg (fgk (fgk (fgk (fgk (fgk (fg0)))))) h
      · refine x_iload 4 dX19_branch_74 rfl rfl ?_
        refine x_if_eq (t := 92) 16 dX19_branch_76 rfl rfl (b_ifF (by decide) ?_)
        refine x_aload_n 0 dX19_branch_79 rfl rfl rfl rfl rfl ?_
        refine x_aload_n 0 dX19_branch_80 rfl rfl rfl rfl rfl ?_
        refine y_getF 54 0 (c := 18) (z := 27) dX19_branch_81 i83 rfl in_X19 q1292 rfl rfl rfl fn_83_0 (Nat.le_trans (Nat.le_of_ble_eq_true rfl) hn) rfl ?_
        refine x_iload_n 3 dX19_branch_84 rfl rfl rfl ?_
        refine x_iconst 3 (z := 3) dX19_branch_85 rfl (by decide) rfl ?_
        refine y_Vi 199 (M := mX8_cell) (As := [(0, r1), (0, 3)]) (st := [(2, 83)]) dX19_branch_86 i27 rfl q2595 q2010 q2011 q375 q2012 rfl hmX8_cell rfl rfl rfl rfl rfl rfl rfl rfl (k_mono h (fun r13 w14 h => ?_))
        refine y_Vv 122 (M := mX19_push) (As := [(0, r13)]) (st := []) dX19_branch_89 i83 rfl q2567 q2569 qs108 q386 q2570 rfl hmX19_push rfl rfl rfl rfl rfl rfl rfl (k_mono h (fun r15 w16 h => ?_))
        exact x_fg (fgk (fgk (fgk (fgk (fgk (fg0)))))) h
theorem sX19_branch_92 {d n : Nat} {w : bW} {Q : Int → bW → Prop} {X : String → bW → Prop} (hn : 143 ≤ n) (a1 : Int) (a2 : Int) (a3 : Int) (a4 : Int) (h : if a2 = 54 then (b_K d mX8_cell [(2, 27), (0, a3), (0, 2)] n w (fun r1 w2 => b_K d mX19_push [(2, 83), (0, r1)] n w2 (fun r3 w4 => if a4 = 0 then (b_K d mX19_cell [(2, 83), (0, a1), (0, 2)] n w4 (fun r5 w6 => b_K d mX19_enter [(2, 83), (0, r5)] n w6 (fun r7 w8 => Q 0 w8) X) X) else (b_K d mX19_cell [(2, 83), (0, a1), (0, 1)] n w4 (fun r9 w10 => b_K d mX19_enter [(2, 83), (0, r9)] n w10 (fun r11 w12 => Q 0 w12) X) X)) X) X) else (if a2 ≠ 53 then (if 0 = a4 then (if a4 = 0 then (b_K d mX19_cell [(2, 83), (0, a1), (0, 2)] n w (fun r13 w14 => b_K d mX19_enter [(2, 83), (0, r13)] n w14 (fun r15 w16 => Q 0 w16) X) X) else (b_K d mX19_cell [(2, 83), (0, a1), (0, 1)] n w (fun r17 w18 => b_K d mX19_enter [(2, 83), (0, r17)] n w18 (fun r19 w20 => Q 0 w20) X) X)) else (b_K d mX8_cell [(2, 27), (0, a3), (0, 2)] n w (fun r21 w22 => b_K d mX19_push [(2, 83), (0, r21)] n w22 (fun r23 w24 => if a4 = 0 then (b_K d mX19_cell [(2, 83), (0, a1), (0, 2)] n w24 (fun r25 w26 => b_K d mX19_enter [(2, 83), (0, r25)] n w26 (fun r27 w28 => Q 0 w28) X) X) else (b_K d mX19_cell [(2, 83), (0, a1), (0, 1)] n w24 (fun r29 w30 => b_K d mX19_enter [(2, 83), (0, r29)] n w30 (fun r31 w32 => Q 0 w32) X) X)) X) X)) else (if 1 = a4 then (if a4 = 0 then (b_K d mX19_cell [(2, 83), (0, a1), (0, 2)] n w (fun r33 w34 => b_K d mX19_enter [(2, 83), (0, r33)] n w34 (fun r35 w36 => Q 0 w36) X) X) else (b_K d mX19_cell [(2, 83), (0, a1), (0, 1)] n w (fun r37 w38 => b_K d mX19_enter [(2, 83), (0, r37)] n w38 (fun r39 w40 => Q 0 w40) X) X)) else (b_K d mX8_cell [(2, 27), (0, a3), (0, 2)] n w (fun r41 w42 => b_K d mX19_push [(2, 83), (0, r41)] n w42 (fun r43 w44 => if a4 = 0 then (b_K d mX19_cell [(2, 83), (0, a1), (0, 2)] n w44 (fun r45 w46 => b_K d mX19_enter [(2, 83), (0, r45)] n w46 (fun r47 w48 => Q 0 w48) X) X) else (b_K d mX19_cell [(2, 83), (0, a1), (0, 1)] n w44 (fun r49 w50 => b_K d mX19_enter [(2, 83), (0, r49)] n w50 (fun r51 w52 => Q 0 w52) X) X)) X) X)))) : LX19_branch_92 d n Q X a1 a2 a3 a4 w := by
  have i27 := iz27 (Nat.le_trans (Nat.le_of_ble_eq_true rfl) hn)
  have i83 := iz83 (Nat.le_trans (Nat.le_of_ble_eq_true rfl) hn)
  refine x_iload_n 2 dX19_branch_92 rfl rfl rfl ?_
  refine x_bipush 54 (z := 54) dX19_branch_93 rfl (by decide) rfl ?_
  refine x_icmp_eq (t := 114) 19 dX19_branch_95 rfl rfl (b_ite h (fun hc h => ?_) (fun hc h => ?_))
  · refine x_aload_n 0 dX19_branch_114 rfl rfl rfl rfl rfl ?_
    refine x_aload_n 0 dX19_branch_115 rfl rfl rfl rfl rfl ?_
    refine y_getF 54 0 (c := 18) (z := 27) dX19_branch_116 i83 rfl in_X19 q1292 rfl rfl rfl fn_83_0 (Nat.le_trans (Nat.le_of_ble_eq_true rfl) hn) rfl ?_
    refine x_iload_n 3 dX19_branch_119 rfl rfl rfl ?_
    refine x_iconst 2 (z := 2) dX19_branch_120 rfl (by decide) rfl ?_
    refine y_Vi 199 (M := mX8_cell) (As := [(0, a3), (0, 2)]) (st := [(2, 83)]) dX19_branch_121 i27 rfl q2595 q2010 q2011 q375 q2012 rfl hmX8_cell rfl rfl rfl rfl rfl rfl rfl rfl (k_mono h (fun r1 w2 h => ?_))
    refine y_Vv 122 (M := mX19_push) (As := [(0, r1)]) (st := []) dX19_branch_124 i83 rfl q2567 q2569 qs108 q386 q2570 rfl hmX19_push rfl rfl rfl rfl rfl rfl rfl (k_mono h (fun r3 w4 h => ?_))
    refine x_aload_n 0 dX19_branch_127 rfl rfl rfl rfl rfl ?_
    refine x_aload_n 0 dX19_branch_128 rfl rfl rfl rfl rfl ?_
    refine x_iload_n 1 dX19_branch_129 rfl rfl rfl ?_
    refine x_iload 4 dX19_branch_130 rfl rfl ?_
    refine x_if_eq (t := 139) 7 dX19_branch_132 rfl rfl (b_ite h (fun hc h => ?_) (fun hc h => ?_))
    · refine x_iconst 2 (z := 2) dX19_branch_139 rfl (by decide) rfl ?_
      refine y_Vi 131 (M := mX19_cell) (As := [(0, a1), (0, 2)]) (st := [(2, 83)]) dX19_branch_140 i83 rfl q2579 q2581 qs111 q386 q2582 rfl hmX19_cell rfl rfl rfl rfl rfl rfl rfl rfl (k_mono h (fun r5 w6 h => ?_))
      refine y_Vv 208 (M := mX19_enter) (As := [(0, r5)]) (st := []) dX19_branch_143 i83 rfl q2675 q2677 qs131 q386 q2678 rfl hmX19_enter rfl rfl rfl rfl rfl rfl rfl (k_mono h (fun r7 w8 h => ?_))
      exact y_vret dX19_branch_146 rfl h
    · refine x_iconst 1 (z := 1) dX19_branch_135 rfl (by decide) rfl ?_
      refine x_goto 4 (q := 140) dX19_branch_136 rfl ?_
      refine y_Vi 131 (M := mX19_cell) (As := [(0, a1), (0, 1)]) (st := [(2, 83)]) dX19_branch_140 i83 rfl q2579 q2581 qs111 q386 q2582 rfl hmX19_cell rfl rfl rfl rfl rfl rfl rfl rfl (k_mono h (fun r9 w10 h => ?_))
      refine y_Vv 208 (M := mX19_enter) (As := [(0, r9)]) (st := []) dX19_branch_143 i83 rfl q2675 q2677 qs131 q386 q2678 rfl hmX19_enter rfl rfl rfl rfl rfl rfl rfl (k_mono h (fun r11 w12 h => ?_))
      exact y_vret dX19_branch_146 rfl h
  · refine x_iload_n 2 dX19_branch_98 rfl rfl rfl ?_
    refine x_bipush 53 (z := 53) dX19_branch_99 rfl (by decide) rfl ?_
    refine x_icmp_ne (t := 108) 7 dX19_branch_101 rfl rfl (b_ite h (fun hc h => ?_) (fun hc h => ?_))
    · refine x_iconst 0 (z := 0) dX19_branch_108 rfl (by decide) rfl ?_
      refine x_iload 4 dX19_branch_109 rfl rfl ?_
      refine x_icmp_eq (t := 127) 16 dX19_branch_111 rfl rfl (b_ite h (fun hc h => ?_) (fun hc h => ?_))
      · refine x_aload_n 0 dX19_branch_127 rfl rfl rfl rfl rfl ?_
        refine x_aload_n 0 dX19_branch_128 rfl rfl rfl rfl rfl ?_
        refine x_iload_n 1 dX19_branch_129 rfl rfl rfl ?_
        refine x_iload 4 dX19_branch_130 rfl rfl ?_
        refine x_if_eq (t := 139) 7 dX19_branch_132 rfl rfl (b_ite h (fun hc h => ?_) (fun hc h => ?_))
        · refine x_iconst 2 (z := 2) dX19_branch_139 rfl (by decide) rfl ?_
          refine y_Vi 131 (M := mX19_cell) (As := [(0, a1), (0, 2)]) (st := [(2, 83)]) dX19_branch_140 i83 rfl q2579 q2581 qs111 q386 q2582 rfl hmX19_cell rfl rfl rfl rfl rfl rfl rfl rfl (k_mono h (fun r13 w14 h => ?_))
          refine y_Vv 208 (M := mX19_enter) (As := [(0, r13)]) (st := []) dX19_branch_143 i83 rfl q2675 q2677 qs131 q386 q2678 rfl hmX19_enter rfl rfl rfl rfl rfl rfl rfl (k_mono h (fun r15 w16 h => ?_))
          exact y_vret dX19_branch_146 rfl h
        · refine x_iconst 1 (z := 1) dX19_branch_135 rfl (by decide) rfl ?_
          refine x_goto 4 (q := 140) dX19_branch_136 rfl ?_
          refine y_Vi 131 (M := mX19_cell) (As := [(0, a1), (0, 1)]) (st := [(2, 83)]) dX19_branch_140 i83 rfl q2579 q2581 qs111 q386 q2582 rfl hmX19_cell rfl rfl rfl rfl rfl rfl rfl rfl (k_mono h (fun r17 w18 h => ?_))
          refine y_Vv 208 (M := mX19_enter) (As := [(0, r17)]) (st := []) dX19_branch_143 i83 rfl q2675 q2677 qs131 q386 q2678 rfl hmX19_enter rfl rfl rfl rfl rfl rfl rfl (k_mono h (fun r19 w20 h => ?_))
          exact y_vret dX19_branch_146 rfl h
      · refine x_aload_n 0 dX19_branch_114 rfl rfl rfl rfl rfl ?_
        refine x_aload_n 0 dX19_branch_115 rfl rfl rfl rfl rfl ?_
        refine y_getF 54 0 (c := 18) (z := 27) dX19_branch_116 i83 rfl in_X19 q1292 rfl rfl rfl fn_83_0 (Nat.le_trans (Nat.le_of_ble_eq_true rfl) hn) rfl ?_
        refine x_iload_n 3 dX19_branch_119 rfl rfl rfl ?_
        refine x_iconst 2 (z := 2) dX19_branch_120 rfl (by decide) rfl ?_
        refine y_Vi 199 (M := mX8_cell) (As := [(0, a3), (0, 2)]) (st := [(2, 83)]) dX19_branch_121 i27 rfl q2595 q2010 q2011 q375 q2012 rfl hmX8_cell rfl rfl rfl rfl rfl rfl rfl rfl (k_mono h (fun r21 w22 h => ?_))
        refine y_Vv 122 (M := mX19_push) (As := [(0, r21)]) (st := []) dX19_branch_124 i83 rfl q2567 q2569 qs108 q386 q2570 rfl hmX19_push rfl rfl rfl rfl rfl rfl rfl (k_mono h (fun r23 w24 h => ?_))
        refine x_aload_n 0 dX19_branch_127 rfl rfl rfl rfl rfl ?_
        refine x_aload_n 0 dX19_branch_128 rfl rfl rfl rfl rfl ?_
        refine x_iload_n 1 dX19_branch_129 rfl rfl rfl ?_
        refine x_iload 4 dX19_branch_130 rfl rfl ?_
        refine x_if_eq (t := 139) 7 dX19_branch_132 rfl rfl (b_ite h (fun hc h => ?_) (fun hc h => ?_))
        · refine x_iconst 2 (z := 2) dX19_branch_139 rfl (by decide) rfl ?_
          refine y_Vi 131 (M := mX19_cell) (As := [(0, a1), (0, 2)]) (st := [(2, 83)]) dX19_branch_140 i83 rfl q2579 q2581 qs111 q386 q2582 rfl hmX19_cell rfl rfl rfl rfl rfl rfl rfl rfl (k_mono h (fun r25 w26 h => ?_))
          refine y_Vv 208 (M := mX19_enter) (As := [(0, r25)]) (st := []) dX19_branch_143 i83 rfl q2675 q2677 qs131 q386 q2678 rfl hmX19_enter rfl rfl rfl rfl rfl rfl rfl (k_mono h (fun r27 w28 h => ?_))
          exact y_vret dX19_branch_146 rfl h
        · refine x_iconst 1 (z := 1) dX19_branch_135 rfl (by decide) rfl ?_
          refine x_goto 4 (q := 140) dX19_branch_136 rfl ?_
          refine y_Vi 131 (M := mX19_cell) (As := [(0, a1), (0, 1)]) (st := [(2, 83)]) dX19_branch_140 i83 rfl q2579 q2581 qs111 q386 q2582 rfl hmX19_cell rfl rfl rfl rfl rfl rfl rfl rfl (k_mono h (fun r29 w30 h => ?_))
          refine y_Vv 208 (M := mX19_enter) (As := [(0, r29)]) (st := []) dX19_branch_143 i83 rfl q2675 q2677 qs131 q386 q2678 rfl hmX19_enter rfl rfl rfl rfl rfl rfl rfl (k_mono h (fun r31 w32 h => ?_))
          exact y_vret dX19_branch_146 rfl h
    · refine x_iconst 1 (z := 1) dX19_branch_104 rfl (by decide) rfl ?_
      refine x_goto 4 (q := 109) dX19_branch_105 rfl ?_
      refine x_iload 4 dX19_branch_109 rfl rfl ?_
      refine x_icmp_eq (t := 127) 16 dX19_branch_111 rfl rfl (b_ite h (fun hc h => ?_) (fun hc h => ?_))
      · refine x_aload_n 0 dX19_branch_127 rfl rfl rfl rfl rfl ?_
        refine x_aload_n 0 dX19_branch_128 rfl rfl rfl rfl rfl ?_
        refine x_iload_n 1 dX19_branch_129 rfl rfl rfl ?_
        refine x_iload 4 dX19_branch_130 rfl rfl ?_
        refine x_if_eq (t := 139) 7 dX19_branch_132 rfl rfl (b_ite h (fun hc h => ?_) (fun hc h => ?_))
        · refine x_iconst 2 (z := 2) dX19_branch_139 rfl (by decide) rfl ?_
          refine y_Vi 131 (M := mX19_cell) (As := [(0, a1), (0, 2)]) (st := [(2, 83)]) dX19_branch_140 i83 rfl q2579 q2581 qs111 q386 q2582 rfl hmX19_cell rfl rfl rfl rfl rfl rfl rfl rfl (k_mono h (fun r33 w34 h => ?_))
          refine y_Vv 208 (M := mX19_enter) (As := [(0, r33)]) (st := []) dX19_branch_143 i83 rfl q2675 q2677 qs131 q386 q2678 rfl hmX19_enter rfl rfl rfl rfl rfl rfl rfl (k_mono h (fun r35 w36 h => ?_))
          exact y_vret dX19_branch_146 rfl h
        · refine x_iconst 1 (z := 1) dX19_branch_135 rfl (by decide) rfl ?_
          refine x_goto 4 (q := 140) dX19_branch_136 rfl ?_
          refine y_Vi 131 (M := mX19_cell) (As := [(0, a1), (0, 1)]) (st := [(2, 83)]) dX19_branch_140 i83 rfl q2579 q2581 qs111 q386 q2582 rfl hmX19_cell rfl rfl rfl rfl rfl rfl rfl rfl (k_mono h (fun r37 w38 h => ?_))
          refine y_Vv 208 (M := mX19_enter) (As := [(0, r37)]) (st := []) dX19_branch_143 i83 rfl q2675 q2677 qs131 q386 q2678 rfl hmX19_enter rfl rfl rfl rfl rfl rfl rfl (k_mono h (fun r39 w40 h => ?_))
          exact y_vret dX19_branch_146 rfl h
      · refine x_aload_n 0 dX19_branch_114 rfl rfl rfl rfl rfl ?_
        refine x_aload_n 0 dX19_branch_115 rfl rfl rfl rfl rfl ?_
        refine y_getF 54 0 (c := 18) (z := 27) dX19_branch_116 i83 rfl in_X19 q1292 rfl rfl rfl fn_83_0 (Nat.le_trans (Nat.le_of_ble_eq_true rfl) hn) rfl ?_
        refine x_iload_n 3 dX19_branch_119 rfl rfl rfl ?_
        refine x_iconst 2 (z := 2) dX19_branch_120 rfl (by decide) rfl ?_
        refine y_Vi 199 (M := mX8_cell) (As := [(0, a3), (0, 2)]) (st := [(2, 83)]) dX19_branch_121 i27 rfl q2595 q2010 q2011 q375 q2012 rfl hmX8_cell rfl rfl rfl rfl rfl rfl rfl rfl (k_mono h (fun r41 w42 h => ?_))
        refine y_Vv 122 (M := mX19_push) (As := [(0, r41)]) (st := []) dX19_branch_124 i83 rfl q2567 q2569 qs108 q386 q2570 rfl hmX19_push rfl rfl rfl rfl rfl rfl rfl (k_mono h (fun r43 w44 h => ?_))
        refine x_aload_n 0 dX19_branch_127 rfl rfl rfl rfl rfl ?_
        refine x_aload_n 0 dX19_branch_128 rfl rfl rfl rfl rfl ?_
        refine x_iload_n 1 dX19_branch_129 rfl rfl rfl ?_
        refine x_iload 4 dX19_branch_130 rfl rfl ?_
        refine x_if_eq (t := 139) 7 dX19_branch_132 rfl rfl (b_ite h (fun hc h => ?_) (fun hc h => ?_))
        · refine x_iconst 2 (z := 2) dX19_branch_139 rfl (by decide) rfl ?_
          refine y_Vi 131 (M := mX19_cell) (As := [(0, a1), (0, 2)]) (st := [(2, 83)]) dX19_branch_140 i83 rfl q2579 q2581 qs111 q386 q2582 rfl hmX19_cell rfl rfl rfl rfl rfl rfl rfl rfl (k_mono h (fun r45 w46 h => ?_))
          refine y_Vv 208 (M := mX19_enter) (As := [(0, r45)]) (st := []) dX19_branch_143 i83 rfl q2675 q2677 qs131 q386 q2678 rfl hmX19_enter rfl rfl rfl rfl rfl rfl rfl (k_mono h (fun r47 w48 h => ?_))
          exact y_vret dX19_branch_146 rfl h
        · refine x_iconst 1 (z := 1) dX19_branch_135 rfl (by decide) rfl ?_
          refine x_goto 4 (q := 140) dX19_branch_136 rfl ?_
          refine y_Vi 131 (M := mX19_cell) (As := [(0, a1), (0, 1)]) (st := [(2, 83)]) dX19_branch_140 i83 rfl q2579 q2581 qs111 q386 q2582 rfl hmX19_cell rfl rfl rfl rfl rfl rfl rfl rfl (k_mono h (fun r49 w50 h => ?_))
          refine y_Vv 208 (M := mX19_enter) (As := [(0, r49)]) (st := []) dX19_branch_143 i83 rfl q2675 q2677 qs131 q386 q2678 rfl hmX19_enter rfl rfl rfl rfl rfl rfl rfl (k_mono h (fun r51 w52 h => ?_))
          exact y_vret dX19_branch_146 rfl h
theorem rX19_map {d n : Nat} {w : bW} {Q : Int → bW → Prop} {X : String → bW → Prop} (hn : 143 ≤ n) (a1 : Int) (a2 : Int) (h : b_K d mX19_cell [(2, 83), (0, a1), (0, 2)] n w (fun r1 w2 => if r1 = 3 then (if a2 ≠ 8 then (b_K d mX18_use [(2, 82), (1, 10)] n w2 (fun r3 w4 => b_K d mX8_cell [(2, 27), (0, a2), (0, 2)] n w4 (fun r5 w6 => b_K d mX19_push [(2, 83), (0, r5)] n w6 (fun r7 w8 => b_K d mX19_frame [(2, 83), (0, 6), (0, w8 83 22), (0, 0), (0, 0)] n w8 (fun r9 w10 => b_K d mX19_cell [(2, 83), (0, a1), (0, 1)] n w10 (fun r11 w12 => Q 0 (b_up w12 83 22 r11)) X) X) X) X) X) else (b_K d mX19_push [(2, 83), (0, a2)] n w2 (fun r13 w14 => Q 0 w14) X)) else (b_K d mX19_mapped [(2, 83), (0, a1), (0, a2), (0, 0)] n w2 (fun r15 w16 => Q 0 w16) X)) X) : b_K (d + 1) mX19_map [(2, 83), (0, a1), (0, a2)] n w Q X := by
  have i27 := iz27 (Nat.le_trans (Nat.le_of_ble_eq_true rfl) hn)
  have i82 := iz82 (Nat.le_trans (Nat.le_of_ble_eq_true rfl) hn)
  have i83 := iz83 (Nat.le_trans (Nat.le_of_ble_eq_true rfl) hn)
  refine k_of (by decide) rfl rfl rfl (ls := [(2, 83), (0, a1), (0, a2)]) rfl ?_
  refine x_aload_n 0 dX19_map_0 rfl rfl rfl rfl rfl ?_
  refine x_iload_n 1 dX19_map_1 rfl rfl rfl ?_
  refine x_iconst 2 (z := 2) dX19_map_2 rfl (by decide) rfl ?_
  refine y_Vi 131 (M := mX19_cell) (As := [(0, a1), (0, 2)]) (st := []) dX19_map_3 i83 rfl q2579 q2581 qs111 q386 q2582 rfl hmX19_cell rfl rfl rfl rfl rfl rfl rfl rfl (k_mono h (fun r1 w2 h => ?_))
  refine x_iconst 3 (z := 3) dX19_map_6 rfl (by decide) rfl ?_
  refine x_icmp_eq (t := 18) 11 dX19_map_7 rfl rfl (b_ite h (fun hc h => ?_) (fun hc h => ?_))
  · refine x_iload_n 2 dX19_map_18 rfl rfl rfl ?_
    refine x_bipush 8 (z := 8) dX19_map_19 rfl (by decide) rfl ?_
    refine x_icmp_ne (t := 30) 9 dX19_map_21 rfl rfl (b_ite h (fun hc h => ?_) (fun hc h => ?_))
    · refine x_aload_n 0 dX19_map_30 rfl rfl rfl rfl rfl ?_
      refine y_getF 94 10 (c := 18) (z := 82) dX19_map_31 i83 rfl in_X19 q1302 rfl rfl rfl fn_83_10 (Nat.le_trans (Nat.le_of_ble_eq_true rfl) hn) rfl ?_
      refine x_ldc2 206 (x := 10) dX19_map_34 q2606 rfl (by decide) rfl ?_
      refine y_Vv 183 (M := mX18_use) (As := [(1, 10)]) (st := []) dX19_map_37 i82 rfl q2607 q2500 q2501 q385 q2502 rfl hmX18_use rfl rfl rfl rfl rfl rfl rfl (k_mono h (fun r3 w4 h => ?_))
      refine x_aload_n 0 dX19_map_40 rfl rfl rfl rfl rfl ?_
      refine x_aload_n 0 dX19_map_41 rfl rfl rfl rfl rfl ?_
      refine y_getF 54 0 (c := 18) (z := 27) dX19_map_42 i83 rfl in_X19 q1292 rfl rfl rfl fn_83_0 (Nat.le_trans (Nat.le_of_ble_eq_true rfl) hn) rfl ?_
      refine x_iload_n 2 dX19_map_45 rfl rfl rfl ?_
      refine x_iconst 2 (z := 2) dX19_map_46 rfl (by decide) rfl ?_
      refine y_Vi 199 (M := mX8_cell) (As := [(0, a2), (0, 2)]) (st := [(2, 83)]) dX19_map_47 i27 rfl q2595 q2010 q2011 q375 q2012 rfl hmX8_cell rfl rfl rfl rfl rfl rfl rfl rfl (k_mono h (fun r5 w6 h => ?_))
      refine y_Vv 122 (M := mX19_push) (As := [(0, r5)]) (st := []) dX19_map_50 i83 rfl q2567 q2569 qs108 q386 q2570 rfl hmX19_push rfl rfl rfl rfl rfl rfl rfl (k_mono h (fun r7 w8 h => ?_))
      refine x_aload_n 0 dX19_map_53 rfl rfl rfl rfl rfl ?_
      refine x_bipush 6 (z := 6) dX19_map_54 rfl (by decide) rfl ?_
      refine x_aload_n 0 dX19_map_56 rfl rfl rfl rfl rfl ?_
      refine y_get 125 22 (c := 18) (z := w8 83 22) dX19_map_57 i83 rfl in_X19 q1314 rfl rfl rfl rfl rfl ?_
      refine x_iconst 0 (z := 0) dX19_map_60 rfl (by decide) rfl ?_
      refine x_iconst 0 (z := 0) dX19_map_61 rfl (by decide) rfl ?_
      refine y_Vv 159 (M := mX19_frame) (As := [(0, 6), (0, w8 83 22), (0, 0), (0, 0)]) (st := []) dX19_map_62 i83 rfl q2587 q2589 qs113 q386 q2590 rfl hmX19_frame rfl rfl rfl rfl rfl rfl rfl (k_mono h (fun r9 w10 h => ?_))
      refine x_aload_n 0 dX19_map_65 rfl rfl rfl rfl rfl ?_
      refine x_aload_n 0 dX19_map_66 rfl rfl rfl rfl rfl ?_
      refine x_iload_n 1 dX19_map_67 rfl rfl rfl ?_
      refine x_iconst 1 (z := 1) dX19_map_68 rfl (by decide) rfl ?_
      refine y_Vi 131 (M := mX19_cell) (As := [(0, a1), (0, 1)]) (st := [(2, 83)]) dX19_map_69 i83 rfl q2579 q2581 qs111 q386 q2582 rfl hmX19_cell rfl rfl rfl rfl rfl rfl rfl rfl (k_mono h (fun r11 w12 h => ?_))
      refine x_put 125 22 (c := 18) dX19_map_72 i83 rfl in_X19 tyX19_ok nmX19 q1314 rfl rfl rfl (Or.inl rfl) (Or.inl ⟨rfl, rfl⟩) rfl ?_
      exact y_vret dX19_map_75 rfl h
    · refine x_aload_n 0 dX19_map_24 rfl rfl rfl rfl rfl ?_
      refine x_iload_n 2 dX19_map_25 rfl rfl rfl ?_
      refine y_Vv 122 (M := mX19_push) (As := [(0, a2)]) (st := []) dX19_map_26 i83 rfl q2567 q2569 qs108 q386 q2570 rfl hmX19_push rfl rfl rfl rfl rfl rfl rfl (k_mono h (fun r13 w14 h => ?_))
      exact y_vret dX19_map_29 rfl h
  · refine x_aload_n 0 dX19_map_10 rfl rfl rfl rfl rfl ?_
    refine x_iload_n 1 dX19_map_11 rfl rfl rfl ?_
    refine x_iload_n 2 dX19_map_12 rfl rfl rfl ?_
    refine x_iconst 0 (z := 0) dX19_map_13 rfl (by decide) rfl ?_
    refine y_Vv 153 (M := mX19_mapped) (As := [(0, a1), (0, a2), (0, 0)]) (st := []) dX19_map_14 i83 rfl q2627 q2629 qs120 q386 q2630 rfl hmX19_mapped rfl rfl rfl rfl rfl rfl rfl (k_mono h (fun r15 w16 h => ?_))
    exact y_vret dX19_map_17 rfl h
abbrev LX19_exec_10 (d n : Nat) (Q : Int → bW → Prop) (X : String → bW → Prop) (a1 : Int) (a2 : Int) (w : bW) : Prop := b_Y (d + 1) mX19_exec n Q X 10 [(2, 83), (0, a1), (0, a2)] [] w
theorem rX19_exec {d n : Nat} {w : bW} {Q : Int → bW → Prop} {X : String → bW → Prop} (hn : 143 ≤ n) (h : b_K d mX19_pop [(2, 83)] n w (fun r1 w2 => b_K d mX19_pop [(2, 83)] n w2 (fun r3 w4 => LX19_exec_10 d n Q X r1 r3 w4) X) X) : b_K (d + 1) mX19_exec [(2, 83)] n w Q X := by
  have i83 := iz83 (Nat.le_trans (Nat.le_of_ble_eq_true rfl) hn)
  refine k_of (by decide) rfl rfl rfl (ls := [(2, 83), (9, 0), (9, 0)]) rfl ?_
  refine x_aload_n 0 dX19_exec_0 rfl rfl rfl rfl rfl ?_
  refine y_Vi 139 (M := mX19_pop) (As := []) (st := []) dX19_exec_1 i83 rfl q2583 q2585 qs112 q386 q2586 rfl hmX19_pop rfl rfl rfl rfl rfl rfl rfl rfl (k_mono h (fun r1 w2 h => ?_))
  refine x_istore_n 1 (ls' := [(2, 83), (0, r1), (9, 0)]) dX19_exec_4 rfl rfl rfl rfl ?_
  refine x_aload_n 0 dX19_exec_5 rfl rfl rfl rfl rfl ?_
  refine y_Vi 139 (M := mX19_pop) (As := []) (st := []) dX19_exec_6 i83 rfl q2583 q2585 qs112 q386 q2586 rfl hmX19_pop rfl rfl rfl rfl rfl rfl rfl rfl (k_mono h (fun r3 w4 h => ?_))
  refine x_istore_n 2 (ls' := [(2, 83), (0, r1), (0, r3)]) dX19_exec_9 rfl rfl rfl rfl ?_
  exact x_fg (fgk (fgk (fgk (fg0)))) h
theorem sX19_exec_10 {d n : Nat} {w : bW} {Q : Int → bW → Prop} {X : String → bW → Prop} (hn : 143 ≤ n) (a1 : Int) (a2 : Int) (h : b_K d mX8_cell [(2, 27), (0, a2), (0, 3)] n w (fun r1 w2 => if r1 = 0 then (b_K d mX19_push [(2, 83), (0, a1)] n w2 (fun r3 w4 => b_K d mX8_cell [(2, 27), (0, a2), (0, 2)] n w4 (fun r5 w6 => b_K d mX19_enter [(2, 83), (0, r5)] n w6 (fun r7 w8 => Q 0 w8) X) X) X) else (b_K d mX18_use [(2, 82), (1, 10)] n w2 (fun r9 w10 => b_K d mX8_cell [(2, 27), (0, a2), (0, 4)] n w10 (fun r11 w12 => b_K d mX8_pair [(2, 27), (0, r11), (0, a1)] n w12 (fun r13 w14 => b_K d mX8_cell [(2, 27), (0, a2), (0, 3)] n w14 (fun r15 w16 => LX19_exec_10 d n Q X r13 r15 w16) X) X) X) X)) X) : LX19_exec_10 d n Q X a1 a2 w := by
  have i27 := iz27 (Nat.le_trans (Nat.le_of_ble_eq_true rfl) hn)
  have i82 := iz82 (Nat.le_trans (Nat.le_of_ble_eq_true rfl) hn)
  have i83 := iz83 (Nat.le_trans (Nat.le_of_ble_eq_true rfl) hn)
  refine x_aload_n 0 dX19_exec_10 rfl rfl rfl rfl rfl ?_
  refine y_getF 54 0 (c := 18) (z := 27) dX19_exec_11 i83 rfl in_X19 q1292 rfl rfl rfl fn_83_0 (Nat.le_trans (Nat.le_of_ble_eq_true rfl) hn) rfl ?_
  refine x_iload_n 2 dX19_exec_14 rfl rfl rfl ?_
  refine x_iconst 3 (z := 3) dX19_exec_15 rfl (by decide) rfl ?_
  refine y_Vi 199 (M := mX8_cell) (As := [(0, a2), (0, 3)]) (st := []) dX19_exec_16 i27 rfl q2595 q2010 q2011 q375 q2012 rfl hmX8_cell rfl rfl rfl rfl rfl rfl rfl rfl (k_mono h (fun r1 w2 h => ?_))
  refine x_if_eq (t := 63) 44 dX19_exec_19 rfl rfl (b_ite h (fun hc h => ?_) (fun hc h => ?_))
  · refine x_aload_n 0 dX19_exec_63 rfl rfl rfl rfl rfl ?_
    refine x_iload_n 1 dX19_exec_64 rfl rfl rfl ?_
    refine y_Vv 122 (M := mX19_push) (As := [(0, a1)]) (st := []) dX19_exec_65 i83 rfl q2567 q2569 qs108 q386 q2570 rfl hmX19_push rfl rfl rfl rfl rfl rfl rfl (k_mono h (fun r3 w4 h => ?_))
    refine x_aload_n 0 dX19_exec_68 rfl rfl rfl rfl rfl ?_
    refine x_aload_n 0 dX19_exec_69 rfl rfl rfl rfl rfl ?_
    refine y_getF 54 0 (c := 18) (z := 27) dX19_exec_70 i83 rfl in_X19 q1292 rfl rfl rfl fn_83_0 (Nat.le_trans (Nat.le_of_ble_eq_true rfl) hn) rfl ?_
    refine x_iload_n 2 dX19_exec_73 rfl rfl rfl ?_
    refine x_iconst 2 (z := 2) dX19_exec_74 rfl (by decide) rfl ?_
    refine y_Vi 199 (M := mX8_cell) (As := [(0, a2), (0, 2)]) (st := [(2, 83)]) dX19_exec_75 i27 rfl q2595 q2010 q2011 q375 q2012 rfl hmX8_cell rfl rfl rfl rfl rfl rfl rfl rfl (k_mono h (fun r5 w6 h => ?_))
    refine y_Vv 208 (M := mX19_enter) (As := [(0, r5)]) (st := []) dX19_exec_78 i83 rfl q2675 q2677 qs131 q386 q2678 rfl hmX19_enter rfl rfl rfl rfl rfl rfl rfl (k_mono h (fun r7 w8 h => ?_))
    exact y_vret dX19_exec_81 rfl h
  · refine x_aload_n 0 dX19_exec_22 rfl rfl rfl rfl rfl ?_
    refine y_getF 94 10 (c := 18) (z := 82) dX19_exec_23 i83 rfl in_X19 q1302 rfl rfl rfl fn_83_10 (Nat.le_trans (Nat.le_of_ble_eq_true rfl) hn) rfl ?_
    refine x_ldc2 206 (x := 10) dX19_exec_26 q2606 rfl (by decide) rfl ?_
    refine y_Vv 183 (M := mX18_use) (As := [(1, 10)]) (st := []) dX19_exec_29 i82 rfl q2607 q2500 q2501 q385 q2502 rfl hmX18_use rfl rfl rfl rfl rfl rfl rfl (k_mono h (fun r9 w10 h => ?_))
    refine x_aload_n 0 dX19_exec_32 rfl rfl rfl rfl rfl ?_
    refine y_getF 54 0 (c := 18) (z := 27) dX19_exec_33 i83 rfl in_X19 q1292 rfl rfl rfl fn_83_0 (Nat.le_trans (Nat.le_of_ble_eq_true rfl) hn) rfl ?_
    refine x_aload_n 0 dX19_exec_36 rfl rfl rfl rfl rfl ?_
    refine y_getF 54 0 (c := 18) (z := 27) dX19_exec_37 i83 rfl in_X19 q1292 rfl rfl rfl fn_83_0 (Nat.le_trans (Nat.le_of_ble_eq_true rfl) hn) rfl ?_
    refine x_iload_n 2 dX19_exec_40 rfl rfl rfl ?_
    refine x_iconst 4 (z := 4) dX19_exec_41 rfl (by decide) rfl ?_
    refine y_Vi 199 (M := mX8_cell) (As := [(0, a2), (0, 4)]) (st := [(2, 27)]) dX19_exec_42 i27 rfl q2595 q2010 q2011 q375 q2012 rfl hmX8_cell rfl rfl rfl rfl rfl rfl rfl rfl (k_mono h (fun r11 w12 h => ?_))
    refine x_iload_n 1 dX19_exec_45 rfl rfl rfl ?_
    refine y_Vi 203 (M := mX8_pair) (As := [(0, r11), (0, a1)]) (st := []) dX19_exec_46 i27 rfl q2626 q2054 q2055 q375 q2056 rfl hmX8_pair rfl rfl rfl rfl rfl rfl rfl rfl (k_mono h (fun r13 w14 h => ?_))
    refine x_istore_n 1 (ls' := [(2, 83), (0, r13), (0, a2)]) dX19_exec_49 rfl rfl rfl rfl ?_
    refine x_aload_n 0 dX19_exec_50 rfl rfl rfl rfl rfl ?_
    refine y_getF 54 0 (c := 18) (z := 27) dX19_exec_51 i83 rfl in_X19 q1292 rfl rfl rfl fn_83_0 (Nat.le_trans (Nat.le_of_ble_eq_true rfl) hn) rfl ?_
    refine x_iload_n 2 dX19_exec_54 rfl rfl rfl ?_
    refine x_iconst 3 (z := 3) dX19_exec_55 rfl (by decide) rfl ?_
    refine y_Vi 199 (M := mX8_cell) (As := [(0, a2), (0, 3)]) (st := []) dX19_exec_56 i27 rfl q2595 q2010 q2011 q375 q2012 rfl hmX8_cell rfl rfl rfl rfl rfl rfl rfl rfl (k_mono h (fun r15 w16 h => ?_))
    refine x_istore_n 2 (ls' := [(2, 83), (0, r13), (0, r15)]) dX19_exec_59 rfl rfl rfl rfl ?_
    refine x_goto (-50) (q := 10) dX19_exec_60 rfl ?_
    exact x_fg (fgk (fgk (fgk (fg0)))) h
theorem rX19_length {d n : Nat} {w : bW} {Q : Int → bW → Prop} {X : String → bW → Prop} (hn : 143 ≤ n) (a1 : Int) (h : b_K d mX19_at [(2, 83), (0, a1)] n w (fun r1 w2 => b_K d mX8_length [(2, 27), (0, r1)] n w2 (fun r3 w4 => Q r3 w4) X) X) : b_K (d + 1) mX19_length [(2, 83), (0, a1)] n w Q X := by
  have i27 := iz27 (Nat.le_trans (Nat.le_of_ble_eq_true rfl) hn)
  have i83 := iz83 (Nat.le_trans (Nat.le_of_ble_eq_true rfl) hn)
  refine k_of (by decide) rfl rfl rfl (ls := [(2, 83), (0, a1)]) rfl ?_
  refine x_aload_n 0 dX19_length_0 rfl rfl rfl rfl rfl ?_
  refine y_getF 54 0 (c := 18) (z := 27) dX19_length_1 i83 rfl in_X19 q1292 rfl rfl rfl fn_83_0 (Nat.le_trans (Nat.le_of_ble_eq_true rfl) hn) rfl ?_
  refine x_aload_n 0 dX19_length_4 rfl rfl rfl rfl rfl ?_
  refine x_iload_n 1 dX19_length_5 rfl rfl rfl ?_
  refine y_Vi 102 (M := mX19_at) (As := [(0, a1)]) (st := [(2, 27)]) dX19_length_6 i83 rfl q2651 q2653 qs125 q386 q2654 rfl hmX19_at rfl rfl rfl rfl rfl rfl rfl rfl (k_mono h (fun r1 w2 h => ?_))
  refine y_Vi 106 (M := mX8_length) (As := [(0, r1)]) (st := []) dX19_length_9 i27 rfl q2650 q2028 q2029 q375 q2030 rfl hmX8_length rfl rfl rfl rfl rfl rfl rfl rfl (k_mono h (fun r3 w4 h => ?_))
  exact y_iret dX19_length_12 rfl h
abbrev LX19_plain_172 (d n : Nat) (Q : Int → bW → Prop) (X : String → bW → Prop) (a2 : Int) (a4 : Int) (s0 : Int) (w : bW) : Prop := b_Y (d + 1) mX19_plain n Q X 172 [(2, 83), (9, 0), (0, a2), (9, 0), (0, a4), (9, 0)] [(0, s0)] w
theorem rX19_plain {d n : Nat} {w : bW} {Q : Int → bW → Prop} {X : String → bW → Prop} (hn : 143 ≤ n) (a1 : Int) (a2 : Int) (h : b_K d mX19_cell [(2, 83), (0, a1), (0, 1)] n w (fun r1 w2 => if a2 ≠ 79 then (if a2 < 80 then (b_K d mX19_isUnary [(0, a2)] n w2 (fun r3 w4 => if r3 = 0 then (if r1 ≠ 1 then (if a2 = 67 then (b_K d mX19_length [(2, 83), (0, 0)] n w4 (fun r5 w6 => b_K d mX19_length [(2, 83), (0, 1)] n w6 (fun r7 w8 => b_K d mX18_use [(2, 82), (1, b_l (10 + (b_ldiv (b_l (r5 * r7)) 64)))] n w8 (fun r9 w10 => b_K d mX19_binary [(2, 83), (0, a2), (0, r1)] n w10 (fun r11 w12 => Q 0 w12) X) X) X) X) else (if a2 ≠ 68 then (b_K d mX19_length [(2, 83), (0, 0)] n w4 (fun r13 w14 => b_K d mX19_length [(2, 83), (0, 1)] n w14 (fun r15 w16 => b_K d mX18_use [(2, 82), (1, b_l (10 + (b_div (b_i (r13 + r15)) 8)))] n w16 (fun r17 w18 => b_K d mX19_binary [(2, 83), (0, a2), (0, r1)] n w18 (fun r19 w20 => Q 0 w20) X) X) X) X) else (b_K d mX19_length [(2, 83), (0, 0)] n w4 (fun r21 w22 => b_K d mX19_length [(2, 83), (0, 1)] n w22 (fun r23 w24 => b_K d mX18_use [(2, 82), (1, b_l (10 + (b_ldiv (b_l (r21 * r23)) 64)))] n w24 (fun r25 w26 => b_K d mX19_binary [(2, 83), (0, a2), (0, r1)] n w26 (fun r27 w28 => Q 0 w28) X) X) X) X))) else (b_K d mX18_use [(2, 82), (1, 10)] n w4 (fun r29 w30 => b_K d mX19_pop [(2, 83)] n w30 (fun r31 w32 => if r31 ≠ 6 then (b_K d mX19_pop [(2, 83)] n w32 (fun r33 w34 => if r33 ≠ 6 then (LX19_plain_172 d n Q X a2 0 0 w34) else (LX19_plain_172 d n Q X a2 0 1 w34)) X) else (b_K d mX19_pop [(2, 83)] n w32 (fun r35 w36 => if r35 ≠ 6 then (LX19_plain_172 d n Q X a2 1 0 w36) else (LX19_plain_172 d n Q X a2 1 1 w36)) X)) X) X)) else (b_K d mX19_unary [(2, 83), (0, a2), (0, r1)] n w4 (fun r37 w38 => Q 0 w38) X)) X) else (b_K d mX18_use [(2, 82), (1, 10)] n w2 (fun r39 w40 => b_K d mX19_pop [(2, 83)] n w40 (fun r41 w42 => b_K d mX19_sign [(2, 83), (0, a2), (0, r41)] n w42 (fun r43 w44 => if r43 = 0 then (b_K d mX19_push [(2, 83), (0, 4)] n w44 (fun r45 w46 => Q 0 w46) X) else (b_K d mX19_push [(2, 83), (0, 6)] n w44 (fun r47 w48 => Q 0 w48) X)) X) X) X)) else (b_K d mX19_length [(2, 83), (0, 0)] n w2 (fun r49 w50 => b_K d mX19_length [(2, 83), (0, 1)] n w50 (fun r51 w52 => b_K d mX18_use [(2, 82), (1, b_i (10 + (b_div (min r49 r51) 8)))] n w52 (fun r53 w54 => b_K d mX19_pop [(2, 83)] n w54 (fun r55 w56 => b_K d mX19_pop [(2, 83)] n w56 (fun r57 w58 => b_K d mX9_compare [(2, 33), (0, r55), (0, r57), (0, r1)] n w58 (fun r59 w60 => b_K d mX8_small [(0, r59)] n w60 (fun r61 w62 => b_K d mX19_push [(2, 83), (0, r61)] n w62 (fun r63 w64 => Q 0 w64) X) X) X) X) X) X) X) X)) X) : b_K (d + 1) mX19_plain [(2, 83), (0, a1), (0, a2)] n w Q X := by
  have i33 := iz33 (Nat.le_trans (Nat.le_of_ble_eq_true rfl) hn)
  have i82 := iz82 (Nat.le_trans (Nat.le_of_ble_eq_true rfl) hn)
  have i83 := iz83 (Nat.le_trans (Nat.le_of_ble_eq_true rfl) hn)
  refine k_of (by decide) rfl rfl rfl (ls := [(2, 83), (0, a1), (0, a2), (9, 0), (9, 0), (9, 0)]) rfl ?_
  refine x_aload_n 0 dX19_plain_0 rfl rfl rfl rfl rfl ?_
  refine x_iload_n 1 dX19_plain_1 rfl rfl rfl ?_
  refine x_iconst 1 (z := 1) dX19_plain_2 rfl (by decide) rfl ?_
  refine y_Vi 131 (M := mX19_cell) (As := [(0, a1), (0, 1)]) (st := []) dX19_plain_3 i83 rfl q2579 q2581 qs111 q386 q2582 rfl hmX19_cell rfl rfl rfl rfl rfl rfl rfl rfl (k_mono h (fun r1 w2 h => ?_))
  refine x_istore_n 3 (ls' := [(2, 83), (0, a1), (0, a2), (0, r1), (9, 0), (9, 0)]) dX19_plain_6 rfl rfl rfl rfl ?_
  refine x_iload_n 2 dX19_plain_7 rfl rfl rfl ?_
  refine x_bipush 79 (z := 79) dX19_plain_8 rfl (by decide) rfl ?_
  refine x_icmp_ne (t := 70) 60 dX19_plain_10 rfl rfl (b_ite h (fun hc h => ?_) (fun hc h => ?_))
  · refine x_iload_n 2 dX19_plain_70 rfl rfl rfl ?_
    refine x_bipush 80 (z := 80) dX19_plain_71 rfl (by decide) rfl ?_
    refine x_icmp_lt (t := 111) 38 dX19_plain_73 rfl rfl (b_ite h (fun hc h => ?_) (fun hc h => ?_))
    · refine x_iload_n 2 dX19_plain_111 rfl rfl rfl ?_
      refine y_Si 286 (M := mX19_isUnary) (As := [(0, a2)]) (st := []) dX19_plain_112 q2715 q2716 q386 q2717 hmX19_isUnary rfl rfl rfl rfl rfl rfl rfl rfl (k_mono h (fun r3 w4 h => ?_))
      refine x_if_eq (t := 127) 12 dX19_plain_115 rfl rfl (b_ite h (fun hc h => ?_) (fun hc h => ?_))
      · refine x_iload_n 3 dX19_plain_127 rfl rfl rfl ?_
        refine x_iconst 1 (z := 1) dX19_plain_128 rfl (by decide) rfl ?_
        refine x_icmp_ne (t := 232) 103 dX19_plain_129 rfl rfl (b_ite h (fun hc h => ?_) (fun hc h => ?_))
        · refine x_aload_n 0 dX19_plain_232 rfl rfl rfl rfl rfl ?_
          refine y_getF 94 10 (c := 18) (z := 82) dX19_plain_233 i83 rfl in_X19 q1302 rfl rfl rfl fn_83_10 (Nat.le_trans (Nat.le_of_ble_eq_true rfl) hn) rfl ?_
          refine x_ldc2 206 (x := 10) dX19_plain_236 q2606 rfl (by decide) rfl ?_
          refine x_iload_n 2 dX19_plain_239 rfl rfl rfl ?_
          refine x_bipush 67 (z := 67) dX19_plain_240 rfl (by decide) rfl ?_
          refine x_icmp_eq (t := 251) 9 dX19_plain_242 rfl rfl (b_ite h (fun hc h => ?_) (fun hc h => ?_))
          · refine x_aload_n 0 dX19_plain_251 rfl rfl rfl rfl rfl ?_
            refine x_iconst 0 (z := 0) dX19_plain_252 rfl (by decide) rfl ?_
            refine y_Vi 235 (M := mX19_length) (As := [(0, 0)]) (st := [(1, 10), (2, 82)]) dX19_plain_253 i83 rfl q2696 q2698 qs135 q386 q2699 rfl hmX19_length rfl rfl rfl rfl rfl rfl rfl rfl (k_mono h (fun r5 w6 h => ?_))
            refine x_i2l dX19_plain_256 rfl ?_
            refine x_aload_n 0 dX19_plain_257 rfl rfl rfl rfl rfl ?_
            refine x_iconst 1 (z := 1) dX19_plain_258 rfl (by decide) rfl ?_
            refine y_Vi 235 (M := mX19_length) (As := [(0, 1)]) (st := [(1, r5), (1, 10), (2, 82)]) dX19_plain_259 i83 rfl q2696 q2698 qs135 q386 q2699 rfl hmX19_length rfl rfl rfl rfl rfl rfl rfl rfl (k_mono h (fun r7 w8 h => ?_))
            refine x_i2l dX19_plain_262 rfl ?_
            refine x_lmul dX19_plain_263 rfl ?_
            refine x_ldc2 292 (x := 64) dX19_plain_264 q2742 rfl (by decide) rfl ?_
            refine x_ldiv dX19_plain_267 (by decide) rfl ?_
            refine x_goto 18 (q := 286) dX19_plain_268 rfl ?_
            refine x_ladd dX19_plain_286 rfl ?_
            refine y_Vv 183 (M := mX18_use) (As := [(1, b_l (10 + (b_ldiv (b_l (r5 * r7)) 64)))]) (st := []) dX19_plain_287 i82 rfl q2607 q2500 q2501 q385 q2502 rfl hmX18_use rfl rfl rfl rfl rfl rfl rfl (k_mono h (fun r9 w10 h => ?_))
            refine x_aload_n 0 dX19_plain_290 rfl rfl rfl rfl rfl ?_
            refine x_iload_n 2 dX19_plain_291 rfl rfl rfl ?_
            refine x_iload_n 3 dX19_plain_292 rfl rfl rfl ?_
            refine y_Vv 294 (M := mX19_binary) (As := [(0, a2), (0, r1)]) (st := []) dX19_plain_293 i83 rfl q2743 q2745 qs139 q386 q2746 rfl hmX19_binary rfl rfl rfl rfl rfl rfl rfl (k_mono h (fun r11 w12 h => ?_))
            exact y_vret dX19_plain_296 rfl h
          · refine x_iload_n 2 dX19_plain_245 rfl rfl rfl ?_
            refine x_bipush 68 (z := 68) dX19_plain_246 rfl (by decide) rfl ?_
            refine x_icmp_ne (t := 271) 23 dX19_plain_248 rfl rfl (b_ite h (fun hc h => ?_) (fun hc h => ?_))
            · refine x_aload_n 0 dX19_plain_271 rfl rfl rfl rfl rfl ?_
              refine x_iconst 0 (z := 0) dX19_plain_272 rfl (by decide) rfl ?_
              refine y_Vi 235 (M := mX19_length) (As := [(0, 0)]) (st := [(1, 10), (2, 82)]) dX19_plain_273 i83 rfl q2696 q2698 qs135 q386 q2699 rfl hmX19_length rfl rfl rfl rfl rfl rfl rfl rfl (k_mono h (fun r13 w14 h => ?_))
              refine x_aload_n 0 dX19_plain_276 rfl rfl rfl rfl rfl ?_
              refine x_iconst 1 (z := 1) dX19_plain_277 rfl (by decide) rfl ?_
              refine y_Vi 235 (M := mX19_length) (As := [(0, 1)]) (st := [(0, r13), (1, 10), (2, 82)]) dX19_plain_278 i83 rfl q2696 q2698 qs135 q386 q2699 rfl hmX19_length rfl rfl rfl rfl rfl rfl rfl rfl (k_mono h (fun r15 w16 h => ?_))
              refine x_iadd dX19_plain_281 rfl ?_
              refine x_bipush 8 (z := 8) dX19_plain_282 rfl (by decide) rfl ?_
              refine x_idiv dX19_plain_284 (by decide) rfl ?_
              refine x_i2l dX19_plain_285 rfl ?_
              refine x_ladd dX19_plain_286 rfl ?_
              refine y_Vv 183 (M := mX18_use) (As := [(1, b_l (10 + (b_div (b_i (r13 + r15)) 8)))]) (st := []) dX19_plain_287 i82 rfl q2607 q2500 q2501 q385 q2502 rfl hmX18_use rfl rfl rfl rfl rfl rfl rfl (k_mono h (fun r17 w18 h => ?_))
              refine x_aload_n 0 dX19_plain_290 rfl rfl rfl rfl rfl ?_
              refine x_iload_n 2 dX19_plain_291 rfl rfl rfl ?_
              refine x_iload_n 3 dX19_plain_292 rfl rfl rfl ?_
              refine y_Vv 294 (M := mX19_binary) (As := [(0, a2), (0, r1)]) (st := []) dX19_plain_293 i83 rfl q2743 q2745 qs139 q386 q2746 rfl hmX19_binary rfl rfl rfl rfl rfl rfl rfl (k_mono h (fun r19 w20 h => ?_))
              exact y_vret dX19_plain_296 rfl h
            · refine x_aload_n 0 dX19_plain_251 rfl rfl rfl rfl rfl ?_
              refine x_iconst 0 (z := 0) dX19_plain_252 rfl (by decide) rfl ?_
              refine y_Vi 235 (M := mX19_length) (As := [(0, 0)]) (st := [(1, 10), (2, 82)]) dX19_plain_253 i83 rfl q2696 q2698 qs135 q386 q2699 rfl hmX19_length rfl rfl rfl rfl rfl rfl rfl rfl (k_mono h (fun r21 w22 h => ?_))
              refine x_i2l dX19_plain_256 rfl ?_
              refine x_aload_n 0 dX19_plain_257 rfl rfl rfl rfl rfl ?_
              refine x_iconst 1 (z := 1) dX19_plain_258 rfl (by decide) rfl ?_
              refine y_Vi 235 (M := mX19_length) (As := [(0, 1)]) (st := [(1, r21), (1, 10), (2, 82)]) dX19_plain_259 i83 rfl q2696 q2698 qs135 q386 q2699 rfl hmX19_length rfl rfl rfl rfl rfl rfl rfl rfl (k_mono h (fun r23 w24 h => ?_))
              refine x_i2l dX19_plain_262 rfl ?_
              refine x_lmul dX19_plain_263 rfl ?_
              refine x_ldc2 292 (x := 64) dX19_plain_264 q2742 rfl (by decide) rfl ?_
              refine x_ldiv dX19_plain_267 (by decide) rfl ?_
              refine x_goto 18 (q := 286) dX19_plain_268 rfl ?_
              refine x_ladd dX19_plain_286 rfl ?_
              refine y_Vv 183 (M := mX18_use) (As := [(1, b_l (10 + (b_ldiv (b_l (r21 * r23)) 64)))]) (st := []) dX19_plain_287 i82 rfl q2607 q2500 q2501 q385 q2502 rfl hmX18_use rfl rfl rfl rfl rfl rfl rfl (k_mono h (fun r25 w26 h => ?_))
              refine x_aload_n 0 dX19_plain_290 rfl rfl rfl rfl rfl ?_
              refine x_iload_n 2 dX19_plain_291 rfl rfl rfl ?_
              refine x_iload_n 3 dX19_plain_292 rfl rfl rfl ?_
              refine y_Vv 294 (M := mX19_binary) (As := [(0, a2), (0, r1)]) (st := []) dX19_plain_293 i83 rfl q2743 q2745 qs139 q386 q2746 rfl hmX19_binary rfl rfl rfl rfl rfl rfl rfl (k_mono h (fun r27 w28 h => ?_))
              exact y_vret dX19_plain_296 rfl h
        · refine x_aload_n 0 dX19_plain_132 rfl rfl rfl rfl rfl ?_
          refine y_getF 94 10 (c := 18) (z := 82) dX19_plain_133 i83 rfl in_X19 q1302 rfl rfl rfl fn_83_10 (Nat.le_trans (Nat.le_of_ble_eq_true rfl) hn) rfl ?_
          refine x_ldc2 206 (x := 10) dX19_plain_136 q2606 rfl (by decide) rfl ?_
          refine y_Vv 183 (M := mX18_use) (As := [(1, 10)]) (st := []) dX19_plain_139 i82 rfl q2607 q2500 q2501 q385 q2502 rfl hmX18_use rfl rfl rfl rfl rfl rfl rfl (k_mono h (fun r29 w30 h => ?_))
          refine x_aload_n 0 dX19_plain_142 rfl rfl rfl rfl rfl ?_
          refine y_Vi 139 (M := mX19_pop) (As := []) (st := []) dX19_plain_143 i83 rfl q2583 q2585 qs112 q386 q2586 rfl hmX19_pop rfl rfl rfl rfl rfl rfl rfl rfl (k_mono h (fun r31 w32 h => ?_))
          refine x_bipush 6 (z := 6) dX19_plain_146 rfl (by decide) rfl ?_
          refine x_icmp_ne (t := 155) 7 dX19_plain_148 rfl rfl (b_ite h (fun hc h => ?_) (fun hc h => ?_))
          · refine x_iconst 0 (z := 0) dX19_plain_155 rfl (by decide) rfl ?_
            refine x_istore 4 (ls' := [(2, 83), (0, a1), (0, a2), (0, r1), (0, 0), (9, 0)]) dX19_plain_156 rfl rfl rfl ?_
            refine x_aload_n 0 dX19_plain_158 rfl rfl rfl rfl rfl ?_
            refine y_Vi 139 (M := mX19_pop) (As := []) (st := []) dX19_plain_159 i83 rfl q2583 q2585 qs112 q386 q2586 rfl hmX19_pop rfl rfl rfl rfl rfl rfl rfl rfl (k_mono h (fun r33 w34 h => ?_))
            refine x_bipush 6 (z := 6) dX19_plain_162 rfl (by decide) rfl ?_
            refine x_icmp_ne (t := 171) 7 dX19_plain_164 rfl rfl (b_ite h (fun hc h => ?_) (fun hc h => ?_))
            · refine x_iconst 0 (z := 0) dX19_plain_171 rfl (by decide) rfl ?_
              exact x_fg (fgk (fgd (fgk (fgd (fgk (fgk (fg0))))))) h
            · refine x_iconst 1 (z := 1) dX19_plain_167 rfl (by decide) rfl ?_
              refine x_goto 4 (q := 172) dX19_plain_168 rfl ?_
              exact x_fg (fgk (fgd (fgk (fgd (fgk (fgk (fg0))))))) h
          · refine x_iconst 1 (z := 1) dX19_plain_151 rfl (by decide) rfl ?_
            refine x_goto 4 (q := 156) dX19_plain_152 rfl ?_
            refine x_istore 4 (ls' := [(2, 83), (0, a1), (0, a2), (0, r1), (0, 1), (9, 0)]) dX19_plain_156 rfl rfl rfl ?_
            refine x_aload_n 0 dX19_plain_158 rfl rfl rfl rfl rfl ?_
            refine y_Vi 139 (M := mX19_pop) (As := []) (st := []) dX19_plain_159 i83 rfl q2583 q2585 qs112 q386 q2586 rfl hmX19_pop rfl rfl rfl rfl rfl rfl rfl rfl (k_mono h (fun r35 w36 h => ?_))
            refine x_bipush 6 (z := 6) dX19_plain_162 rfl (by decide) rfl ?_
            refine x_icmp_ne (t := 171) 7 dX19_plain_164 rfl rfl (b_ite h (fun hc h => ?_) (fun hc h => ?_))
            · refine x_iconst 0 (z := 0) dX19_plain_171 rfl (by decide) rfl ?_
              exact x_fg (fgk (fgd (fgk (fgd (fgk (fgk (fg0))))))) h
            · refine x_iconst 1 (z := 1) dX19_plain_167 rfl (by decide) rfl ?_
              refine x_goto 4 (q := 172) dX19_plain_168 rfl ?_
              exact x_fg (fgk (fgd (fgk (fgd (fgk (fgk (fg0))))))) h
      · refine x_aload_n 0 dX19_plain_118 rfl rfl rfl rfl rfl ?_
        refine x_iload_n 2 dX19_plain_119 rfl rfl rfl ?_
        refine x_iload_n 3 dX19_plain_120 rfl rfl rfl ?_
        refine y_Vv 289 (M := mX19_unary) (As := [(0, a2), (0, r1)]) (st := []) dX19_plain_121 i83 rfl q2718 q2720 qs138 q386 q2721 rfl hmX19_unary rfl rfl rfl rfl rfl rfl rfl (k_mono h (fun r37 w38 h => ?_))
        refine x_goto 172 (q := 296) dX19_plain_124 rfl ?_
        exact y_vret dX19_plain_296 rfl h
    · refine x_aload_n 0 dX19_plain_76 rfl rfl rfl rfl rfl ?_
      refine y_getF 94 10 (c := 18) (z := 82) dX19_plain_77 i83 rfl in_X19 q1302 rfl rfl rfl fn_83_10 (Nat.le_trans (Nat.le_of_ble_eq_true rfl) hn) rfl ?_
      refine x_ldc2 206 (x := 10) dX19_plain_80 q2606 rfl (by decide) rfl ?_
      refine y_Vv 183 (M := mX18_use) (As := [(1, 10)]) (st := []) dX19_plain_83 i82 rfl q2607 q2500 q2501 q385 q2502 rfl hmX18_use rfl rfl rfl rfl rfl rfl rfl (k_mono h (fun r39 w40 h => ?_))
      refine x_aload_n 0 dX19_plain_86 rfl rfl rfl rfl rfl ?_
      refine x_aload_n 0 dX19_plain_87 rfl rfl rfl rfl rfl ?_
      refine x_iload_n 2 dX19_plain_88 rfl rfl rfl ?_
      refine x_aload_n 0 dX19_plain_89 rfl rfl rfl rfl rfl ?_
      refine y_Vi 139 (M := mX19_pop) (As := []) (st := [(0, a2), (2, 83), (2, 83)]) dX19_plain_90 i83 rfl q2583 q2585 qs112 q386 q2586 rfl hmX19_pop rfl rfl rfl rfl rfl rfl rfl rfl (k_mono h (fun r41 w42 h => ?_))
      refine y_Vi 282 (M := mX19_sign) (As := [(0, a2), (0, r41)]) (st := [(2, 83)]) dX19_plain_93 i83 rfl q2707 q2709 qs137 q386 q2710 rfl hmX19_sign rfl rfl rfl rfl rfl rfl rfl rfl (k_mono h (fun r43 w44 h => ?_))
      refine x_if_eq (t := 104) 8 dX19_plain_96 rfl rfl (b_ite h (fun hc h => ?_) (fun hc h => ?_))
      · refine x_iconst 4 (z := 4) dX19_plain_104 rfl (by decide) rfl ?_
        refine y_Vv 122 (M := mX19_push) (As := [(0, 4)]) (st := []) dX19_plain_105 i83 rfl q2567 q2569 qs108 q386 q2570 rfl hmX19_push rfl rfl rfl rfl rfl rfl rfl (k_mono h (fun r45 w46 h => ?_))
        refine x_goto 188 (q := 296) dX19_plain_108 rfl ?_
        exact y_vret dX19_plain_296 rfl h
      · refine x_bipush 6 (z := 6) dX19_plain_99 rfl (by decide) rfl ?_
        refine x_goto 4 (q := 105) dX19_plain_101 rfl ?_
        refine y_Vv 122 (M := mX19_push) (As := [(0, 6)]) (st := []) dX19_plain_105 i83 rfl q2567 q2569 qs108 q386 q2570 rfl hmX19_push rfl rfl rfl rfl rfl rfl rfl (k_mono h (fun r47 w48 h => ?_))
        refine x_goto 188 (q := 296) dX19_plain_108 rfl ?_
        exact y_vret dX19_plain_296 rfl h
  · refine x_aload_n 0 dX19_plain_13 rfl rfl rfl rfl rfl ?_
    refine y_getF 94 10 (c := 18) (z := 82) dX19_plain_14 i83 rfl in_X19 q1302 rfl rfl rfl fn_83_10 (Nat.le_trans (Nat.le_of_ble_eq_true rfl) hn) rfl ?_
    refine x_bipush 10 (z := 10) dX19_plain_17 rfl (by decide) rfl ?_
    refine x_aload_n 0 dX19_plain_19 rfl rfl rfl rfl rfl ?_
    refine x_iconst 0 (z := 0) dX19_plain_20 rfl (by decide) rfl ?_
    refine y_Vi 235 (M := mX19_length) (As := [(0, 0)]) (st := [(0, 10), (2, 82)]) dX19_plain_21 i83 rfl q2696 q2698 qs135 q386 q2699 rfl hmX19_length rfl rfl rfl rfl rfl rfl rfl rfl (k_mono h (fun r49 w50 h => ?_))
    refine x_aload_n 0 dX19_plain_24 rfl rfl rfl rfl rfl ?_
    refine x_iconst 1 (z := 1) dX19_plain_25 rfl (by decide) rfl ?_
    refine y_Vi 235 (M := mX19_length) (As := [(0, 1)]) (st := [(0, r49), (0, 10), (2, 82)]) dX19_plain_26 i83 rfl q2696 q2698 qs135 q386 q2699 rfl hmX19_length rfl rfl rfl rfl rfl rfl rfl rfl (k_mono h (fun r51 w52 h => ?_))
    refine y_mmin 269 dX19_plain_29 q2704 q526 q367 q527 rfl rfl ?_
    refine x_bipush 8 (z := 8) dX19_plain_32 rfl (by decide) rfl ?_
    refine x_idiv dX19_plain_34 (by decide) rfl ?_
    refine x_iadd dX19_plain_35 rfl ?_
    refine x_i2l dX19_plain_36 rfl ?_
    refine y_Vv 183 (M := mX18_use) (As := [(1, b_i (10 + (b_div (min r49 r51) 8)))]) (st := []) dX19_plain_37 i82 rfl q2607 q2500 q2501 q385 q2502 rfl hmX18_use rfl rfl rfl rfl rfl rfl rfl (k_mono h (fun r53 w54 h => ?_))
    refine x_aload_n 0 dX19_plain_40 rfl rfl rfl rfl rfl ?_
    refine y_Vi 139 (M := mX19_pop) (As := []) (st := []) dX19_plain_41 i83 rfl q2583 q2585 qs112 q386 q2586 rfl hmX19_pop rfl rfl rfl rfl rfl rfl rfl rfl (k_mono h (fun r55 w56 h => ?_))
    refine x_istore 4 (ls' := [(2, 83), (0, a1), (0, a2), (0, r1), (0, r55), (9, 0)]) dX19_plain_44 rfl rfl rfl ?_
    refine x_aload_n 0 dX19_plain_46 rfl rfl rfl rfl rfl ?_
    refine x_aload_n 0 dX19_plain_47 rfl rfl rfl rfl rfl ?_
    refine y_getF 70 4 (c := 18) (z := 33) dX19_plain_48 i83 rfl in_X19 q1296 rfl rfl rfl fn_83_4 (Nat.le_trans (Nat.le_of_ble_eq_true rfl) hn) rfl ?_
    refine x_iload 4 dX19_plain_51 rfl rfl ?_
    refine x_aload_n 0 dX19_plain_53 rfl rfl rfl rfl rfl ?_
    refine y_Vi 139 (M := mX19_pop) (As := []) (st := [(0, r55), (2, 33), (2, 83)]) dX19_plain_54 i83 rfl q2583 q2585 qs112 q386 q2586 rfl hmX19_pop rfl rfl rfl rfl rfl rfl rfl rfl (k_mono h (fun r57 w58 h => ?_))
    refine x_iload_n 3 dX19_plain_57 rfl rfl rfl ?_
    refine y_Vi 274 (M := mX9_compare) (As := [(0, r55), (0, r57), (0, r1)]) (st := [(2, 83)]) dX19_plain_58 i33 rfl q2705 q2076 q2077 q376 q2078 rfl hmX9_compare rfl rfl rfl rfl rfl rfl rfl rfl (k_mono h (fun r59 w60 h => ?_))
    refine y_Si 279 (M := mX8_small) (As := [(0, r59)]) (st := [(2, 83)]) dX19_plain_61 q2706 q1966 q375 q1967 hmX8_small rfl rfl rfl rfl rfl rfl rfl rfl (k_mono h (fun r61 w62 h => ?_))
    refine y_Vv 122 (M := mX19_push) (As := [(0, r61)]) (st := []) dX19_plain_64 i83 rfl q2567 q2569 qs108 q386 q2570 rfl hmX19_push rfl rfl rfl rfl rfl rfl rfl (k_mono h (fun r63 w64 h => ?_))
    refine x_goto 229 (q := 296) dX19_plain_67 rfl ?_
    exact y_vret dX19_plain_296 rfl h
theorem sX19_plain_172 {d n : Nat} {w : bW} {Q : Int → bW → Prop} {X : String → bW → Prop} (hn : 143 ≤ n) (a2 : Int) (a4 : Int) (s0 : Int) (h : if a2 ≠ 73 then (if a2 ≠ 74 then (if a4 = s0 then (b_K d mX19_push [(2, 83), (0, 4)] n w (fun r1 w2 => Q 0 w2) X) else (b_K d mX19_push [(2, 83), (0, 6)] n w (fun r3 w4 => Q 0 w4) X)) else (if a4 ≠ 0 then (b_K d mX19_push [(2, 83), (0, 6)] n w (fun r5 w6 => Q 0 w6) X) else (if s0 = 0 then (b_K d mX19_push [(2, 83), (0, 4)] n w (fun r7 w8 => Q 0 w8) X) else (b_K d mX19_push [(2, 83), (0, 6)] n w (fun r9 w10 => Q 0 w10) X)))) else (if a4 = 0 then (b_K d mX19_push [(2, 83), (0, 4)] n w (fun r11 w12 => Q 0 w12) X) else (if s0 = 0 then (b_K d mX19_push [(2, 83), (0, 4)] n w (fun r13 w14 => Q 0 w14) X) else (b_K d mX19_push [(2, 83), (0, 6)] n w (fun r15 w16 => Q 0 w16) X)))) : LX19_plain_172 d n Q X a2 a4 s0 w := by
  have i83 := iz83 (Nat.le_trans (Nat.le_of_ble_eq_true rfl) hn)
  refine x_istore 5 (ls' := [(2, 83), (9, 0), (0, a2), (9, 0), (0, a4), (0, s0)]) dX19_plain_172 rfl rfl rfl ?_
  refine x_aload_n 0 dX19_plain_174 rfl rfl rfl rfl rfl ?_
  refine x_iload_n 2 dX19_plain_175 rfl rfl rfl ?_
  refine x_bipush 73 (z := 73) dX19_plain_176 rfl (by decide) rfl ?_
  refine x_icmp_ne (t := 194) 16 dX19_plain_178 rfl rfl (b_ite h (fun hc h => ?_) (fun hc h => ?_))
  · refine x_iload_n 2 dX19_plain_194 rfl rfl rfl ?_
    refine x_bipush 74 (z := 74) dX19_plain_195 rfl (by decide) rfl ?_
    refine x_icmp_ne (t := 213) 16 dX19_plain_197 rfl rfl (b_ite h (fun hc h => ?_) (fun hc h => ?_))
    · refine x_iload 4 dX19_plain_213 rfl rfl ?_
      refine x_iload 5 dX19_plain_215 rfl rfl ?_
      refine x_icmp_eq (t := 225) 8 dX19_plain_217 rfl rfl (b_ite h (fun hc h => ?_) (fun hc h => ?_))
      · refine x_iconst 4 (z := 4) dX19_plain_225 rfl (by decide) rfl ?_
        refine y_Vv 122 (M := mX19_push) (As := [(0, 4)]) (st := []) dX19_plain_226 i83 rfl q2567 q2569 qs108 q386 q2570 rfl hmX19_push rfl rfl rfl rfl rfl rfl rfl (k_mono h (fun r1 w2 h => ?_))
        refine x_goto 67 (q := 296) dX19_plain_229 rfl ?_
        exact y_vret dX19_plain_296 rfl h
      · refine x_bipush 6 (z := 6) dX19_plain_220 rfl (by decide) rfl ?_
        refine x_goto 4 (q := 226) dX19_plain_222 rfl ?_
        refine y_Vv 122 (M := mX19_push) (As := [(0, 6)]) (st := []) dX19_plain_226 i83 rfl q2567 q2569 qs108 q386 q2570 rfl hmX19_push rfl rfl rfl rfl rfl rfl rfl (k_mono h (fun r3 w4 h => ?_))
        refine x_goto 67 (q := 296) dX19_plain_229 rfl ?_
        exact y_vret dX19_plain_296 rfl h
    · refine x_iload 4 dX19_plain_200 rfl rfl ?_
      refine x_if_ne (t := 220) 18 dX19_plain_202 rfl rfl (b_ite h (fun hc h => ?_) (fun hc h => ?_))
      · refine x_bipush 6 (z := 6) dX19_plain_220 rfl (by decide) rfl ?_
        refine x_goto 4 (q := 226) dX19_plain_222 rfl ?_
        refine y_Vv 122 (M := mX19_push) (As := [(0, 6)]) (st := []) dX19_plain_226 i83 rfl q2567 q2569 qs108 q386 q2570 rfl hmX19_push rfl rfl rfl rfl rfl rfl rfl (k_mono h (fun r5 w6 h => ?_))
        refine x_goto 67 (q := 296) dX19_plain_229 rfl ?_
        exact y_vret dX19_plain_296 rfl h
      · refine x_iload 5 dX19_plain_205 rfl rfl ?_
        refine x_if_eq (t := 225) 18 dX19_plain_207 rfl rfl (b_ite h (fun hc h => ?_) (fun hc h => ?_))
        · refine x_iconst 4 (z := 4) dX19_plain_225 rfl (by decide) rfl ?_
          refine y_Vv 122 (M := mX19_push) (As := [(0, 4)]) (st := []) dX19_plain_226 i83 rfl q2567 q2569 qs108 q386 q2570 rfl hmX19_push rfl rfl rfl rfl rfl rfl rfl (k_mono h (fun r7 w8 h => ?_))
          refine x_goto 67 (q := 296) dX19_plain_229 rfl ?_
          exact y_vret dX19_plain_296 rfl h
        · refine x_goto 10 (q := 220) dX19_plain_210 rfl ?_
          refine x_bipush 6 (z := 6) dX19_plain_220 rfl (by decide) rfl ?_
          refine x_goto 4 (q := 226) dX19_plain_222 rfl ?_
          refine y_Vv 122 (M := mX19_push) (As := [(0, 6)]) (st := []) dX19_plain_226 i83 rfl q2567 q2569 qs108 q386 q2570 rfl hmX19_push rfl rfl rfl rfl rfl rfl rfl (k_mono h (fun r9 w10 h => ?_))
          refine x_goto 67 (q := 296) dX19_plain_229 rfl ?_
          exact y_vret dX19_plain_296 rfl h
  · refine x_iload 4 dX19_plain_181 rfl rfl ?_
    refine x_if_eq (t := 225) 42 dX19_plain_183 rfl rfl (b_ite h (fun hc h => ?_) (fun hc h => ?_))
    · refine x_iconst 4 (z := 4) dX19_plain_225 rfl (by decide) rfl ?_
      refine y_Vv 122 (M := mX19_push) (As := [(0, 4)]) (st := []) dX19_plain_226 i83 rfl q2567 q2569 qs108 q386 q2570 rfl hmX19_push rfl rfl rfl rfl rfl rfl rfl (k_mono h (fun r11 w12 h => ?_))
      refine x_goto 67 (q := 296) dX19_plain_229 rfl ?_
      exact y_vret dX19_plain_296 rfl h
    · refine x_iload 5 dX19_plain_186 rfl rfl ?_
      refine x_if_eq (t := 225) 37 dX19_plain_188 rfl rfl (b_ite h (fun hc h => ?_) (fun hc h => ?_))
      · refine x_iconst 4 (z := 4) dX19_plain_225 rfl (by decide) rfl ?_
        refine y_Vv 122 (M := mX19_push) (As := [(0, 4)]) (st := []) dX19_plain_226 i83 rfl q2567 q2569 qs108 q386 q2570 rfl hmX19_push rfl rfl rfl rfl rfl rfl rfl (k_mono h (fun r13 w14 h => ?_))
        refine x_goto 67 (q := 296) dX19_plain_229 rfl ?_
        exact y_vret dX19_plain_296 rfl h
      · refine x_goto 29 (q := 220) dX19_plain_191 rfl ?_
        refine x_bipush 6 (z := 6) dX19_plain_220 rfl (by decide) rfl ?_
        refine x_goto 4 (q := 226) dX19_plain_222 rfl ?_
        refine y_Vv 122 (M := mX19_push) (As := [(0, 6)]) (st := []) dX19_plain_226 i83 rfl q2567 q2569 qs108 q386 q2570 rfl hmX19_push rfl rfl rfl rfl rfl rfl rfl (k_mono h (fun r15 w16 h => ?_))
        refine x_goto 67 (q := 296) dX19_plain_229 rfl ?_
        exact y_vret dX19_plain_296 rfl h
abbrev LX19_sign_22 (d n : Nat) (Q : Int → bW → Prop) (X : String → bW → Prop) (a1 : Int) (a3 : Int) (s0 : Int) (w : bW) : Prop := b_Y (d + 1) mX19_sign n Q X 22 [(9, 0), (0, a1), (9, 0), (0, a3), (9, 0)] [(0, s0)] w
theorem rX19_sign {d n : Nat} {w : bW} {Q : Int → bW → Prop} {X : String → bW → Prop} (hn : 143 ≤ n) (a1 : Int) (a2 : Int) (h : b_K d mX8_isNegative [(2, 27), (0, a2)] n w (fun r1 w2 => b_K d mX8_small [(0, 0)] n w2 (fun r3 w4 => if a2 ≠ r3 then (LX19_sign_22 d n Q X a1 r1 0 w4) else (LX19_sign_22 d n Q X a1 r1 1 w4)) X) X) : b_K (d + 1) mX19_sign [(2, 83), (0, a1), (0, a2)] n w Q X := by
  have i27 := iz27 (Nat.le_trans (Nat.le_of_ble_eq_true rfl) hn)
  have i83 := iz83 (Nat.le_trans (Nat.le_of_ble_eq_true rfl) hn)
  refine k_of (by decide) rfl rfl rfl (ls := [(2, 83), (0, a1), (0, a2), (9, 0), (9, 0)]) rfl ?_
  refine x_aload_n 0 dX19_sign_0 rfl rfl rfl rfl rfl ?_
  refine y_getF 54 0 (c := 18) (z := 27) dX19_sign_1 i83 rfl in_X19 q1292 rfl rfl rfl fn_83_0 (Nat.le_trans (Nat.le_of_ble_eq_true rfl) hn) rfl ?_
  refine x_iload_n 2 dX19_sign_4 rfl rfl rfl ?_
  refine y_Vi 297 (M := mX8_isNegative) (As := [(0, a2)]) (st := []) dX19_sign_5 i27 rfl q2711 q2712 q2713 q375 q2714 rfl hmX8_isNegative rfl rfl rfl rfl rfl rfl rfl rfl (k_mono h (fun r1 w2 h => ?_))
  refine x_istore_n 3 (ls' := [(2, 83), (0, a1), (0, a2), (0, r1), (9, 0)]) dX19_sign_8 rfl rfl rfl rfl ?_
  refine x_iload_n 2 dX19_sign_9 rfl rfl rfl ?_
  refine x_iconst 0 (z := 0) dX19_sign_10 rfl (by decide) rfl ?_
  refine y_Si 279 (M := mX8_small) (As := [(0, 0)]) (st := [(0, a2)]) dX19_sign_11 q2706 q1966 q375 q1967 hmX8_small rfl rfl rfl rfl rfl rfl rfl rfl (k_mono h (fun r3 w4 h => ?_))
  refine x_icmp_ne (t := 21) 7 dX19_sign_14 rfl rfl (b_ite h (fun hc h => ?_) (fun hc h => ?_))
  · refine x_iconst 0 (z := 0) dX19_sign_21 rfl (by decide) rfl ?_
    exact x_fg (fgd (fgk (fgd (fgk (fgk (fg0)))))) h
  · refine x_iconst 1 (z := 1) dX19_sign_17 rfl (by decide) rfl ?_
    refine x_goto 4 (q := 22) dX19_sign_18 rfl ?_
    exact x_fg (fgd (fgk (fgd (fgk (fgk (fg0)))))) h
theorem sX19_sign_22 {d n : Nat} {w : bW} {Q : Int → bW → Prop} {X : String → bW → Prop} (hn : 143 ≤ n) (a1 : Int) (a3 : Int) (s0 : Int) (h : if a1 = 80 then ((s0 = 0 ∨ s0 = 1) ∧ Q s0 w) else (if a1 = 81 then (if s0 ≠ 0 then (Q 0 w) else (Q 1 w)) else (if a1 = 82 then ((a3 = 0 ∨ a3 = 1) ∧ Q a3 w) else (if a1 = 83 then (if a3 ≠ 0 then (Q 0 w) else (if s0 ≠ 0 then (Q 0 w) else (Q 1 w))) else (if a1 = 84 then (if a3 ≠ 0 then (Q 1 w) else (if s0 = 0 then (Q 0 w) else (Q 1 w))) else ((if a3 ≠ 0 then (Q 0 w) else (Q 1 w)))))))) : LX19_sign_22 d n Q X a1 a3 s0 w := by
  refine x_istore 4 (ls' := [(9, 0), (0, a1), (9, 0), (0, a3), (0, s0)]) dX19_sign_22 rfl rfl rfl ?_
  refine x_iload_n 1 dX19_sign_24 rfl rfl rfl ?_
  refine b_itc h (fun hc h => ?_) (fun hn0 h => ?_)
  · have key : b_Y (d + 1) mX19_sign n Q X 60 [(9, 0), (0, a1), (9, 0), (0, a3), (0, s0)] [] w := by
      refine x_iload 4 dX19_sign_60 rfl rfl ?_
      exact y_zret dX19_sign_62 rfl h.1 h.2
    have e := hc
    exact x_tsI (off := 35) (t := 60) dX19_sign_25 (by rw [e]; decide) (by rw [e]; decide) (by rw [e]; rfl) rfl key
  · refine b_itc h (fun hc h => ?_) (fun hn1 h => ?_)
    · have key : b_Y (d + 1) mX19_sign n Q X 63 [(9, 0), (0, a1), (9, 0), (0, a3), (0, s0)] [] w := by
        refine x_iload 4 dX19_sign_63 rfl rfl ?_
        refine x_if_ne (t := 72) 7 dX19_sign_65 rfl rfl (b_ite h (fun hc h => ?_) (fun hc h => ?_))
        · refine x_iconst 0 (z := 0) dX19_sign_72 rfl (by decide) rfl ?_
          exact y_zret dX19_sign_73 rfl (by decide) h
        · refine x_iconst 1 (z := 1) dX19_sign_68 rfl (by decide) rfl ?_
          refine x_goto 4 (q := 73) dX19_sign_69 rfl ?_
          exact y_zret dX19_sign_73 rfl (by decide) h
      have e := hc
      exact x_tsI (off := 38) (t := 63) dX19_sign_25 (by rw [e]; decide) (by rw [e]; decide) (by rw [e]; rfl) rfl key
    · refine b_itc h (fun hc h => ?_) (fun hn2 h => ?_)
      · have key : b_Y (d + 1) mX19_sign n Q X 74 [(9, 0), (0, a1), (9, 0), (0, a3), (0, s0)] [] w := by
          refine x_iload_n 3 dX19_sign_74 rfl rfl rfl ?_
          exact y_zret dX19_sign_75 rfl h.1 h.2
        have e := hc
        exact x_tsI (off := 49) (t := 74) dX19_sign_25 (by rw [e]; decide) (by rw [e]; decide) (by rw [e]; rfl) rfl key
      · refine b_itc h (fun hc h => ?_) (fun hn3 h => ?_)
        · have key : b_Y (d + 1) mX19_sign n Q X 76 [(9, 0), (0, a1), (9, 0), (0, a3), (0, s0)] [] w := by
            refine x_iload_n 3 dX19_sign_76 rfl rfl rfl ?_
            refine x_if_ne (t := 89) 12 dX19_sign_77 rfl rfl (b_ite h (fun hc h => ?_) (fun hc h => ?_))
            · refine x_iconst 0 (z := 0) dX19_sign_89 rfl (by decide) rfl ?_
              exact y_zret dX19_sign_90 rfl (by decide) h
            · refine x_iload 4 dX19_sign_80 rfl rfl ?_
              refine x_if_ne (t := 89) 7 dX19_sign_82 rfl rfl (b_ite h (fun hc h => ?_) (fun hc h => ?_))
              · refine x_iconst 0 (z := 0) dX19_sign_89 rfl (by decide) rfl ?_
                exact y_zret dX19_sign_90 rfl (by decide) h
              · refine x_iconst 1 (z := 1) dX19_sign_85 rfl (by decide) rfl ?_
                refine x_goto 4 (q := 90) dX19_sign_86 rfl ?_
                exact y_zret dX19_sign_90 rfl (by decide) h
          have e := hc
          exact x_tsI (off := 51) (t := 76) dX19_sign_25 (by rw [e]; decide) (by rw [e]; decide) (by rw [e]; rfl) rfl key
        · refine b_itc h (fun hc h => ?_) (fun hn4 h => ?_)
          · have key : b_Y (d + 1) mX19_sign n Q X 91 [(9, 0), (0, a1), (9, 0), (0, a3), (0, s0)] [] w := by
              refine x_iload_n 3 dX19_sign_91 rfl rfl rfl ?_
              refine x_if_ne (t := 100) 8 dX19_sign_92 rfl rfl (b_ite h (fun hc h => ?_) (fun hc h => ?_))
              · refine x_iconst 1 (z := 1) dX19_sign_100 rfl (by decide) rfl ?_
                refine x_goto 4 (q := 105) dX19_sign_101 rfl ?_
                exact y_zret dX19_sign_105 rfl (by decide) h
              · refine x_iload 4 dX19_sign_95 rfl rfl ?_
                refine x_if_eq (t := 104) 7 dX19_sign_97 rfl rfl (b_ite h (fun hc h => ?_) (fun hc h => ?_))
                · refine x_iconst 0 (z := 0) dX19_sign_104 rfl (by decide) rfl ?_
                  exact y_zret dX19_sign_105 rfl (by decide) h
                · refine x_iconst 1 (z := 1) dX19_sign_100 rfl (by decide) rfl ?_
                  refine x_goto 4 (q := 105) dX19_sign_101 rfl ?_
                  exact y_zret dX19_sign_105 rfl (by decide) h
            have e := hc
            exact x_tsI (off := 66) (t := 91) dX19_sign_25 (by rw [e]; decide) (by rw [e]; decide) (by rw [e]; rfl) rfl key
          · have key : b_Y (d + 1) mX19_sign n Q X 106 [(9, 0), (0, a1), (9, 0), (0, a3), (0, s0)] [] w := by
              refine x_iload_n 3 dX19_sign_106 rfl rfl rfl ?_
              refine x_if_ne (t := 114) 7 dX19_sign_107 rfl rfl (b_ite h (fun hc h => ?_) (fun hc h => ?_))
              · refine x_iconst 0 (z := 0) dX19_sign_114 rfl (by decide) rfl ?_
                exact y_zret dX19_sign_115 rfl (by decide) h
              · refine x_iconst 1 (z := 1) dX19_sign_110 rfl (by decide) rfl ?_
                refine x_goto 4 (q := 115) dX19_sign_111 rfl ?_
                exact y_zret dX19_sign_115 rfl (by decide) h
            exact x_tsO (t := 106) dX19_sign_25 (by omega) rfl key
theorem rX19_isUnary {d n : Nat} {w : bW} {Q : Int → bW → Prop} {X : String → bW → Prop} (a0 : Int) (h : if a0 < 69 then (if a0 = 76 then (Q 1 w) else (if a0 < 80 then (Q 0 w) else (if 85 < a0 then (Q 0 w) else (Q 1 w)))) else (if a0 ≤ 72 then (Q 1 w) else (if a0 = 76 then (Q 1 w) else (if a0 < 80 then (Q 0 w) else (if 85 < a0 then (Q 0 w) else (Q 1 w)))))) : b_K (d + 1) mX19_isUnary [(0, a0)] n w Q X := by
  refine k_of (by decide) rfl rfl rfl (ls := [(0, a0)]) rfl ?_
  refine x_iload_n 0 dX19_isUnary_0 rfl rfl rfl ?_
  refine x_bipush 69 (z := 69) dX19_isUnary_1 rfl (by decide) rfl ?_
  refine x_icmp_lt (t := 12) 9 dX19_isUnary_3 rfl rfl (b_ite h (fun hc h => ?_) (fun hc h => ?_))
  · refine x_iload_n 0 dX19_isUnary_12 rfl rfl rfl ?_
    refine x_bipush 76 (z := 76) dX19_isUnary_13 rfl (by decide) rfl ?_
    refine x_icmp_eq (t := 30) 15 dX19_isUnary_15 rfl rfl (b_ite h (fun hc h => ?_) (fun hc h => ?_))
    · refine x_iconst 1 (z := 1) dX19_isUnary_30 rfl (by decide) rfl ?_
      refine x_goto 4 (q := 35) dX19_isUnary_31 rfl ?_
      exact y_zret dX19_isUnary_35 rfl (by decide) h
    · refine x_iload_n 0 dX19_isUnary_18 rfl rfl rfl ?_
      refine x_bipush 80 (z := 80) dX19_isUnary_19 rfl (by decide) rfl ?_
      refine x_icmp_lt (t := 34) 13 dX19_isUnary_21 rfl rfl (b_ite h (fun hc h => ?_) (fun hc h => ?_))
      · refine x_iconst 0 (z := 0) dX19_isUnary_34 rfl (by decide) rfl ?_
        exact y_zret dX19_isUnary_35 rfl (by decide) h
      · refine x_iload_n 0 dX19_isUnary_24 rfl rfl rfl ?_
        refine x_bipush 85 (z := 85) dX19_isUnary_25 rfl (by decide) rfl ?_
        refine x_icmp_gt (t := 34) 7 dX19_isUnary_27 rfl rfl (b_ite h (fun hc h => ?_) (fun hc h => ?_))
        · refine x_iconst 0 (z := 0) dX19_isUnary_34 rfl (by decide) rfl ?_
          exact y_zret dX19_isUnary_35 rfl (by decide) h
        · refine x_iconst 1 (z := 1) dX19_isUnary_30 rfl (by decide) rfl ?_
          refine x_goto 4 (q := 35) dX19_isUnary_31 rfl ?_
          exact y_zret dX19_isUnary_35 rfl (by decide) h
  · refine x_iload_n 0 dX19_isUnary_6 rfl rfl rfl ?_
    refine x_bipush 72 (z := 72) dX19_isUnary_7 rfl (by decide) rfl ?_
    refine x_icmp_le (t := 30) 21 dX19_isUnary_9 rfl rfl (b_ite h (fun hc h => ?_) (fun hc h => ?_))
    · refine x_iconst 1 (z := 1) dX19_isUnary_30 rfl (by decide) rfl ?_
      refine x_goto 4 (q := 35) dX19_isUnary_31 rfl ?_
      exact y_zret dX19_isUnary_35 rfl (by decide) h
    · refine x_iload_n 0 dX19_isUnary_12 rfl rfl rfl ?_
      refine x_bipush 76 (z := 76) dX19_isUnary_13 rfl (by decide) rfl ?_
      refine x_icmp_eq (t := 30) 15 dX19_isUnary_15 rfl rfl (b_ite h (fun hc h => ?_) (fun hc h => ?_))
      · refine x_iconst 1 (z := 1) dX19_isUnary_30 rfl (by decide) rfl ?_
        refine x_goto 4 (q := 35) dX19_isUnary_31 rfl ?_
        exact y_zret dX19_isUnary_35 rfl (by decide) h
      · refine x_iload_n 0 dX19_isUnary_18 rfl rfl rfl ?_
        refine x_bipush 80 (z := 80) dX19_isUnary_19 rfl (by decide) rfl ?_
        refine x_icmp_lt (t := 34) 13 dX19_isUnary_21 rfl rfl (b_ite h (fun hc h => ?_) (fun hc h => ?_))
        · refine x_iconst 0 (z := 0) dX19_isUnary_34 rfl (by decide) rfl ?_
          exact y_zret dX19_isUnary_35 rfl (by decide) h
        · refine x_iload_n 0 dX19_isUnary_24 rfl rfl rfl ?_
          refine x_bipush 85 (z := 85) dX19_isUnary_25 rfl (by decide) rfl ?_
          refine x_icmp_gt (t := 34) 7 dX19_isUnary_27 rfl rfl (b_ite h (fun hc h => ?_) (fun hc h => ?_))
          · refine x_iconst 0 (z := 0) dX19_isUnary_34 rfl (by decide) rfl ?_
            exact y_zret dX19_isUnary_35 rfl (by decide) h
          · refine x_iconst 1 (z := 1) dX19_isUnary_30 rfl (by decide) rfl ?_
            refine x_goto 4 (q := 35) dX19_isUnary_31 rfl ?_
            exact y_zret dX19_isUnary_35 rfl (by decide) h
theorem rX19_unary {d n : Nat} {w : bW} {Q : Int → bW → Prop} {X : String → bW → Prop} (hn : 143 ≤ n) (a1 : Int) (a2 : Int) (h : if a2 ≠ 1 then (b_K d mX19_length [(2, 83), (0, 0)] n w (fun r1 w2 => b_K d mX18_use [(2, 82), (1, b_i (10 + (b_div r1 8)))] n w2 (fun r3 w4 => b_K d mX19_pop [(2, 83)] n w4 (fun r5 w6 => b_K d mX8_load [(2, 27), (0, r5), (2, 89)] n w6 (fun r7 w8 => if a1 = 69 then (if w8 89 2 ≠ 0 then (b_K d mX8_ofWhole [(2, 27), (2, 89)] n (b_up w8 89 2 0) (fun r9 w10 => b_K d mX19_push [(2, 83), (0, r9)] n w10 (fun r11 w12 => Q 0 w12) X) X) else (b_K d mX6_isZero [(2, 89)] n w8 (fun r13 w14 => if r13 ≠ 0 then (b_K d mX8_ofWhole [(2, 27), (2, 89)] n (b_up w14 89 2 0) (fun r15 w16 => b_K d mX19_push [(2, 83), (0, r15)] n w16 (fun r17 w18 => Q 0 w18) X) X) else (b_K d mX8_ofWhole [(2, 27), (2, 89)] n (b_up w14 89 2 1) (fun r19 w20 => b_K d mX19_push [(2, 83), (0, r19)] n w20 (fun r21 w22 => Q 0 w22) X) X)) X)) else (if a1 = 70 then (b_K d mX8_ofWhole [(2, 27), (2, 89)] n (b_up w8 89 2 0) (fun r23 w24 => b_K d mX19_push [(2, 83), (0, r23)] n w24 (fun r25 w26 => Q 0 w26) X) X) else (if a1 = 71 then (b_K d mX19_push [(2, 83), (0, r5)] n w8 (fun r27 w28 => Q 0 w28) X) else (if a1 = 72 then (if w8 89 2 = 0 then (b_K d mX8_wrap [(2, 27), (0, 4), (0, r5)] n w8 (fun r29 w30 => b_K d mX19_push [(2, 83), (0, r29)] n w30 (fun r31 w32 => Q 0 w32) X) X) else (b_K d mX19_push [(2, 83), (0, 8)] n w8 (fun r33 w34 => Q 0 w34) X)) else ((b_K d mX6_set [(2, 91), (1, 1)] n w8 (fun r35 w36 => b_K d mX20_add [(2, 84), (2, 89), (2, 91), (0, 0), (2, 93)] n w36 (fun r37 w38 => if w38 93 2 ≠ 0 then (b_K d mX8_ofWhole [(2, 27), (2, 93)] n (b_up w38 93 2 0) (fun r39 w40 => b_K d mX19_push [(2, 83), (0, r39)] n w40 (fun r41 w42 => Q 0 w42) X) X) else (b_K d mX6_isZero [(2, 93)] n w38 (fun r43 w44 => if r43 ≠ 0 then (b_K d mX8_ofWhole [(2, 27), (2, 93)] n (b_up w44 93 2 0) (fun r45 w46 => b_K d mX19_push [(2, 83), (0, r45)] n w46 (fun r47 w48 => Q 0 w48) X) X) else (b_K d mX8_ofWhole [(2, 27), (2, 93)] n (b_up w44 93 2 1) (fun r49 w50 => b_K d mX19_push [(2, 83), (0, r49)] n w50 (fun r51 w52 => Q 0 w52) X) X)) X)) X) X)))))) X) X) X) X) else (b_K d mX18_use [(2, 82), (1, 10)] n w (fun r53 w54 => b_K d mX19_pop [(2, 83)] n w54 (fun r55 w56 => if r55 ≠ 6 then (b_K d mX19_push [(2, 83), (0, 6)] n w56 (fun r57 w58 => Q 0 w58) X) else (b_K d mX19_push [(2, 83), (0, 4)] n w56 (fun r59 w60 => Q 0 w60) X)) X) X)) : b_K (d + 1) mX19_unary [(2, 83), (0, a1), (0, a2)] n w Q X := by
  have i27 := iz27 (Nat.le_trans (Nat.le_of_ble_eq_true rfl) hn)
  have i82 := iz82 (Nat.le_trans (Nat.le_of_ble_eq_true rfl) hn)
  have i83 := iz83 (Nat.le_trans (Nat.le_of_ble_eq_true rfl) hn)
  have i84 := iz84 (Nat.le_trans (Nat.le_of_ble_eq_true rfl) hn)
  have i89 := iz89 (Nat.le_trans (Nat.le_of_ble_eq_true rfl) hn)
  have i91 := iz91 (Nat.le_trans (Nat.le_of_ble_eq_true rfl) hn)
  have i93 := iz93 (Nat.le_trans (Nat.le_of_ble_eq_true rfl) hn)
  refine k_of (by decide) rfl rfl rfl (ls := [(2, 83), (0, a1), (0, a2), (9, 0)]) rfl ?_
  refine x_iload_n 2 dX19_unary_0 rfl rfl rfl ?_
  refine x_iconst 1 (z := 1) dX19_unary_1 rfl (by decide) rfl ?_
  refine x_icmp_ne (t := 35) 33 dX19_unary_2 rfl rfl (b_ite h (fun hc h => ?_) (fun hc h => ?_))
  · refine x_aload_n 0 dX19_unary_35 rfl rfl rfl rfl rfl ?_
    refine y_getF 94 10 (c := 18) (z := 82) dX19_unary_36 i83 rfl in_X19 q1302 rfl rfl rfl fn_83_10 (Nat.le_trans (Nat.le_of_ble_eq_true rfl) hn) rfl ?_
    refine x_bipush 10 (z := 10) dX19_unary_39 rfl (by decide) rfl ?_
    refine x_aload_n 0 dX19_unary_41 rfl rfl rfl rfl rfl ?_
    refine x_iconst 0 (z := 0) dX19_unary_42 rfl (by decide) rfl ?_
    refine y_Vi 235 (M := mX19_length) (As := [(0, 0)]) (st := [(0, 10), (2, 82)]) dX19_unary_43 i83 rfl q2696 q2698 qs135 q386 q2699 rfl hmX19_length rfl rfl rfl rfl rfl rfl rfl rfl (k_mono h (fun r1 w2 h => ?_))
    refine x_bipush 8 (z := 8) dX19_unary_46 rfl (by decide) rfl ?_
    refine x_idiv dX19_unary_48 (by decide) rfl ?_
    refine x_iadd dX19_unary_49 rfl ?_
    refine x_i2l dX19_unary_50 rfl ?_
    refine y_Vv 183 (M := mX18_use) (As := [(1, b_i (10 + (b_div r1 8)))]) (st := []) dX19_unary_51 i82 rfl q2607 q2500 q2501 q385 q2502 rfl hmX18_use rfl rfl rfl rfl rfl rfl rfl (k_mono h (fun r3 w4 h => ?_))
    refine x_aload_n 0 dX19_unary_54 rfl rfl rfl rfl rfl ?_
    refine y_Vi 139 (M := mX19_pop) (As := []) (st := []) dX19_unary_55 i83 rfl q2583 q2585 qs112 q386 q2586 rfl hmX19_pop rfl rfl rfl rfl rfl rfl rfl rfl (k_mono h (fun r5 w6 h => ?_))
    refine x_istore_n 3 (ls' := [(2, 83), (0, a1), (0, a2), (0, r5)]) dX19_unary_58 rfl rfl rfl rfl ?_
    refine x_aload_n 0 dX19_unary_59 rfl rfl rfl rfl rfl ?_
    refine y_getF 54 0 (c := 18) (z := 27) dX19_unary_60 i83 rfl in_X19 q1292 rfl rfl rfl fn_83_0 (Nat.le_trans (Nat.le_of_ble_eq_true rfl) hn) rfl ?_
    refine x_iload_n 3 dX19_unary_63 rfl rfl rfl ?_
    refine x_aload_n 0 dX19_unary_64 rfl rfl rfl rfl rfl ?_
    refine y_getF 23 12 (c := 18) (z := 89) dX19_unary_65 i83 rfl in_X19 q1304 rfl rfl rfl fn_83_12 (Nat.le_trans (Nat.le_of_ble_eq_true rfl) hn) rfl ?_
    refine y_Vv 300 (M := mX8_load) (As := [(0, r5), (2, 89)]) (st := []) dX19_unary_68 i27 rfl q2722 q2104 q2105 q375 q2106 rfl hmX8_load rfl rfl rfl rfl rfl rfl rfl (k_mono h (fun r7 w8 h => ?_))
    refine x_iload_n 1 dX19_unary_71 rfl rfl rfl ?_
    refine b_itc h (fun hc h => ?_) (fun hn0 h => ?_)
    · have key : b_Y (d + 1) mX19_unary n Q X 104 [(2, 83), (0, a1), (0, a2), (0, r5)] [] w8 := by
        refine x_aload_n 0 dX19_unary_104 rfl rfl rfl rfl rfl ?_
        refine y_getF 23 12 (c := 18) (z := 89) dX19_unary_105 i83 rfl in_X19 q1304 rfl rfl rfl fn_83_12 (Nat.le_trans (Nat.le_of_ble_eq_true rfl) hn) rfl ?_
        refine x_aload_n 0 dX19_unary_108 rfl rfl rfl rfl rfl ?_
        refine y_getF 23 12 (c := 18) (z := 89) dX19_unary_109 i83 rfl in_X19 q1304 rfl rfl rfl fn_83_12 (Nat.le_trans (Nat.le_of_ble_eq_true rfl) hn) rfl ?_
        refine y_get 304 2 (c := 5) (z := w8 89 2) dX19_unary_112 i89 rfl in_X6 q642 rfl rfl rfl rfl rfl ?_
        refine x_if_ne (t := 132) 17 dX19_unary_115 rfl rfl (b_ite h (fun hc h => ?_) (fun hc h => ?_))
        · refine x_iconst 0 (z := 0) dX19_unary_132 rfl (by decide) rfl ?_
          refine x_put 304 2 (c := 5) dX19_unary_133 i89 rfl in_X6 tyX6_ok nmX6 q642 rfl rfl rfl (Or.inl rfl) (Or.inr (Or.inl ⟨rfl, rfl, by decide⟩)) rfl ?_
          refine x_aload_n 0 dX19_unary_136 rfl rfl rfl rfl rfl ?_
          refine x_aload_n 0 dX19_unary_137 rfl rfl rfl rfl rfl ?_
          refine y_getF 54 0 (c := 18) (z := 27) dX19_unary_138 i83 rfl in_X19 q1292 rfl rfl rfl fn_83_0 (Nat.le_trans (Nat.le_of_ble_eq_true rfl) hn) rfl ?_
          refine x_aload_n 0 dX19_unary_141 rfl rfl rfl rfl rfl ?_
          refine y_getF 23 12 (c := 18) (z := 89) dX19_unary_142 i83 rfl in_X19 q1304 rfl rfl rfl fn_83_12 (Nat.le_trans (Nat.le_of_ble_eq_true rfl) hn) rfl ?_
          refine y_Vi 312 (M := mX8_ofWhole) (As := [(2, 89)]) (st := [(2, 83)]) dX19_unary_145 i27 rfl q2724 q1949 q1950 q375 q1951 rfl hmX8_ofWhole rfl rfl rfl rfl rfl rfl rfl rfl (k_mono h (fun r9 w10 h => ?_))
          refine y_Vv 122 (M := mX19_push) (As := [(0, r9)]) (st := []) dX19_unary_148 i83 rfl q2567 q2569 qs108 q386 q2570 rfl hmX19_push rfl rfl rfl rfl rfl rfl rfl (k_mono h (fun r11 w12 h => ?_))
          refine x_goto 143 (q := 294) dX19_unary_151 rfl ?_
          exact y_vret dX19_unary_294 rfl h
        · refine x_aload_n 0 dX19_unary_118 rfl rfl rfl rfl rfl ?_
          refine y_getF 23 12 (c := 18) (z := 89) dX19_unary_119 i83 rfl in_X19 q1304 rfl rfl rfl fn_83_12 (Nat.le_trans (Nat.le_of_ble_eq_true rfl) hn) rfl ?_
          refine y_Vi 308 (M := mX6_isZero) (As := []) (st := [(2, 89)]) dX19_unary_122 i89 rfl q2723 q1764 q1765 q373 q1766 rfl hmX6_isZero rfl rfl rfl rfl rfl rfl rfl rfl (k_mono h (fun r13 w14 h => ?_))
          refine x_if_ne (t := 132) 7 dX19_unary_125 rfl rfl (b_ite h (fun hc h => ?_) (fun hc h => ?_))
          · refine x_iconst 0 (z := 0) dX19_unary_132 rfl (by decide) rfl ?_
            refine x_put 304 2 (c := 5) dX19_unary_133 i89 rfl in_X6 tyX6_ok nmX6 q642 rfl rfl rfl (Or.inl rfl) (Or.inr (Or.inl ⟨rfl, rfl, by decide⟩)) rfl ?_
            refine x_aload_n 0 dX19_unary_136 rfl rfl rfl rfl rfl ?_
            refine x_aload_n 0 dX19_unary_137 rfl rfl rfl rfl rfl ?_
            refine y_getF 54 0 (c := 18) (z := 27) dX19_unary_138 i83 rfl in_X19 q1292 rfl rfl rfl fn_83_0 (Nat.le_trans (Nat.le_of_ble_eq_true rfl) hn) rfl ?_
            refine x_aload_n 0 dX19_unary_141 rfl rfl rfl rfl rfl ?_
            refine y_getF 23 12 (c := 18) (z := 89) dX19_unary_142 i83 rfl in_X19 q1304 rfl rfl rfl fn_83_12 (Nat.le_trans (Nat.le_of_ble_eq_true rfl) hn) rfl ?_
            refine y_Vi 312 (M := mX8_ofWhole) (As := [(2, 89)]) (st := [(2, 83)]) dX19_unary_145 i27 rfl q2724 q1949 q1950 q375 q1951 rfl hmX8_ofWhole rfl rfl rfl rfl rfl rfl rfl rfl (k_mono h (fun r15 w16 h => ?_))
            refine y_Vv 122 (M := mX19_push) (As := [(0, r15)]) (st := []) dX19_unary_148 i83 rfl q2567 q2569 qs108 q386 q2570 rfl hmX19_push rfl rfl rfl rfl rfl rfl rfl (k_mono h (fun r17 w18 h => ?_))
            refine x_goto 143 (q := 294) dX19_unary_151 rfl ?_
            exact y_vret dX19_unary_294 rfl h
          · refine x_iconst 1 (z := 1) dX19_unary_128 rfl (by decide) rfl ?_
            refine x_goto 4 (q := 133) dX19_unary_129 rfl ?_
            refine x_put 304 2 (c := 5) dX19_unary_133 i89 rfl in_X6 tyX6_ok nmX6 q642 rfl rfl rfl (Or.inl rfl) (Or.inr (Or.inl ⟨rfl, rfl, by decide⟩)) rfl ?_
            refine x_aload_n 0 dX19_unary_136 rfl rfl rfl rfl rfl ?_
            refine x_aload_n 0 dX19_unary_137 rfl rfl rfl rfl rfl ?_
            refine y_getF 54 0 (c := 18) (z := 27) dX19_unary_138 i83 rfl in_X19 q1292 rfl rfl rfl fn_83_0 (Nat.le_trans (Nat.le_of_ble_eq_true rfl) hn) rfl ?_
            refine x_aload_n 0 dX19_unary_141 rfl rfl rfl rfl rfl ?_
            refine y_getF 23 12 (c := 18) (z := 89) dX19_unary_142 i83 rfl in_X19 q1304 rfl rfl rfl fn_83_12 (Nat.le_trans (Nat.le_of_ble_eq_true rfl) hn) rfl ?_
            refine y_Vi 312 (M := mX8_ofWhole) (As := [(2, 89)]) (st := [(2, 83)]) dX19_unary_145 i27 rfl q2724 q1949 q1950 q375 q1951 rfl hmX8_ofWhole rfl rfl rfl rfl rfl rfl rfl rfl (k_mono h (fun r19 w20 h => ?_))
            refine y_Vv 122 (M := mX19_push) (As := [(0, r19)]) (st := []) dX19_unary_148 i83 rfl q2567 q2569 qs108 q386 q2570 rfl hmX19_push rfl rfl rfl rfl rfl rfl rfl (k_mono h (fun r21 w22 h => ?_))
            refine x_goto 143 (q := 294) dX19_unary_151 rfl ?_
            exact y_vret dX19_unary_294 rfl h
      have e := hc
      exact x_tsI (off := 32) (t := 104) dX19_unary_72 (by rw [e]; decide) (by rw [e]; decide) (by rw [e]; rfl) rfl key
    · refine b_itc h (fun hc h => ?_) (fun hn1 h => ?_)
      · have key : b_Y (d + 1) mX19_unary n Q X 154 [(2, 83), (0, a1), (0, a2), (0, r5)] [] w8 := by
          refine x_aload_n 0 dX19_unary_154 rfl rfl rfl rfl rfl ?_
          refine y_getF 23 12 (c := 18) (z := 89) dX19_unary_155 i83 rfl in_X19 q1304 rfl rfl rfl fn_83_12 (Nat.le_trans (Nat.le_of_ble_eq_true rfl) hn) rfl ?_
          refine x_iconst 0 (z := 0) dX19_unary_158 rfl (by decide) rfl ?_
          refine x_put 304 2 (c := 5) dX19_unary_159 i89 rfl in_X6 tyX6_ok nmX6 q642 rfl rfl rfl (Or.inl rfl) (Or.inr (Or.inl ⟨rfl, rfl, by decide⟩)) rfl ?_
          refine x_aload_n 0 dX19_unary_162 rfl rfl rfl rfl rfl ?_
          refine x_aload_n 0 dX19_unary_163 rfl rfl rfl rfl rfl ?_
          refine y_getF 54 0 (c := 18) (z := 27) dX19_unary_164 i83 rfl in_X19 q1292 rfl rfl rfl fn_83_0 (Nat.le_trans (Nat.le_of_ble_eq_true rfl) hn) rfl ?_
          refine x_aload_n 0 dX19_unary_167 rfl rfl rfl rfl rfl ?_
          refine y_getF 23 12 (c := 18) (z := 89) dX19_unary_168 i83 rfl in_X19 q1304 rfl rfl rfl fn_83_12 (Nat.le_trans (Nat.le_of_ble_eq_true rfl) hn) rfl ?_
          refine y_Vi 312 (M := mX8_ofWhole) (As := [(2, 89)]) (st := [(2, 83)]) dX19_unary_171 i27 rfl q2724 q1949 q1950 q375 q1951 rfl hmX8_ofWhole rfl rfl rfl rfl rfl rfl rfl rfl (k_mono h (fun r23 w24 h => ?_))
          refine y_Vv 122 (M := mX19_push) (As := [(0, r23)]) (st := []) dX19_unary_174 i83 rfl q2567 q2569 qs108 q386 q2570 rfl hmX19_push rfl rfl rfl rfl rfl rfl rfl (k_mono h (fun r25 w26 h => ?_))
          refine x_goto 117 (q := 294) dX19_unary_177 rfl ?_
          exact y_vret dX19_unary_294 rfl h
        have e := hc
        exact x_tsI (off := 82) (t := 154) dX19_unary_72 (by rw [e]; decide) (by rw [e]; decide) (by rw [e]; rfl) rfl key
      · refine b_itc h (fun hc h => ?_) (fun hn2 h => ?_)
        · have key : b_Y (d + 1) mX19_unary n Q X 180 [(2, 83), (0, a1), (0, a2), (0, r5)] [] w8 := by
            refine x_aload_n 0 dX19_unary_180 rfl rfl rfl rfl rfl ?_
            refine x_iload_n 3 dX19_unary_181 rfl rfl rfl ?_
            refine y_Vv 122 (M := mX19_push) (As := [(0, r5)]) (st := []) dX19_unary_182 i83 rfl q2567 q2569 qs108 q386 q2570 rfl hmX19_push rfl rfl rfl rfl rfl rfl rfl (k_mono h (fun r27 w28 h => ?_))
            refine x_goto 109 (q := 294) dX19_unary_185 rfl ?_
            exact y_vret dX19_unary_294 rfl h
          have e := hc
          exact x_tsI (off := 108) (t := 180) dX19_unary_72 (by rw [e]; decide) (by rw [e]; decide) (by rw [e]; rfl) rfl key
        · refine b_itc h (fun hc h => ?_) (fun hn3 h => ?_)
          · have key : b_Y (d + 1) mX19_unary n Q X 188 [(2, 83), (0, a1), (0, a2), (0, r5)] [] w8 := by
              refine x_aload_n 0 dX19_unary_188 rfl rfl rfl rfl rfl ?_
              refine x_aload_n 0 dX19_unary_189 rfl rfl rfl rfl rfl ?_
              refine y_getF 23 12 (c := 18) (z := 89) dX19_unary_190 i83 rfl in_X19 q1304 rfl rfl rfl fn_83_12 (Nat.le_trans (Nat.le_of_ble_eq_true rfl) hn) rfl ?_
              refine y_get 304 2 (c := 5) (z := w8 89 2) dX19_unary_193 i89 rfl in_X6 q642 rfl rfl rfl rfl rfl ?_
              refine x_if_eq (t := 204) 8 dX19_unary_196 rfl rfl (b_ite h (fun hc h => ?_) (fun hc h => ?_))
              · refine x_aload_n 0 dX19_unary_204 rfl rfl rfl rfl rfl ?_
                refine y_getF 54 0 (c := 18) (z := 27) dX19_unary_205 i83 rfl in_X19 q1292 rfl rfl rfl fn_83_0 (Nat.le_trans (Nat.le_of_ble_eq_true rfl) hn) rfl ?_
                refine x_iconst 4 (z := 4) dX19_unary_208 rfl (by decide) rfl ?_
                refine x_iload_n 3 dX19_unary_209 rfl rfl rfl ?_
                refine y_Vi 156 (M := mX8_wrap) (As := [(0, 4), (0, r5)]) (st := [(2, 83)]) dX19_unary_210 i27 rfl q2641 q2024 q2025 q375 q2026 rfl hmX8_wrap rfl rfl rfl rfl rfl rfl rfl rfl (k_mono h (fun r29 w30 h => ?_))
                refine y_Vv 122 (M := mX19_push) (As := [(0, r29)]) (st := []) dX19_unary_213 i83 rfl q2567 q2569 qs108 q386 q2570 rfl hmX19_push rfl rfl rfl rfl rfl rfl rfl (k_mono h (fun r31 w32 h => ?_))
                refine x_goto 78 (q := 294) dX19_unary_216 rfl ?_
                exact y_vret dX19_unary_294 rfl h
              · refine x_bipush 8 (z := 8) dX19_unary_199 rfl (by decide) rfl ?_
                refine x_goto 12 (q := 213) dX19_unary_201 rfl ?_
                refine y_Vv 122 (M := mX19_push) (As := [(0, 8)]) (st := []) dX19_unary_213 i83 rfl q2567 q2569 qs108 q386 q2570 rfl hmX19_push rfl rfl rfl rfl rfl rfl rfl (k_mono h (fun r33 w34 h => ?_))
                refine x_goto 78 (q := 294) dX19_unary_216 rfl ?_
                exact y_vret dX19_unary_294 rfl h
            have e := hc
            exact x_tsI (off := 116) (t := 188) dX19_unary_72 (by rw [e]; decide) (by rw [e]; decide) (by rw [e]; rfl) rfl key
          · have key : b_Y (d + 1) mX19_unary n Q X 219 [(2, 83), (0, a1), (0, a2), (0, r5)] [] w8 := by
              refine x_aload_n 0 dX19_unary_219 rfl rfl rfl rfl rfl ?_
              refine y_getF 27 13 (c := 18) (z := 91) dX19_unary_220 i83 rfl in_X19 q1305 rfl rfl rfl fn_83_13 (Nat.le_trans (Nat.le_of_ble_eq_true rfl) hn) rfl ?_
              refine x_lconst 1 (z := 1) dX19_unary_223 rfl (by decide) rfl ?_
              refine y_Vv 316 (M := mX6_set) (As := [(1, 1)]) (st := []) dX19_unary_224 i91 rfl q2725 q1743 q1744 q373 q1745 rfl hmX6_set rfl rfl rfl rfl rfl rfl rfl (k_mono h (fun r35 w36 h => ?_))
              refine x_aload_n 0 dX19_unary_227 rfl rfl rfl rfl rfl ?_
              refine y_getF 12 11 (c := 18) (z := 84) dX19_unary_228 i83 rfl in_X19 q1303 rfl rfl rfl fn_83_11 (Nat.le_trans (Nat.le_of_ble_eq_true rfl) hn) rfl ?_
              refine x_aload_n 0 dX19_unary_231 rfl rfl rfl rfl rfl ?_
              refine y_getF 23 12 (c := 18) (z := 89) dX19_unary_232 i83 rfl in_X19 q1304 rfl rfl rfl fn_83_12 (Nat.le_trans (Nat.le_of_ble_eq_true rfl) hn) rfl ?_
              refine x_aload_n 0 dX19_unary_235 rfl rfl rfl rfl rfl ?_
              refine y_getF 27 13 (c := 18) (z := 91) dX19_unary_236 i83 rfl in_X19 q1305 rfl rfl rfl fn_83_13 (Nat.le_trans (Nat.le_of_ble_eq_true rfl) hn) rfl ?_
              refine x_iconst 0 (z := 0) dX19_unary_239 rfl (by decide) rfl ?_
              refine x_aload_n 0 dX19_unary_240 rfl rfl rfl rfl rfl ?_
              refine y_getF 30 14 (c := 18) (z := 93) dX19_unary_241 i83 rfl in_X19 q1306 rfl rfl rfl fn_83_14 (Nat.le_trans (Nat.le_of_ble_eq_true rfl) hn) rfl ?_
              refine y_Vv 319 (M := mX20_add) (As := [(2, 89), (2, 91), (0, 0), (2, 93)]) (st := []) dX19_unary_244 i84 rfl q2726 q2727 q2728 q387 q2729 rfl hmX20_add rfl rfl rfl rfl rfl rfl rfl (k_mono h (fun r37 w38 h => ?_))
              refine x_aload_n 0 dX19_unary_247 rfl rfl rfl rfl rfl ?_
              refine y_getF 30 14 (c := 18) (z := 93) dX19_unary_248 i83 rfl in_X19 q1306 rfl rfl rfl fn_83_14 (Nat.le_trans (Nat.le_of_ble_eq_true rfl) hn) rfl ?_
              refine x_aload_n 0 dX19_unary_251 rfl rfl rfl rfl rfl ?_
              refine y_getF 30 14 (c := 18) (z := 93) dX19_unary_252 i83 rfl in_X19 q1306 rfl rfl rfl fn_83_14 (Nat.le_trans (Nat.le_of_ble_eq_true rfl) hn) rfl ?_
              refine y_get 304 2 (c := 5) (z := w38 93 2) dX19_unary_255 i93 rfl in_X6 q642 rfl rfl rfl rfl rfl ?_
              refine x_if_ne (t := 275) 17 dX19_unary_258 rfl rfl (b_ite h (fun hc h => ?_) (fun hc h => ?_))
              · refine x_iconst 0 (z := 0) dX19_unary_275 rfl (by decide) rfl ?_
                refine x_put 304 2 (c := 5) dX19_unary_276 i93 rfl in_X6 tyX6_ok nmX6 q642 rfl rfl rfl (Or.inl rfl) (Or.inr (Or.inl ⟨rfl, rfl, by decide⟩)) rfl ?_
                refine x_aload_n 0 dX19_unary_279 rfl rfl rfl rfl rfl ?_
                refine x_aload_n 0 dX19_unary_280 rfl rfl rfl rfl rfl ?_
                refine y_getF 54 0 (c := 18) (z := 27) dX19_unary_281 i83 rfl in_X19 q1292 rfl rfl rfl fn_83_0 (Nat.le_trans (Nat.le_of_ble_eq_true rfl) hn) rfl ?_
                refine x_aload_n 0 dX19_unary_284 rfl rfl rfl rfl rfl ?_
                refine y_getF 30 14 (c := 18) (z := 93) dX19_unary_285 i83 rfl in_X19 q1306 rfl rfl rfl fn_83_14 (Nat.le_trans (Nat.le_of_ble_eq_true rfl) hn) rfl ?_
                refine y_Vi 312 (M := mX8_ofWhole) (As := [(2, 93)]) (st := [(2, 83)]) dX19_unary_288 i27 rfl q2724 q1949 q1950 q375 q1951 rfl hmX8_ofWhole rfl rfl rfl rfl rfl rfl rfl rfl (k_mono h (fun r39 w40 h => ?_))
                refine y_Vv 122 (M := mX19_push) (As := [(0, r39)]) (st := []) dX19_unary_291 i83 rfl q2567 q2569 qs108 q386 q2570 rfl hmX19_push rfl rfl rfl rfl rfl rfl rfl (k_mono h (fun r41 w42 h => ?_))
                exact y_vret dX19_unary_294 rfl h
              · refine x_aload_n 0 dX19_unary_261 rfl rfl rfl rfl rfl ?_
                refine y_getF 30 14 (c := 18) (z := 93) dX19_unary_262 i83 rfl in_X19 q1306 rfl rfl rfl fn_83_14 (Nat.le_trans (Nat.le_of_ble_eq_true rfl) hn) rfl ?_
                refine y_Vi 308 (M := mX6_isZero) (As := []) (st := [(2, 93)]) dX19_unary_265 i93 rfl q2723 q1764 q1765 q373 q1766 rfl hmX6_isZero rfl rfl rfl rfl rfl rfl rfl rfl (k_mono h (fun r43 w44 h => ?_))
                refine x_if_ne (t := 275) 7 dX19_unary_268 rfl rfl (b_ite h (fun hc h => ?_) (fun hc h => ?_))
                · refine x_iconst 0 (z := 0) dX19_unary_275 rfl (by decide) rfl ?_
                  refine x_put 304 2 (c := 5) dX19_unary_276 i93 rfl in_X6 tyX6_ok nmX6 q642 rfl rfl rfl (Or.inl rfl) (Or.inr (Or.inl ⟨rfl, rfl, by decide⟩)) rfl ?_
                  refine x_aload_n 0 dX19_unary_279 rfl rfl rfl rfl rfl ?_
                  refine x_aload_n 0 dX19_unary_280 rfl rfl rfl rfl rfl ?_
                  refine y_getF 54 0 (c := 18) (z := 27) dX19_unary_281 i83 rfl in_X19 q1292 rfl rfl rfl fn_83_0 (Nat.le_trans (Nat.le_of_ble_eq_true rfl) hn) rfl ?_
                  refine x_aload_n 0 dX19_unary_284 rfl rfl rfl rfl rfl ?_
                  refine y_getF 30 14 (c := 18) (z := 93) dX19_unary_285 i83 rfl in_X19 q1306 rfl rfl rfl fn_83_14 (Nat.le_trans (Nat.le_of_ble_eq_true rfl) hn) rfl ?_
                  refine y_Vi 312 (M := mX8_ofWhole) (As := [(2, 93)]) (st := [(2, 83)]) dX19_unary_288 i27 rfl q2724 q1949 q1950 q375 q1951 rfl hmX8_ofWhole rfl rfl rfl rfl rfl rfl rfl rfl (k_mono h (fun r45 w46 h => ?_))
                  refine y_Vv 122 (M := mX19_push) (As := [(0, r45)]) (st := []) dX19_unary_291 i83 rfl q2567 q2569 qs108 q386 q2570 rfl hmX19_push rfl rfl rfl rfl rfl rfl rfl (k_mono h (fun r47 w48 h => ?_))
                  exact y_vret dX19_unary_294 rfl h
                · refine x_iconst 1 (z := 1) dX19_unary_271 rfl (by decide) rfl ?_
                  refine x_goto 4 (q := 276) dX19_unary_272 rfl ?_
                  refine x_put 304 2 (c := 5) dX19_unary_276 i93 rfl in_X6 tyX6_ok nmX6 q642 rfl rfl rfl (Or.inl rfl) (Or.inr (Or.inl ⟨rfl, rfl, by decide⟩)) rfl ?_
                  refine x_aload_n 0 dX19_unary_279 rfl rfl rfl rfl rfl ?_
                  refine x_aload_n 0 dX19_unary_280 rfl rfl rfl rfl rfl ?_
                  refine y_getF 54 0 (c := 18) (z := 27) dX19_unary_281 i83 rfl in_X19 q1292 rfl rfl rfl fn_83_0 (Nat.le_trans (Nat.le_of_ble_eq_true rfl) hn) rfl ?_
                  refine x_aload_n 0 dX19_unary_284 rfl rfl rfl rfl rfl ?_
                  refine y_getF 30 14 (c := 18) (z := 93) dX19_unary_285 i83 rfl in_X19 q1306 rfl rfl rfl fn_83_14 (Nat.le_trans (Nat.le_of_ble_eq_true rfl) hn) rfl ?_
                  refine y_Vi 312 (M := mX8_ofWhole) (As := [(2, 93)]) (st := [(2, 83)]) dX19_unary_288 i27 rfl q2724 q1949 q1950 q375 q1951 rfl hmX8_ofWhole rfl rfl rfl rfl rfl rfl rfl rfl (k_mono h (fun r49 w50 h => ?_))
                  refine y_Vv 122 (M := mX19_push) (As := [(0, r49)]) (st := []) dX19_unary_291 i83 rfl q2567 q2569 qs108 q386 q2570 rfl hmX19_push rfl rfl rfl rfl rfl rfl rfl (k_mono h (fun r51 w52 h => ?_))
                  exact y_vret dX19_unary_294 rfl h
            exact x_tsO (t := 219) dX19_unary_72 (by omega) rfl key
  · refine x_aload_n 0 dX19_unary_5 rfl rfl rfl rfl rfl ?_
    refine y_getF 94 10 (c := 18) (z := 82) dX19_unary_6 i83 rfl in_X19 q1302 rfl rfl rfl fn_83_10 (Nat.le_trans (Nat.le_of_ble_eq_true rfl) hn) rfl ?_
    refine x_ldc2 206 (x := 10) dX19_unary_9 q2606 rfl (by decide) rfl ?_
    refine y_Vv 183 (M := mX18_use) (As := [(1, 10)]) (st := []) dX19_unary_12 i82 rfl q2607 q2500 q2501 q385 q2502 rfl hmX18_use rfl rfl rfl rfl rfl rfl rfl (k_mono h (fun r53 w54 h => ?_))
    refine x_aload_n 0 dX19_unary_15 rfl rfl rfl rfl rfl ?_
    refine x_aload_n 0 dX19_unary_16 rfl rfl rfl rfl rfl ?_
    refine y_Vi 139 (M := mX19_pop) (As := []) (st := [(2, 83)]) dX19_unary_17 i83 rfl q2583 q2585 qs112 q386 q2586 rfl hmX19_pop rfl rfl rfl rfl rfl rfl rfl rfl (k_mono h (fun r55 w56 h => ?_))
    refine x_bipush 6 (z := 6) dX19_unary_20 rfl (by decide) rfl ?_
    refine x_icmp_ne (t := 29) 7 dX19_unary_22 rfl rfl (b_ite h (fun hc h => ?_) (fun hc h => ?_))
    · refine x_bipush 6 (z := 6) dX19_unary_29 rfl (by decide) rfl ?_
      refine y_Vv 122 (M := mX19_push) (As := [(0, 6)]) (st := []) dX19_unary_31 i83 rfl q2567 q2569 qs108 q386 q2570 rfl hmX19_push rfl rfl rfl rfl rfl rfl rfl (k_mono h (fun r57 w58 h => ?_))
      exact y_vret dX19_unary_34 rfl h
    · refine x_iconst 4 (z := 4) dX19_unary_25 rfl (by decide) rfl ?_
      refine x_goto 5 (q := 31) dX19_unary_26 rfl ?_
      refine y_Vv 122 (M := mX19_push) (As := [(0, 4)]) (st := []) dX19_unary_31 i83 rfl q2567 q2569 qs108 q386 q2570 rfl hmX19_push rfl rfl rfl rfl rfl rfl rfl (k_mono h (fun r59 w60 h => ?_))
      exact y_vret dX19_unary_34 rfl h
abbrev LX19_binary_128 (d n : Nat) (Q : Int → bW → Prop) (X : String → bW → Prop) (a1 : Int) (a2 : Int) (a3 : Int) (a4 : Int) (w : bW) : Prop := b_Y (d + 1) mX19_binary n Q X 128 [(2, 83), (0, a1), (0, a2), (0, a3), (0, a4), (9, 0), (9, 0), (9, 0), (9, 0), (9, 0)] [] w
theorem rX19_binary {d n : Nat} {w : bW} {Q : Int → bW → Prop} {X : String → bW → Prop} (hn : 143 ≤ n) (a1 : Int) (a2 : Int) (h : if a1 = 77 then (b_K d mX19_shift [(2, 83), (0, a1)] n w (fun r1 w2 => Q 0 w2) X) else (if a1 ≠ 78 then (b_K d mX19_at [(2, 83), (0, 0)] n w (fun r3 w4 => b_K d mX19_at [(2, 83), (0, 1)] n w4 (fun r5 w6 => b_K d mX19_areSmall [(2, 83)] n w6 (fun r7 w8 => if r7 = 0 then (LX19_binary_128 d n Q X a1 a2 r3 r5 (b_up w8 83 17 (b_i ((w8 83 17) - 2)))) else (if a1 = 64 then (if a1 ≠ 64 then (if a1 ≠ 65 then (b_K d mX8_ofLong [(2, 27), (1, b_l ((b_shr r3 1) * (b_shr r5 1)))] n (b_up w8 83 17 (b_i ((w8 83 17) - 2))) (fun r9 w10 => b_K d mX19_push [(2, 83), (0, r9)] n w10 (fun r11 w12 => Q 0 w12) X) X) else (b_K d mX8_ofLong [(2, 27), (1, b_l ((b_shr r3 1) - (b_shr r5 1)))] n (b_up w8 83 17 (b_i ((w8 83 17) - 2))) (fun r13 w14 => b_K d mX19_push [(2, 83), (0, r13)] n w14 (fun r15 w16 => Q 0 w16) X) X)) else (b_K d mX8_ofLong [(2, 27), (1, b_l ((b_shr r3 1) + (b_shr r5 1)))] n (b_up w8 83 17 (b_i ((w8 83 17) - 2))) (fun r17 w18 => b_K d mX19_push [(2, 83), (0, r17)] n w18 (fun r19 w20 => Q 0 w20) X) X)) else (if a1 = 65 then (if a1 ≠ 64 then (if a1 ≠ 65 then (b_K d mX8_ofLong [(2, 27), (1, b_l ((b_shr r3 1) * (b_shr r5 1)))] n (b_up w8 83 17 (b_i ((w8 83 17) - 2))) (fun r21 w22 => b_K d mX19_push [(2, 83), (0, r21)] n w22 (fun r23 w24 => Q 0 w24) X) X) else (b_K d mX8_ofLong [(2, 27), (1, b_l ((b_shr r3 1) - (b_shr r5 1)))] n (b_up w8 83 17 (b_i ((w8 83 17) - 2))) (fun r25 w26 => b_K d mX19_push [(2, 83), (0, r25)] n w26 (fun r27 w28 => Q 0 w28) X) X)) else (b_K d mX8_ofLong [(2, 27), (1, b_l ((b_shr r3 1) + (b_shr r5 1)))] n (b_up w8 83 17 (b_i ((w8 83 17) - 2))) (fun r29 w30 => b_K d mX19_push [(2, 83), (0, r29)] n w30 (fun r31 w32 => Q 0 w32) X) X)) else (if a1 ≠ 67 then (LX19_binary_128 d n Q X a1 a2 r3 r5 (b_up w8 83 17 (b_i ((w8 83 17) - 2)))) else (if a1 ≠ 64 then (if a1 ≠ 65 then (b_K d mX8_ofLong [(2, 27), (1, b_l ((b_shr r3 1) * (b_shr r5 1)))] n (b_up w8 83 17 (b_i ((w8 83 17) - 2))) (fun r33 w34 => b_K d mX19_push [(2, 83), (0, r33)] n w34 (fun r35 w36 => Q 0 w36) X) X) else (b_K d mX8_ofLong [(2, 27), (1, b_l ((b_shr r3 1) - (b_shr r5 1)))] n (b_up w8 83 17 (b_i ((w8 83 17) - 2))) (fun r37 w38 => b_K d mX19_push [(2, 83), (0, r37)] n w38 (fun r39 w40 => Q 0 w40) X) X)) else (b_K d mX8_ofLong [(2, 27), (1, b_l ((b_shr r3 1) + (b_shr r5 1)))] n (b_up w8 83 17 (b_i ((w8 83 17) - 2))) (fun r41 w42 => b_K d mX19_push [(2, 83), (0, r41)] n w42 (fun r43 w44 => Q 0 w44) X) X)))))) X) X) X) else (b_K d mX19_shift [(2, 83), (0, a1)] n w (fun r45 w46 => Q 0 w46) X))) : b_K (d + 1) mX19_binary [(2, 83), (0, a1), (0, a2)] n w Q X := by
  have i27 := iz27 (Nat.le_trans (Nat.le_of_ble_eq_true rfl) hn)
  have i83 := iz83 (Nat.le_trans (Nat.le_of_ble_eq_true rfl) hn)
  refine k_of (by decide) rfl rfl rfl (ls := [(2, 83), (0, a1), (0, a2), (9, 0), (9, 0), (9, 0), (9, 0), (9, 0), (9, 0), (9, 0)]) rfl ?_
  refine x_iload_n 1 dX19_binary_0 rfl rfl rfl ?_
  refine x_bipush 77 (z := 77) dX19_binary_1 rfl (by decide) rfl ?_
  refine x_icmp_eq (t := 12) 9 dX19_binary_3 rfl rfl (b_ite h (fun hc h => ?_) (fun hc h => ?_))
  · refine x_aload_n 0 dX19_binary_12 rfl rfl rfl rfl rfl ?_
    refine x_iload_n 1 dX19_binary_13 rfl rfl rfl ?_
    refine y_Vv 323 (M := mX19_shift) (As := [(0, a1)]) (st := []) dX19_binary_14 i83 rfl q2747 q2749 qs140 q386 q2750 rfl hmX19_shift rfl rfl rfl rfl rfl rfl rfl (k_mono h (fun r1 w2 h => ?_))
    exact y_vret dX19_binary_17 rfl h
  · refine x_iload_n 1 dX19_binary_6 rfl rfl rfl ?_
    refine x_bipush 78 (z := 78) dX19_binary_7 rfl (by decide) rfl ?_
    refine x_icmp_ne (t := 18) 9 dX19_binary_9 rfl rfl (b_ite h (fun hc h => ?_) (fun hc h => ?_))
    · refine x_aload_n 0 dX19_binary_18 rfl rfl rfl rfl rfl ?_
      refine x_iconst 0 (z := 0) dX19_binary_19 rfl (by decide) rfl ?_
      refine y_Vi 102 (M := mX19_at) (As := [(0, 0)]) (st := []) dX19_binary_20 i83 rfl q2651 q2653 qs125 q386 q2654 rfl hmX19_at rfl rfl rfl rfl rfl rfl rfl rfl (k_mono h (fun r3 w4 h => ?_))
      refine x_istore_n 3 (ls' := [(2, 83), (0, a1), (0, a2), (0, r3), (9, 0), (9, 0), (9, 0), (9, 0), (9, 0), (9, 0)]) dX19_binary_23 rfl rfl rfl rfl ?_
      refine x_aload_n 0 dX19_binary_24 rfl rfl rfl rfl rfl ?_
      refine x_iconst 1 (z := 1) dX19_binary_25 rfl (by decide) rfl ?_
      refine y_Vi 102 (M := mX19_at) (As := [(0, 1)]) (st := []) dX19_binary_26 i83 rfl q2651 q2653 qs125 q386 q2654 rfl hmX19_at rfl rfl rfl rfl rfl rfl rfl rfl (k_mono h (fun r5 w6 h => ?_))
      refine x_istore 4 (ls' := [(2, 83), (0, a1), (0, a2), (0, r3), (0, r5), (9, 0), (9, 0), (9, 0), (9, 0), (9, 0)]) dX19_binary_29 rfl rfl rfl ?_
      refine x_aload_n 0 dX19_binary_31 rfl rfl rfl rfl rfl ?_
      refine y_Vi 326 (M := mX19_areSmall) (As := []) (st := []) dX19_binary_32 i83 rfl q2761 q2763 qs141 q386 q2764 rfl hmX19_areSmall rfl rfl rfl rfl rfl rfl rfl rfl (k_mono h (fun r7 w8 h => ?_))
      refine x_istore 5 (ls' := [(2, 83), (0, a1), (0, a2), (0, r3), (0, r5), (0, r7), (9, 0), (9, 0), (9, 0), (9, 0)]) dX19_binary_35 rfl rfl rfl ?_
      refine x_aload_n 0 dX19_binary_37 rfl rfl rfl rfl rfl ?_
      refine x_dup dX19_binary_38 rfl rfl ?_
      refine y_get 98 17 (c := 18) (z := w8 83 17) dX19_binary_39 i83 rfl in_X19 q1309 rfl rfl rfl rfl rfl ?_
      refine x_iconst 2 (z := 2) dX19_binary_42 rfl (by decide) rfl ?_
      refine x_isub dX19_binary_43 rfl ?_
      refine x_put 98 17 (c := 18) dX19_binary_44 i83 rfl in_X19 tyX19_ok nmX19 q1309 rfl rfl rfl (Or.inl rfl) (Or.inl ⟨rfl, rfl⟩) rfl ?_
      refine x_iload 5 dX19_binary_47 rfl rfl ?_
      refine x_if_eq (t := 128) 79 dX19_binary_49 rfl rfl (b_ite h (fun hc h => ?_) (fun hc h => ?_))
      · exact x_fg (fgk (fgk (fgk (fgk (fgk (fgd (fgk (fgk (fgk (fgk (fg0))))))))))) h
      · refine x_iload_n 1 dX19_binary_52 rfl rfl rfl ?_
        refine x_bipush 64 (z := 64) dX19_binary_53 rfl (by decide) rfl ?_
        refine x_icmp_eq (t := 70) 15 dX19_binary_55 rfl rfl (b_ite h (fun hc h => ?_) (fun hc h => ?_))
        · refine x_iload_n 3 dX19_binary_70 rfl rfl rfl ?_
          refine x_iconst 1 (z := 1) dX19_binary_71 rfl (by decide) rfl ?_
          refine x_ishr dX19_binary_72 rfl ?_
          refine x_i2l dX19_binary_73 rfl ?_
          refine x_lstore 6 (ls' := [(2, 83), (0, a1), (0, a2), (0, r3), (0, r5), (0, r7), (1, b_shr r3 1), (9, 0), (9, 0), (9, 0)]) dX19_binary_74 rfl rfl rfl ?_
          refine x_iload 4 dX19_binary_76 rfl rfl ?_
          refine x_iconst 1 (z := 1) dX19_binary_78 rfl (by decide) rfl ?_
          refine x_ishr dX19_binary_79 rfl ?_
          refine x_i2l dX19_binary_80 rfl ?_
          refine x_lstore 8 (ls' := [(2, 83), (0, a1), (0, a2), (0, r3), (0, r5), (0, r7), (1, b_shr r3 1), (9, 0), (1, b_shr r5 1), (9, 0)]) dX19_binary_81 rfl rfl rfl ?_
          refine x_aload_n 0 dX19_binary_83 rfl rfl rfl rfl rfl ?_
          refine x_aload_n 0 dX19_binary_84 rfl rfl rfl rfl rfl ?_
          refine y_getF 54 0 (c := 18) (z := 27) dX19_binary_85 i83 rfl in_X19 q1292 rfl rfl rfl fn_83_0 (Nat.le_trans (Nat.le_of_ble_eq_true rfl) hn) rfl ?_
          refine x_iload_n 1 dX19_binary_88 rfl rfl rfl ?_
          refine x_bipush 64 (z := 64) dX19_binary_89 rfl (by decide) rfl ?_
          refine x_icmp_ne (t := 102) 11 dX19_binary_91 rfl rfl (b_ite h (fun hc h => ?_) (fun hc h => ?_))
          · refine x_iload_n 1 dX19_binary_102 rfl rfl rfl ?_
            refine x_bipush 65 (z := 65) dX19_binary_103 rfl (by decide) rfl ?_
            refine x_icmp_ne (t := 116) 11 dX19_binary_105 rfl rfl (b_ite h (fun hc h => ?_) (fun hc h => ?_))
            · refine x_lload 6 dX19_binary_116 rfl rfl ?_
              refine x_lload 8 dX19_binary_118 rfl rfl ?_
              refine x_lmul dX19_binary_120 rfl ?_
              refine y_Vi 329 (M := mX8_ofLong) (As := [(1, b_l ((b_shr r3 1) * (b_shr r5 1)))]) (st := [(2, 83)]) dX19_binary_121 i27 rfl q2765 q2766 q2767 q375 q2768 rfl hmX8_ofLong rfl rfl rfl rfl rfl rfl rfl rfl (k_mono h (fun r9 w10 h => ?_))
              refine y_Vv 122 (M := mX19_push) (As := [(0, r9)]) (st := []) dX19_binary_124 i83 rfl q2567 q2569 qs108 q386 q2570 rfl hmX19_push rfl rfl rfl rfl rfl rfl rfl (k_mono h (fun r11 w12 h => ?_))
              exact y_vret dX19_binary_127 rfl h
            · refine x_lload 6 dX19_binary_108 rfl rfl ?_
              refine x_lload 8 dX19_binary_110 rfl rfl ?_
              refine x_lsub dX19_binary_112 rfl ?_
              refine x_goto 8 (q := 121) dX19_binary_113 rfl ?_
              refine y_Vi 329 (M := mX8_ofLong) (As := [(1, b_l ((b_shr r3 1) - (b_shr r5 1)))]) (st := [(2, 83)]) dX19_binary_121 i27 rfl q2765 q2766 q2767 q375 q2768 rfl hmX8_ofLong rfl rfl rfl rfl rfl rfl rfl rfl (k_mono h (fun r13 w14 h => ?_))
              refine y_Vv 122 (M := mX19_push) (As := [(0, r13)]) (st := []) dX19_binary_124 i83 rfl q2567 q2569 qs108 q386 q2570 rfl hmX19_push rfl rfl rfl rfl rfl rfl rfl (k_mono h (fun r15 w16 h => ?_))
              exact y_vret dX19_binary_127 rfl h
          · refine x_lload 6 dX19_binary_94 rfl rfl ?_
            refine x_lload 8 dX19_binary_96 rfl rfl ?_
            refine x_ladd dX19_binary_98 rfl ?_
            refine x_goto 22 (q := 121) dX19_binary_99 rfl ?_
            refine y_Vi 329 (M := mX8_ofLong) (As := [(1, b_l ((b_shr r3 1) + (b_shr r5 1)))]) (st := [(2, 83)]) dX19_binary_121 i27 rfl q2765 q2766 q2767 q375 q2768 rfl hmX8_ofLong rfl rfl rfl rfl rfl rfl rfl rfl (k_mono h (fun r17 w18 h => ?_))
            refine y_Vv 122 (M := mX19_push) (As := [(0, r17)]) (st := []) dX19_binary_124 i83 rfl q2567 q2569 qs108 q386 q2570 rfl hmX19_push rfl rfl rfl rfl rfl rfl rfl (k_mono h (fun r19 w20 h => ?_))
            exact y_vret dX19_binary_127 rfl h
        · refine x_iload_n 1 dX19_binary_58 rfl rfl rfl ?_
          refine x_bipush 65 (z := 65) dX19_binary_59 rfl (by decide) rfl ?_
          refine x_icmp_eq (t := 70) 9 dX19_binary_61 rfl rfl (b_ite h (fun hc h => ?_) (fun hc h => ?_))
          · refine x_iload_n 3 dX19_binary_70 rfl rfl rfl ?_
            refine x_iconst 1 (z := 1) dX19_binary_71 rfl (by decide) rfl ?_
            refine x_ishr dX19_binary_72 rfl ?_
            refine x_i2l dX19_binary_73 rfl ?_
            refine x_lstore 6 (ls' := [(2, 83), (0, a1), (0, a2), (0, r3), (0, r5), (0, r7), (1, b_shr r3 1), (9, 0), (9, 0), (9, 0)]) dX19_binary_74 rfl rfl rfl ?_
            refine x_iload 4 dX19_binary_76 rfl rfl ?_
            refine x_iconst 1 (z := 1) dX19_binary_78 rfl (by decide) rfl ?_
            refine x_ishr dX19_binary_79 rfl ?_
            refine x_i2l dX19_binary_80 rfl ?_
            refine x_lstore 8 (ls' := [(2, 83), (0, a1), (0, a2), (0, r3), (0, r5), (0, r7), (1, b_shr r3 1), (9, 0), (1, b_shr r5 1), (9, 0)]) dX19_binary_81 rfl rfl rfl ?_
            refine x_aload_n 0 dX19_binary_83 rfl rfl rfl rfl rfl ?_
            refine x_aload_n 0 dX19_binary_84 rfl rfl rfl rfl rfl ?_
            refine y_getF 54 0 (c := 18) (z := 27) dX19_binary_85 i83 rfl in_X19 q1292 rfl rfl rfl fn_83_0 (Nat.le_trans (Nat.le_of_ble_eq_true rfl) hn) rfl ?_
            refine x_iload_n 1 dX19_binary_88 rfl rfl rfl ?_
            refine x_bipush 64 (z := 64) dX19_binary_89 rfl (by decide) rfl ?_
            refine x_icmp_ne (t := 102) 11 dX19_binary_91 rfl rfl (b_ite h (fun hc h => ?_) (fun hc h => ?_))
            · refine x_iload_n 1 dX19_binary_102 rfl rfl rfl ?_
              refine x_bipush 65 (z := 65) dX19_binary_103 rfl (by decide) rfl ?_
              refine x_icmp_ne (t := 116) 11 dX19_binary_105 rfl rfl (b_ite h (fun hc h => ?_) (fun hc h => ?_))
              · refine x_lload 6 dX19_binary_116 rfl rfl ?_
                refine x_lload 8 dX19_binary_118 rfl rfl ?_
                refine x_lmul dX19_binary_120 rfl ?_
                refine y_Vi 329 (M := mX8_ofLong) (As := [(1, b_l ((b_shr r3 1) * (b_shr r5 1)))]) (st := [(2, 83)]) dX19_binary_121 i27 rfl q2765 q2766 q2767 q375 q2768 rfl hmX8_ofLong rfl rfl rfl rfl rfl rfl rfl rfl (k_mono h (fun r21 w22 h => ?_))
                refine y_Vv 122 (M := mX19_push) (As := [(0, r21)]) (st := []) dX19_binary_124 i83 rfl q2567 q2569 qs108 q386 q2570 rfl hmX19_push rfl rfl rfl rfl rfl rfl rfl (k_mono h (fun r23 w24 h => ?_))
                exact y_vret dX19_binary_127 rfl h
              · refine x_lload 6 dX19_binary_108 rfl rfl ?_
                refine x_lload 8 dX19_binary_110 rfl rfl ?_
                refine x_lsub dX19_binary_112 rfl ?_
                refine x_goto 8 (q := 121) dX19_binary_113 rfl ?_
                refine y_Vi 329 (M := mX8_ofLong) (As := [(1, b_l ((b_shr r3 1) - (b_shr r5 1)))]) (st := [(2, 83)]) dX19_binary_121 i27 rfl q2765 q2766 q2767 q375 q2768 rfl hmX8_ofLong rfl rfl rfl rfl rfl rfl rfl rfl (k_mono h (fun r25 w26 h => ?_))
                refine y_Vv 122 (M := mX19_push) (As := [(0, r25)]) (st := []) dX19_binary_124 i83 rfl q2567 q2569 qs108 q386 q2570 rfl hmX19_push rfl rfl rfl rfl rfl rfl rfl (k_mono h (fun r27 w28 h => ?_))
                exact y_vret dX19_binary_127 rfl h
            · refine x_lload 6 dX19_binary_94 rfl rfl ?_
              refine x_lload 8 dX19_binary_96 rfl rfl ?_
              refine x_ladd dX19_binary_98 rfl ?_
              refine x_goto 22 (q := 121) dX19_binary_99 rfl ?_
              refine y_Vi 329 (M := mX8_ofLong) (As := [(1, b_l ((b_shr r3 1) + (b_shr r5 1)))]) (st := [(2, 83)]) dX19_binary_121 i27 rfl q2765 q2766 q2767 q375 q2768 rfl hmX8_ofLong rfl rfl rfl rfl rfl rfl rfl rfl (k_mono h (fun r29 w30 h => ?_))
              refine y_Vv 122 (M := mX19_push) (As := [(0, r29)]) (st := []) dX19_binary_124 i83 rfl q2567 q2569 qs108 q386 q2570 rfl hmX19_push rfl rfl rfl rfl rfl rfl rfl (k_mono h (fun r31 w32 h => ?_))
              exact y_vret dX19_binary_127 rfl h
          · refine x_iload_n 1 dX19_binary_64 rfl rfl rfl ?_
            refine x_bipush 67 (z := 67) dX19_binary_65 rfl (by decide) rfl ?_
            refine x_icmp_ne (t := 128) 61 dX19_binary_67 rfl rfl (b_ite h (fun hc h => ?_) (fun hc h => ?_))
            · exact x_fg (fgk (fgk (fgk (fgk (fgk (fgd (fgk (fgk (fgk (fgk (fg0))))))))))) h
            · refine x_iload_n 3 dX19_binary_70 rfl rfl rfl ?_
              refine x_iconst 1 (z := 1) dX19_binary_71 rfl (by decide) rfl ?_
              refine x_ishr dX19_binary_72 rfl ?_
              refine x_i2l dX19_binary_73 rfl ?_
              refine x_lstore 6 (ls' := [(2, 83), (0, a1), (0, a2), (0, r3), (0, r5), (0, r7), (1, b_shr r3 1), (9, 0), (9, 0), (9, 0)]) dX19_binary_74 rfl rfl rfl ?_
              refine x_iload 4 dX19_binary_76 rfl rfl ?_
              refine x_iconst 1 (z := 1) dX19_binary_78 rfl (by decide) rfl ?_
              refine x_ishr dX19_binary_79 rfl ?_
              refine x_i2l dX19_binary_80 rfl ?_
              refine x_lstore 8 (ls' := [(2, 83), (0, a1), (0, a2), (0, r3), (0, r5), (0, r7), (1, b_shr r3 1), (9, 0), (1, b_shr r5 1), (9, 0)]) dX19_binary_81 rfl rfl rfl ?_
              refine x_aload_n 0 dX19_binary_83 rfl rfl rfl rfl rfl ?_
              refine x_aload_n 0 dX19_binary_84 rfl rfl rfl rfl rfl ?_
              refine y_getF 54 0 (c := 18) (z := 27) dX19_binary_85 i83 rfl in_X19 q1292 rfl rfl rfl fn_83_0 (Nat.le_trans (Nat.le_of_ble_eq_true rfl) hn) rfl ?_
              refine x_iload_n 1 dX19_binary_88 rfl rfl rfl ?_
              refine x_bipush 64 (z := 64) dX19_binary_89 rfl (by decide) rfl ?_
              refine x_icmp_ne (t := 102) 11 dX19_binary_91 rfl rfl (b_ite h (fun hc h => ?_) (fun hc h => ?_))
              · refine x_iload_n 1 dX19_binary_102 rfl rfl rfl ?_
                refine x_bipush 65 (z := 65) dX19_binary_103 rfl (by decide) rfl ?_
                refine x_icmp_ne (t := 116) 11 dX19_binary_105 rfl rfl (b_ite h (fun hc h => ?_) (fun hc h => ?_))
                · refine x_lload 6 dX19_binary_116 rfl rfl ?_
                  refine x_lload 8 dX19_binary_118 rfl rfl ?_
                  refine x_lmul dX19_binary_120 rfl ?_
                  refine y_Vi 329 (M := mX8_ofLong) (As := [(1, b_l ((b_shr r3 1) * (b_shr r5 1)))]) (st := [(2, 83)]) dX19_binary_121 i27 rfl q2765 q2766 q2767 q375 q2768 rfl hmX8_ofLong rfl rfl rfl rfl rfl rfl rfl rfl (k_mono h (fun r33 w34 h => ?_))
                  refine y_Vv 122 (M := mX19_push) (As := [(0, r33)]) (st := []) dX19_binary_124 i83 rfl q2567 q2569 qs108 q386 q2570 rfl hmX19_push rfl rfl rfl rfl rfl rfl rfl (k_mono h (fun r35 w36 h => ?_))
                  exact y_vret dX19_binary_127 rfl h
                · refine x_lload 6 dX19_binary_108 rfl rfl ?_
                  refine x_lload 8 dX19_binary_110 rfl rfl ?_
                  refine x_lsub dX19_binary_112 rfl ?_
                  refine x_goto 8 (q := 121) dX19_binary_113 rfl ?_
                  refine y_Vi 329 (M := mX8_ofLong) (As := [(1, b_l ((b_shr r3 1) - (b_shr r5 1)))]) (st := [(2, 83)]) dX19_binary_121 i27 rfl q2765 q2766 q2767 q375 q2768 rfl hmX8_ofLong rfl rfl rfl rfl rfl rfl rfl rfl (k_mono h (fun r37 w38 h => ?_))
                  refine y_Vv 122 (M := mX19_push) (As := [(0, r37)]) (st := []) dX19_binary_124 i83 rfl q2567 q2569 qs108 q386 q2570 rfl hmX19_push rfl rfl rfl rfl rfl rfl rfl (k_mono h (fun r39 w40 h => ?_))
                  exact y_vret dX19_binary_127 rfl h
              · refine x_lload 6 dX19_binary_94 rfl rfl ?_
                refine x_lload 8 dX19_binary_96 rfl rfl ?_
                refine x_ladd dX19_binary_98 rfl ?_
                refine x_goto 22 (q := 121) dX19_binary_99 rfl ?_
                refine y_Vi 329 (M := mX8_ofLong) (As := [(1, b_l ((b_shr r3 1) + (b_shr r5 1)))]) (st := [(2, 83)]) dX19_binary_121 i27 rfl q2765 q2766 q2767 q375 q2768 rfl hmX8_ofLong rfl rfl rfl rfl rfl rfl rfl rfl (k_mono h (fun r41 w42 h => ?_))
                refine y_Vv 122 (M := mX19_push) (As := [(0, r41)]) (st := []) dX19_binary_124 i83 rfl q2567 q2569 qs108 q386 q2570 rfl hmX19_push rfl rfl rfl rfl rfl rfl rfl (k_mono h (fun r43 w44 h => ?_))
                exact y_vret dX19_binary_127 rfl h
    · refine x_aload_n 0 dX19_binary_12 rfl rfl rfl rfl rfl ?_
      refine x_iload_n 1 dX19_binary_13 rfl rfl rfl ?_
      refine y_Vv 323 (M := mX19_shift) (As := [(0, a1)]) (st := []) dX19_binary_14 i83 rfl q2747 q2749 qs140 q386 q2750 rfl hmX19_shift rfl rfl rfl rfl rfl rfl rfl (k_mono h (fun r45 w46 h => ?_))
      exact y_vret dX19_binary_17 rfl h
theorem sX19_binary_128 {d n : Nat} {w : bW} {Q : Int → bW → Prop} {X : String → bW → Prop} (hn : 143 ≤ n) (a1 : Int) (a2 : Int) (a3 : Int) (a4 : Int) (h : b_K d mX8_load [(2, 27), (0, a3), (2, 89)] n w (fun r1 w2 => b_K d mX8_load [(2, 27), (0, a4), (2, 91)] n w2 (fun r3 w4 => if a1 = 64 then (b_K d mX20_add [(2, 84), (2, 89), (2, 91), (0, 0), (2, 93)] n w4 (fun r5 w6 => if a2 ≠ 4 then (b_K d mX19_pushNumber [(2, 83), (0, 0)] n w6 (fun r7 w8 => Q 0 w8) X) else (b_K d mX19_pushNumber [(2, 83), (0, 1)] n w6 (fun r9 w10 => Q 0 w10) X)) X) else (if a1 = 65 then (b_K d mX20_add [(2, 84), (2, 89), (2, 91), (0, 1), (2, 93)] n w4 (fun r11 w12 => b_K d mX19_pushNumber [(2, 83), (0, 0)] n w12 (fun r13 w14 => Q 0 w14) X) X) else (if a1 = 66 then (b_K d mX20_add [(2, 84), (2, 89), (2, 91), (0, 1), (2, 93)] n w4 (fun r15 w16 => if w16 93 2 = 0 then (b_K d mX8_ofWhole [(2, 27), (2, 93)] n w16 (fun r17 w18 => b_K d mX8_wrap [(2, 27), (0, 4), (0, r17)] n w18 (fun r19 w20 => b_K d mX19_push [(2, 83), (0, r19)] n w20 (fun r21 w22 => Q 0 w22) X) X) X) else (b_K d mX19_push [(2, 83), (0, 8)] n w16 (fun r23 w24 => Q 0 w24) X)) X) else (if a1 = 67 then (b_K d mX20_multiply [(2, 84), (2, 89), (2, 91), (2, 93)] n w4 (fun r25 w26 => if a2 ≠ 4 then (b_K d mX19_pushNumber [(2, 83), (0, 0)] n w26 (fun r27 w28 => Q 0 w28) X) else (b_K d mX19_pushNumber [(2, 83), (0, 1)] n w26 (fun r29 w30 => Q 0 w30) X)) X) else (if a1 = 68 then (b_K d mX19_divide [(2, 83)] n w4 (fun r31 w32 => Q 0 w32) X) else ((b_K d mX20_combine [(2, 84), (2, 89), (2, 91), (0, b_i (a1 - 73)), (2, 93)] n w4 (fun r33 w34 => b_K d mX19_pushNumber [(2, 83), (0, 0)] n w34 (fun r35 w36 => Q 0 w36) X) X))))))) X) X) : LX19_binary_128 d n Q X a1 a2 a3 a4 w := by
  have i27 := iz27 (Nat.le_trans (Nat.le_of_ble_eq_true rfl) hn)
  have i83 := iz83 (Nat.le_trans (Nat.le_of_ble_eq_true rfl) hn)
  have i84 := iz84 (Nat.le_trans (Nat.le_of_ble_eq_true rfl) hn)
  have i93 := iz93 (Nat.le_trans (Nat.le_of_ble_eq_true rfl) hn)
  refine x_aload_n 0 dX19_binary_128 rfl rfl rfl rfl rfl ?_
  refine y_getF 54 0 (c := 18) (z := 27) dX19_binary_129 i83 rfl in_X19 q1292 rfl rfl rfl fn_83_0 (Nat.le_trans (Nat.le_of_ble_eq_true rfl) hn) rfl ?_
  refine x_iload_n 3 dX19_binary_132 rfl rfl rfl ?_
  refine x_aload_n 0 dX19_binary_133 rfl rfl rfl rfl rfl ?_
  refine y_getF 23 12 (c := 18) (z := 89) dX19_binary_134 i83 rfl in_X19 q1304 rfl rfl rfl fn_83_12 (Nat.le_trans (Nat.le_of_ble_eq_true rfl) hn) rfl ?_
  refine y_Vv 300 (M := mX8_load) (As := [(0, a3), (2, 89)]) (st := []) dX19_binary_137 i27 rfl q2722 q2104 q2105 q375 q2106 rfl hmX8_load rfl rfl rfl rfl rfl rfl rfl (k_mono h (fun r1 w2 h => ?_))
  refine x_aload_n 0 dX19_binary_140 rfl rfl rfl rfl rfl ?_
  refine y_getF 54 0 (c := 18) (z := 27) dX19_binary_141 i83 rfl in_X19 q1292 rfl rfl rfl fn_83_0 (Nat.le_trans (Nat.le_of_ble_eq_true rfl) hn) rfl ?_
  refine x_iload 4 dX19_binary_144 rfl rfl ?_
  refine x_aload_n 0 dX19_binary_146 rfl rfl rfl rfl rfl ?_
  refine y_getF 27 13 (c := 18) (z := 91) dX19_binary_147 i83 rfl in_X19 q1305 rfl rfl rfl fn_83_13 (Nat.le_trans (Nat.le_of_ble_eq_true rfl) hn) rfl ?_
  refine y_Vv 300 (M := mX8_load) (As := [(0, a4), (2, 91)]) (st := []) dX19_binary_150 i27 rfl q2722 q2104 q2105 q375 q2106 rfl hmX8_load rfl rfl rfl rfl rfl rfl rfl (k_mono h (fun r3 w4 h => ?_))
  refine x_iload_n 1 dX19_binary_153 rfl rfl rfl ?_
  refine b_itc h (fun hc h => ?_) (fun hn0 h => ?_)
  · have key : b_Y (d + 1) mX19_binary n Q X 188 [(2, 83), (0, a1), (0, a2), (0, a3), (0, a4), (9, 0), (9, 0), (9, 0), (9, 0), (9, 0)] [] w4 := by
      refine x_aload_n 0 dX19_binary_188 rfl rfl rfl rfl rfl ?_
      refine y_getF 12 11 (c := 18) (z := 84) dX19_binary_189 i83 rfl in_X19 q1303 rfl rfl rfl fn_83_11 (Nat.le_trans (Nat.le_of_ble_eq_true rfl) hn) rfl ?_
      refine x_aload_n 0 dX19_binary_192 rfl rfl rfl rfl rfl ?_
      refine y_getF 23 12 (c := 18) (z := 89) dX19_binary_193 i83 rfl in_X19 q1304 rfl rfl rfl fn_83_12 (Nat.le_trans (Nat.le_of_ble_eq_true rfl) hn) rfl ?_
      refine x_aload_n 0 dX19_binary_196 rfl rfl rfl rfl rfl ?_
      refine y_getF 27 13 (c := 18) (z := 91) dX19_binary_197 i83 rfl in_X19 q1305 rfl rfl rfl fn_83_13 (Nat.le_trans (Nat.le_of_ble_eq_true rfl) hn) rfl ?_
      refine x_iconst 0 (z := 0) dX19_binary_200 rfl (by decide) rfl ?_
      refine x_aload_n 0 dX19_binary_201 rfl rfl rfl rfl rfl ?_
      refine y_getF 30 14 (c := 18) (z := 93) dX19_binary_202 i83 rfl in_X19 q1306 rfl rfl rfl fn_83_14 (Nat.le_trans (Nat.le_of_ble_eq_true rfl) hn) rfl ?_
      refine y_Vv 319 (M := mX20_add) (As := [(2, 89), (2, 91), (0, 0), (2, 93)]) (st := []) dX19_binary_205 i84 rfl q2726 q2727 q2728 q387 q2729 rfl hmX20_add rfl rfl rfl rfl rfl rfl rfl (k_mono h (fun r5 w6 h => ?_))
      refine x_aload_n 0 dX19_binary_208 rfl rfl rfl rfl rfl ?_
      refine x_iload_n 2 dX19_binary_209 rfl rfl rfl ?_
      refine x_iconst 4 (z := 4) dX19_binary_210 rfl (by decide) rfl ?_
      refine x_icmp_ne (t := 218) 7 dX19_binary_211 rfl rfl (b_ite h (fun hc h => ?_) (fun hc h => ?_))
      · refine x_iconst 0 (z := 0) dX19_binary_218 rfl (by decide) rfl ?_
        refine y_Vv 333 (M := mX19_pushNumber) (As := [(0, 0)]) (st := []) dX19_binary_219 i83 rfl q2772 q2774 qs142 q386 q2775 rfl hmX19_pushNumber rfl rfl rfl rfl rfl rfl rfl (k_mono h (fun r7 w8 h => ?_))
        refine x_goto 163 (q := 385) dX19_binary_222 rfl ?_
        exact y_vret dX19_binary_385 rfl h
      · refine x_iconst 1 (z := 1) dX19_binary_214 rfl (by decide) rfl ?_
        refine x_goto 4 (q := 219) dX19_binary_215 rfl ?_
        refine y_Vv 333 (M := mX19_pushNumber) (As := [(0, 1)]) (st := []) dX19_binary_219 i83 rfl q2772 q2774 qs142 q386 q2775 rfl hmX19_pushNumber rfl rfl rfl rfl rfl rfl rfl (k_mono h (fun r9 w10 h => ?_))
        refine x_goto 163 (q := 385) dX19_binary_222 rfl ?_
        exact y_vret dX19_binary_385 rfl h
    have e := hc
    exact x_tsI (off := 34) (t := 188) dX19_binary_154 (by rw [e]; decide) (by rw [e]; decide) (by rw [e]; rfl) rfl key
  · refine b_itc h (fun hc h => ?_) (fun hn1 h => ?_)
    · have key : b_Y (d + 1) mX19_binary n Q X 225 [(2, 83), (0, a1), (0, a2), (0, a3), (0, a4), (9, 0), (9, 0), (9, 0), (9, 0), (9, 0)] [] w4 := by
        refine x_aload_n 0 dX19_binary_225 rfl rfl rfl rfl rfl ?_
        refine y_getF 12 11 (c := 18) (z := 84) dX19_binary_226 i83 rfl in_X19 q1303 rfl rfl rfl fn_83_11 (Nat.le_trans (Nat.le_of_ble_eq_true rfl) hn) rfl ?_
        refine x_aload_n 0 dX19_binary_229 rfl rfl rfl rfl rfl ?_
        refine y_getF 23 12 (c := 18) (z := 89) dX19_binary_230 i83 rfl in_X19 q1304 rfl rfl rfl fn_83_12 (Nat.le_trans (Nat.le_of_ble_eq_true rfl) hn) rfl ?_
        refine x_aload_n 0 dX19_binary_233 rfl rfl rfl rfl rfl ?_
        refine y_getF 27 13 (c := 18) (z := 91) dX19_binary_234 i83 rfl in_X19 q1305 rfl rfl rfl fn_83_13 (Nat.le_trans (Nat.le_of_ble_eq_true rfl) hn) rfl ?_
        refine x_iconst 1 (z := 1) dX19_binary_237 rfl (by decide) rfl ?_
        refine x_aload_n 0 dX19_binary_238 rfl rfl rfl rfl rfl ?_
        refine y_getF 30 14 (c := 18) (z := 93) dX19_binary_239 i83 rfl in_X19 q1306 rfl rfl rfl fn_83_14 (Nat.le_trans (Nat.le_of_ble_eq_true rfl) hn) rfl ?_
        refine y_Vv 319 (M := mX20_add) (As := [(2, 89), (2, 91), (0, 1), (2, 93)]) (st := []) dX19_binary_242 i84 rfl q2726 q2727 q2728 q387 q2729 rfl hmX20_add rfl rfl rfl rfl rfl rfl rfl (k_mono h (fun r11 w12 h => ?_))
        refine x_aload_n 0 dX19_binary_245 rfl rfl rfl rfl rfl ?_
        refine x_iconst 0 (z := 0) dX19_binary_246 rfl (by decide) rfl ?_
        refine y_Vv 333 (M := mX19_pushNumber) (As := [(0, 0)]) (st := []) dX19_binary_247 i83 rfl q2772 q2774 qs142 q386 q2775 rfl hmX19_pushNumber rfl rfl rfl rfl rfl rfl rfl (k_mono h (fun r13 w14 h => ?_))
        refine x_goto 135 (q := 385) dX19_binary_250 rfl ?_
        exact y_vret dX19_binary_385 rfl h
      have e := hc
      exact x_tsI (off := 71) (t := 225) dX19_binary_154 (by rw [e]; decide) (by rw [e]; decide) (by rw [e]; rfl) rfl key
    · refine b_itc h (fun hc h => ?_) (fun hn2 h => ?_)
      · have key : b_Y (d + 1) mX19_binary n Q X 253 [(2, 83), (0, a1), (0, a2), (0, a3), (0, a4), (9, 0), (9, 0), (9, 0), (9, 0), (9, 0)] [] w4 := by
          refine x_aload_n 0 dX19_binary_253 rfl rfl rfl rfl rfl ?_
          refine y_getF 12 11 (c := 18) (z := 84) dX19_binary_254 i83 rfl in_X19 q1303 rfl rfl rfl fn_83_11 (Nat.le_trans (Nat.le_of_ble_eq_true rfl) hn) rfl ?_
          refine x_aload_n 0 dX19_binary_257 rfl rfl rfl rfl rfl ?_
          refine y_getF 23 12 (c := 18) (z := 89) dX19_binary_258 i83 rfl in_X19 q1304 rfl rfl rfl fn_83_12 (Nat.le_trans (Nat.le_of_ble_eq_true rfl) hn) rfl ?_
          refine x_aload_n 0 dX19_binary_261 rfl rfl rfl rfl rfl ?_
          refine y_getF 27 13 (c := 18) (z := 91) dX19_binary_262 i83 rfl in_X19 q1305 rfl rfl rfl fn_83_13 (Nat.le_trans (Nat.le_of_ble_eq_true rfl) hn) rfl ?_
          refine x_iconst 1 (z := 1) dX19_binary_265 rfl (by decide) rfl ?_
          refine x_aload_n 0 dX19_binary_266 rfl rfl rfl rfl rfl ?_
          refine y_getF 30 14 (c := 18) (z := 93) dX19_binary_267 i83 rfl in_X19 q1306 rfl rfl rfl fn_83_14 (Nat.le_trans (Nat.le_of_ble_eq_true rfl) hn) rfl ?_
          refine y_Vv 319 (M := mX20_add) (As := [(2, 89), (2, 91), (0, 1), (2, 93)]) (st := []) dX19_binary_270 i84 rfl q2726 q2727 q2728 q387 q2729 rfl hmX20_add rfl rfl rfl rfl rfl rfl rfl (k_mono h (fun r15 w16 h => ?_))
          refine x_aload_n 0 dX19_binary_273 rfl rfl rfl rfl rfl ?_
          refine x_aload_n 0 dX19_binary_274 rfl rfl rfl rfl rfl ?_
          refine y_getF 30 14 (c := 18) (z := 93) dX19_binary_275 i83 rfl in_X19 q1306 rfl rfl rfl fn_83_14 (Nat.le_trans (Nat.le_of_ble_eq_true rfl) hn) rfl ?_
          refine y_get 304 2 (c := 5) (z := w16 93 2) dX19_binary_278 i93 rfl in_X6 q642 rfl rfl rfl rfl rfl ?_
          refine x_if_eq (t := 289) 8 dX19_binary_281 rfl rfl (b_ite h (fun hc h => ?_) (fun hc h => ?_))
          · refine x_aload_n 0 dX19_binary_289 rfl rfl rfl rfl rfl ?_
            refine y_getF 54 0 (c := 18) (z := 27) dX19_binary_290 i83 rfl in_X19 q1292 rfl rfl rfl fn_83_0 (Nat.le_trans (Nat.le_of_ble_eq_true rfl) hn) rfl ?_
            refine x_iconst 4 (z := 4) dX19_binary_293 rfl (by decide) rfl ?_
            refine x_aload_n 0 dX19_binary_294 rfl rfl rfl rfl rfl ?_
            refine y_getF 54 0 (c := 18) (z := 27) dX19_binary_295 i83 rfl in_X19 q1292 rfl rfl rfl fn_83_0 (Nat.le_trans (Nat.le_of_ble_eq_true rfl) hn) rfl ?_
            refine x_aload_n 0 dX19_binary_298 rfl rfl rfl rfl rfl ?_
            refine y_getF 30 14 (c := 18) (z := 93) dX19_binary_299 i83 rfl in_X19 q1306 rfl rfl rfl fn_83_14 (Nat.le_trans (Nat.le_of_ble_eq_true rfl) hn) rfl ?_
            refine y_Vi 312 (M := mX8_ofWhole) (As := [(2, 93)]) (st := [(0, 4), (2, 27), (2, 83)]) dX19_binary_302 i27 rfl q2724 q1949 q1950 q375 q1951 rfl hmX8_ofWhole rfl rfl rfl rfl rfl rfl rfl rfl (k_mono h (fun r17 w18 h => ?_))
            refine y_Vi 156 (M := mX8_wrap) (As := [(0, 4), (0, r17)]) (st := [(2, 83)]) dX19_binary_305 i27 rfl q2641 q2024 q2025 q375 q2026 rfl hmX8_wrap rfl rfl rfl rfl rfl rfl rfl rfl (k_mono h (fun r19 w20 h => ?_))
            refine y_Vv 122 (M := mX19_push) (As := [(0, r19)]) (st := []) dX19_binary_308 i83 rfl q2567 q2569 qs108 q386 q2570 rfl hmX19_push rfl rfl rfl rfl rfl rfl rfl (k_mono h (fun r21 w22 h => ?_))
            refine x_goto 74 (q := 385) dX19_binary_311 rfl ?_
            exact y_vret dX19_binary_385 rfl h
          · refine x_bipush 8 (z := 8) dX19_binary_284 rfl (by decide) rfl ?_
            refine x_goto 22 (q := 308) dX19_binary_286 rfl ?_
            refine y_Vv 122 (M := mX19_push) (As := [(0, 8)]) (st := []) dX19_binary_308 i83 rfl q2567 q2569 qs108 q386 q2570 rfl hmX19_push rfl rfl rfl rfl rfl rfl rfl (k_mono h (fun r23 w24 h => ?_))
            refine x_goto 74 (q := 385) dX19_binary_311 rfl ?_
            exact y_vret dX19_binary_385 rfl h
        have e := hc
        exact x_tsI (off := 99) (t := 253) dX19_binary_154 (by rw [e]; decide) (by rw [e]; decide) (by rw [e]; rfl) rfl key
      · refine b_itc h (fun hc h => ?_) (fun hn3 h => ?_)
        · have key : b_Y (d + 1) mX19_binary n Q X 314 [(2, 83), (0, a1), (0, a2), (0, a3), (0, a4), (9, 0), (9, 0), (9, 0), (9, 0), (9, 0)] [] w4 := by
            refine x_aload_n 0 dX19_binary_314 rfl rfl rfl rfl rfl ?_
            refine y_getF 12 11 (c := 18) (z := 84) dX19_binary_315 i83 rfl in_X19 q1303 rfl rfl rfl fn_83_11 (Nat.le_trans (Nat.le_of_ble_eq_true rfl) hn) rfl ?_
            refine x_aload_n 0 dX19_binary_318 rfl rfl rfl rfl rfl ?_
            refine y_getF 23 12 (c := 18) (z := 89) dX19_binary_319 i83 rfl in_X19 q1304 rfl rfl rfl fn_83_12 (Nat.le_trans (Nat.le_of_ble_eq_true rfl) hn) rfl ?_
            refine x_aload_n 0 dX19_binary_322 rfl rfl rfl rfl rfl ?_
            refine y_getF 27 13 (c := 18) (z := 91) dX19_binary_323 i83 rfl in_X19 q1305 rfl rfl rfl fn_83_13 (Nat.le_trans (Nat.le_of_ble_eq_true rfl) hn) rfl ?_
            refine x_aload_n 0 dX19_binary_326 rfl rfl rfl rfl rfl ?_
            refine y_getF 30 14 (c := 18) (z := 93) dX19_binary_327 i83 rfl in_X19 q1306 rfl rfl rfl fn_83_14 (Nat.le_trans (Nat.le_of_ble_eq_true rfl) hn) rfl ?_
            refine y_Vv 337 (M := mX20_multiply) (As := [(2, 89), (2, 91), (2, 93)]) (st := []) dX19_binary_330 i84 rfl q2777 q2778 q2779 q387 q2780 rfl hmX20_multiply rfl rfl rfl rfl rfl rfl rfl (k_mono h (fun r25 w26 h => ?_))
            refine x_aload_n 0 dX19_binary_333 rfl rfl rfl rfl rfl ?_
            refine x_iload_n 2 dX19_binary_334 rfl rfl rfl ?_
            refine x_iconst 4 (z := 4) dX19_binary_335 rfl (by decide) rfl ?_
            refine x_icmp_ne (t := 343) 7 dX19_binary_336 rfl rfl (b_ite h (fun hc h => ?_) (fun hc h => ?_))
            · refine x_iconst 0 (z := 0) dX19_binary_343 rfl (by decide) rfl ?_
              refine y_Vv 333 (M := mX19_pushNumber) (As := [(0, 0)]) (st := []) dX19_binary_344 i83 rfl q2772 q2774 qs142 q386 q2775 rfl hmX19_pushNumber rfl rfl rfl rfl rfl rfl rfl (k_mono h (fun r27 w28 h => ?_))
              refine x_goto 38 (q := 385) dX19_binary_347 rfl ?_
              exact y_vret dX19_binary_385 rfl h
            · refine x_iconst 1 (z := 1) dX19_binary_339 rfl (by decide) rfl ?_
              refine x_goto 4 (q := 344) dX19_binary_340 rfl ?_
              refine y_Vv 333 (M := mX19_pushNumber) (As := [(0, 1)]) (st := []) dX19_binary_344 i83 rfl q2772 q2774 qs142 q386 q2775 rfl hmX19_pushNumber rfl rfl rfl rfl rfl rfl rfl (k_mono h (fun r29 w30 h => ?_))
              refine x_goto 38 (q := 385) dX19_binary_347 rfl ?_
              exact y_vret dX19_binary_385 rfl h
          have e := hc
          exact x_tsI (off := 160) (t := 314) dX19_binary_154 (by rw [e]; decide) (by rw [e]; decide) (by rw [e]; rfl) rfl key
        · refine b_itc h (fun hc h => ?_) (fun hn4 h => ?_)
          · have key : b_Y (d + 1) mX19_binary n Q X 350 [(2, 83), (0, a1), (0, a2), (0, a3), (0, a4), (9, 0), (9, 0), (9, 0), (9, 0), (9, 0)] [] w4 := by
              refine x_aload_n 0 dX19_binary_350 rfl rfl rfl rfl rfl ?_
              refine y_Vv 341 (M := mX19_divide) (As := []) (st := []) dX19_binary_351 i83 rfl q2785 q2787 qs143 q386 q2788 rfl hmX19_divide rfl rfl rfl rfl rfl rfl rfl (k_mono h (fun r31 w32 h => ?_))
              refine x_goto 31 (q := 385) dX19_binary_354 rfl ?_
              exact y_vret dX19_binary_385 rfl h
            have e := hc
            exact x_tsI (off := 196) (t := 350) dX19_binary_154 (by rw [e]; decide) (by rw [e]; decide) (by rw [e]; rfl) rfl key
          · have key : b_Y (d + 1) mX19_binary n Q X 357 [(2, 83), (0, a1), (0, a2), (0, a3), (0, a4), (9, 0), (9, 0), (9, 0), (9, 0), (9, 0)] [] w4 := by
              refine x_aload_n 0 dX19_binary_357 rfl rfl rfl rfl rfl ?_
              refine y_getF 12 11 (c := 18) (z := 84) dX19_binary_358 i83 rfl in_X19 q1303 rfl rfl rfl fn_83_11 (Nat.le_trans (Nat.le_of_ble_eq_true rfl) hn) rfl ?_
              refine x_aload_n 0 dX19_binary_361 rfl rfl rfl rfl rfl ?_
              refine y_getF 23 12 (c := 18) (z := 89) dX19_binary_362 i83 rfl in_X19 q1304 rfl rfl rfl fn_83_12 (Nat.le_trans (Nat.le_of_ble_eq_true rfl) hn) rfl ?_
              refine x_aload_n 0 dX19_binary_365 rfl rfl rfl rfl rfl ?_
              refine y_getF 27 13 (c := 18) (z := 91) dX19_binary_366 i83 rfl in_X19 q1305 rfl rfl rfl fn_83_13 (Nat.le_trans (Nat.le_of_ble_eq_true rfl) hn) rfl ?_
              refine x_iload_n 1 dX19_binary_369 rfl rfl rfl ?_
              refine x_bipush 73 (z := 73) dX19_binary_370 rfl (by decide) rfl ?_
              refine x_isub dX19_binary_372 rfl ?_
              refine x_aload_n 0 dX19_binary_373 rfl rfl rfl rfl rfl ?_
              refine y_getF 30 14 (c := 18) (z := 93) dX19_binary_374 i83 rfl in_X19 q1306 rfl rfl rfl fn_83_14 (Nat.le_trans (Nat.le_of_ble_eq_true rfl) hn) rfl ?_
              refine y_Vv 344 (M := mX20_combine) (As := [(2, 89), (2, 91), (0, b_i (a1 - 73)), (2, 93)]) (st := []) dX19_binary_377 i84 rfl q2820 q2821 q2822 q387 q2823 rfl hmX20_combine rfl rfl rfl rfl rfl rfl rfl (k_mono h (fun r33 w34 h => ?_))
              refine x_aload_n 0 dX19_binary_380 rfl rfl rfl rfl rfl ?_
              refine x_iconst 0 (z := 0) dX19_binary_381 rfl (by decide) rfl ?_
              refine y_Vv 333 (M := mX19_pushNumber) (As := [(0, 0)]) (st := []) dX19_binary_382 i83 rfl q2772 q2774 qs142 q386 q2775 rfl hmX19_pushNumber rfl rfl rfl rfl rfl rfl rfl (k_mono h (fun r35 w36 h => ?_))
              exact y_vret dX19_binary_385 rfl h
            exact x_tsO (t := 357) dX19_binary_154 (by omega) rfl key
abbrev LX19_shift_31 (d n : Nat) (Q : Int → bW → Prop) (X : String → bW → Prop) (a1 : Int) (a2 : Int) (s0 : Int) (w : bW) : Prop := b_Y (d + 1) mX19_shift n Q X 31 [(2, 83), (0, a1), (0, a2)] [(0, s0), (2, 2)] w
theorem rX19_shift {d n : Nat} {w : bW} {Q : Int → bW → Prop} {X : String → bW → Prop} (hn : 143 ≤ n) (a1 : Int) (h : b_K d mX19_at [(2, 83), (0, 1)] n w (fun r1 w2 => b_K d mX8_isSmall [(0, r1)] n w2 (fun r3 w4 => if r3 = 0 then (LX19_shift_31 d n Q X a1 r1 0 w4) else (if 256 < b_shr r1 1 then (LX19_shift_31 d n Q X a1 r1 0 w4) else (LX19_shift_31 d n Q X a1 r1 1 w4))) X) X) : b_K (d + 1) mX19_shift [(2, 83), (0, a1)] n w Q X := by
  have i83 := iz83 (Nat.le_trans (Nat.le_of_ble_eq_true rfl) hn)
  refine k_of (by decide) rfl rfl rfl (ls := [(2, 83), (0, a1), (9, 0)]) rfl ?_
  refine x_aload_n 0 dX19_shift_0 rfl rfl rfl rfl rfl ?_
  refine x_iconst 1 (z := 1) dX19_shift_1 rfl (by decide) rfl ?_
  refine y_Vi 102 (M := mX19_at) (As := [(0, 1)]) (st := []) dX19_shift_2 i83 rfl q2651 q2653 qs125 q386 q2654 rfl hmX19_at rfl rfl rfl rfl rfl rfl rfl rfl (k_mono h (fun r1 w2 h => ?_))
  refine x_istore_n 2 (ls' := [(2, 83), (0, a1), (0, r1)]) dX19_shift_5 rfl rfl rfl rfl ?_
  refine x_aload_n 0 dX19_shift_6 rfl rfl rfl rfl rfl ?_
  refine y_getF 90 9 (c := 18) (z := 2) dX19_shift_7 i83 rfl in_X19 q1301 rfl rfl rfl fn_83_9 (Nat.le_trans (Nat.le_of_ble_eq_true rfl) hn) rfl ?_
  refine x_iload_n 2 dX19_shift_10 rfl rfl rfl ?_
  refine y_Si 265 (M := mX8_isSmall) (As := [(0, r1)]) (st := [(2, 2)]) dX19_shift_11 q2751 q2032 q375 q2033 hmX8_isSmall rfl rfl rfl rfl rfl rfl rfl rfl (k_mono h (fun r3 w4 h => ?_))
  refine x_if_eq (t := 30) 16 dX19_shift_14 rfl rfl (b_ite h (fun hc h => ?_) (fun hc h => ?_))
  · refine x_iconst 0 (z := 0) dX19_shift_30 rfl (by decide) rfl ?_
    exact x_fg (fgk (fgk (fgk (fg0)))) h
  · refine x_iload_n 2 dX19_shift_17 rfl rfl rfl ?_
    refine x_iconst 1 (z := 1) dX19_shift_18 rfl (by decide) rfl ?_
    refine x_ishr dX19_shift_19 rfl ?_
    refine x_sipush 256 (z := 256) dX19_shift_20 rfl (by decide) rfl ?_
    refine x_icmp_gt (t := 30) 7 dX19_shift_23 rfl rfl (b_ite h (fun hc h => ?_) (fun hc h => ?_))
    · refine x_iconst 0 (z := 0) dX19_shift_30 rfl (by decide) rfl ?_
      exact x_fg (fgk (fgk (fgk (fg0)))) h
    · refine x_iconst 1 (z := 1) dX19_shift_26 rfl (by decide) rfl ?_
      refine x_goto 4 (q := 31) dX19_shift_27 rfl ?_
      exact x_fg (fgk (fgk (fgk (fg0)))) h
theorem sX19_shift_31 {d n : Nat} {w : bW} {Q : Int → bW → Prop} {X : String → bW → Prop} (hn : 143 ≤ n) (a1 : Int) (a2 : Int) (s0 : Int) (h : b_K d mX2_want [(2, 2), (0, s0), (0, 3)] n w (fun r1 w2 => b_K d mX19_at [(2, 83), (0, 0)] n w2 (fun r3 w4 => b_K d mX8_load [(2, 27), (0, r3), (2, 89)] n w4 (fun r5 w6 => if a1 ≠ 77 then (b_K d mX20_down [(2, 84), (2, 89), (0, b_shr a2 1), (2, 93)] n (b_up w6 83 17 (b_i ((w6 83 17) - 2))) (fun r7 w8 => b_K d mX8_ofWhole [(2, 27), (2, 93)] n w8 (fun r9 w10 => b_K d mX19_push [(2, 83), (0, r9)] n w10 (fun r11 w12 => Q 0 w12) X) X) X) else (b_K d mX20_up [(2, 84), (2, 89), (0, b_shr a2 1), (2, 93)] n (b_up w6 83 17 (b_i ((w6 83 17) - 2))) (fun r13 w14 => b_K d mX8_ofWhole [(2, 27), (2, 93)] n w14 (fun r15 w16 => b_K d mX19_push [(2, 83), (0, r15)] n w16 (fun r17 w18 => Q 0 w18) X) X) X)) X) X) X) : LX19_shift_31 d n Q X a1 a2 s0 w := by
  have i2 := iz2 (Nat.le_trans (Nat.le_of_ble_eq_true rfl) hn)
  have i27 := iz27 (Nat.le_trans (Nat.le_of_ble_eq_true rfl) hn)
  have i83 := iz83 (Nat.le_trans (Nat.le_of_ble_eq_true rfl) hn)
  have i84 := iz84 (Nat.le_trans (Nat.le_of_ble_eq_true rfl) hn)
  refine x_iconst 3 (z := 3) dX19_shift_31 rfl (by decide) rfl ?_
  refine y_Vv 351 (M := mX2_want) (As := [(0, s0), (0, 3)]) (st := []) dX19_shift_32 i2 rfl q2752 q1954 q1955 q359 q1956 rfl hmX2_want rfl rfl rfl rfl rfl rfl rfl (k_mono h (fun r1 w2 h => ?_))
  refine x_aload_n 0 dX19_shift_35 rfl rfl rfl rfl rfl ?_
  refine y_getF 54 0 (c := 18) (z := 27) dX19_shift_36 i83 rfl in_X19 q1292 rfl rfl rfl fn_83_0 (Nat.le_trans (Nat.le_of_ble_eq_true rfl) hn) rfl ?_
  refine x_aload_n 0 dX19_shift_39 rfl rfl rfl rfl rfl ?_
  refine x_iconst 0 (z := 0) dX19_shift_40 rfl (by decide) rfl ?_
  refine y_Vi 102 (M := mX19_at) (As := [(0, 0)]) (st := [(2, 27)]) dX19_shift_41 i83 rfl q2651 q2653 qs125 q386 q2654 rfl hmX19_at rfl rfl rfl rfl rfl rfl rfl rfl (k_mono h (fun r3 w4 h => ?_))
  refine x_aload_n 0 dX19_shift_44 rfl rfl rfl rfl rfl ?_
  refine y_getF 23 12 (c := 18) (z := 89) dX19_shift_45 i83 rfl in_X19 q1304 rfl rfl rfl fn_83_12 (Nat.le_trans (Nat.le_of_ble_eq_true rfl) hn) rfl ?_
  refine y_Vv 300 (M := mX8_load) (As := [(0, r3), (2, 89)]) (st := []) dX19_shift_48 i27 rfl q2722 q2104 q2105 q375 q2106 rfl hmX8_load rfl rfl rfl rfl rfl rfl rfl (k_mono h (fun r5 w6 h => ?_))
  refine x_aload_n 0 dX19_shift_51 rfl rfl rfl rfl rfl ?_
  refine x_dup dX19_shift_52 rfl rfl ?_
  refine y_get 98 17 (c := 18) (z := w6 83 17) dX19_shift_53 i83 rfl in_X19 q1309 rfl rfl rfl rfl rfl ?_
  refine x_iconst 2 (z := 2) dX19_shift_56 rfl (by decide) rfl ?_
  refine x_isub dX19_shift_57 rfl ?_
  refine x_put 98 17 (c := 18) dX19_shift_58 i83 rfl in_X19 tyX19_ok nmX19 q1309 rfl rfl rfl (Or.inl rfl) (Or.inl ⟨rfl, rfl⟩) rfl ?_
  refine x_iload_n 1 dX19_shift_61 rfl rfl rfl ?_
  refine x_bipush 77 (z := 77) dX19_shift_62 rfl (by decide) rfl ?_
  refine x_icmp_ne (t := 88) 24 dX19_shift_64 rfl rfl (b_ite h (fun hc h => ?_) (fun hc h => ?_))
  · refine x_aload_n 0 dX19_shift_88 rfl rfl rfl rfl rfl ?_
    refine y_getF 12 11 (c := 18) (z := 84) dX19_shift_89 i83 rfl in_X19 q1303 rfl rfl rfl fn_83_11 (Nat.le_trans (Nat.le_of_ble_eq_true rfl) hn) rfl ?_
    refine x_aload_n 0 dX19_shift_92 rfl rfl rfl rfl rfl ?_
    refine y_getF 23 12 (c := 18) (z := 89) dX19_shift_93 i83 rfl in_X19 q1304 rfl rfl rfl fn_83_12 (Nat.le_trans (Nat.le_of_ble_eq_true rfl) hn) rfl ?_
    refine x_iload_n 2 dX19_shift_96 rfl rfl rfl ?_
    refine x_iconst 1 (z := 1) dX19_shift_97 rfl (by decide) rfl ?_
    refine x_ishr dX19_shift_98 rfl ?_
    refine x_aload_n 0 dX19_shift_99 rfl rfl rfl rfl rfl ?_
    refine y_getF 30 14 (c := 18) (z := 93) dX19_shift_100 i83 rfl in_X19 q1306 rfl rfl rfl fn_83_14 (Nat.le_trans (Nat.le_of_ble_eq_true rfl) hn) rfl ?_
    refine y_Vv 362 (M := mX20_down) (As := [(2, 89), (0, b_shr a2 1), (2, 93)]) (st := []) dX19_shift_103 i84 rfl q2757 q2758 q2759 q387 q2760 rfl hmX20_down rfl rfl rfl rfl rfl rfl rfl (k_mono h (fun r7 w8 h => ?_))
    refine x_aload_n 0 dX19_shift_106 rfl rfl rfl rfl rfl ?_
    refine x_aload_n 0 dX19_shift_107 rfl rfl rfl rfl rfl ?_
    refine y_getF 54 0 (c := 18) (z := 27) dX19_shift_108 i83 rfl in_X19 q1292 rfl rfl rfl fn_83_0 (Nat.le_trans (Nat.le_of_ble_eq_true rfl) hn) rfl ?_
    refine x_aload_n 0 dX19_shift_111 rfl rfl rfl rfl rfl ?_
    refine y_getF 30 14 (c := 18) (z := 93) dX19_shift_112 i83 rfl in_X19 q1306 rfl rfl rfl fn_83_14 (Nat.le_trans (Nat.le_of_ble_eq_true rfl) hn) rfl ?_
    refine y_Vi 312 (M := mX8_ofWhole) (As := [(2, 93)]) (st := [(2, 83)]) dX19_shift_115 i27 rfl q2724 q1949 q1950 q375 q1951 rfl hmX8_ofWhole rfl rfl rfl rfl rfl rfl rfl rfl (k_mono h (fun r9 w10 h => ?_))
    refine y_Vv 122 (M := mX19_push) (As := [(0, r9)]) (st := []) dX19_shift_118 i83 rfl q2567 q2569 qs108 q386 q2570 rfl hmX19_push rfl rfl rfl rfl rfl rfl rfl (k_mono h (fun r11 w12 h => ?_))
    exact y_vret dX19_shift_121 rfl h
  · refine x_aload_n 0 dX19_shift_67 rfl rfl rfl rfl rfl ?_
    refine y_getF 12 11 (c := 18) (z := 84) dX19_shift_68 i83 rfl in_X19 q1303 rfl rfl rfl fn_83_11 (Nat.le_trans (Nat.le_of_ble_eq_true rfl) hn) rfl ?_
    refine x_aload_n 0 dX19_shift_71 rfl rfl rfl rfl rfl ?_
    refine y_getF 23 12 (c := 18) (z := 89) dX19_shift_72 i83 rfl in_X19 q1304 rfl rfl rfl fn_83_12 (Nat.le_trans (Nat.le_of_ble_eq_true rfl) hn) rfl ?_
    refine x_iload_n 2 dX19_shift_75 rfl rfl rfl ?_
    refine x_iconst 1 (z := 1) dX19_shift_76 rfl (by decide) rfl ?_
    refine x_ishr dX19_shift_77 rfl ?_
    refine x_aload_n 0 dX19_shift_78 rfl rfl rfl rfl rfl ?_
    refine y_getF 30 14 (c := 18) (z := 93) dX19_shift_79 i83 rfl in_X19 q1306 rfl rfl rfl fn_83_14 (Nat.le_trans (Nat.le_of_ble_eq_true rfl) hn) rfl ?_
    refine y_Vv 358 (M := mX20_up) (As := [(2, 89), (0, b_shr a2 1), (2, 93)]) (st := []) dX19_shift_82 i84 rfl q2753 q2754 q2755 q387 q2756 rfl hmX20_up rfl rfl rfl rfl rfl rfl rfl (k_mono h (fun r13 w14 h => ?_))
    refine x_goto 21 (q := 106) dX19_shift_85 rfl ?_
    refine x_aload_n 0 dX19_shift_106 rfl rfl rfl rfl rfl ?_
    refine x_aload_n 0 dX19_shift_107 rfl rfl rfl rfl rfl ?_
    refine y_getF 54 0 (c := 18) (z := 27) dX19_shift_108 i83 rfl in_X19 q1292 rfl rfl rfl fn_83_0 (Nat.le_trans (Nat.le_of_ble_eq_true rfl) hn) rfl ?_
    refine x_aload_n 0 dX19_shift_111 rfl rfl rfl rfl rfl ?_
    refine y_getF 30 14 (c := 18) (z := 93) dX19_shift_112 i83 rfl in_X19 q1306 rfl rfl rfl fn_83_14 (Nat.le_trans (Nat.le_of_ble_eq_true rfl) hn) rfl ?_
    refine y_Vi 312 (M := mX8_ofWhole) (As := [(2, 93)]) (st := [(2, 83)]) dX19_shift_115 i27 rfl q2724 q1949 q1950 q375 q1951 rfl hmX8_ofWhole rfl rfl rfl rfl rfl rfl rfl rfl (k_mono h (fun r15 w16 h => ?_))
    refine y_Vv 122 (M := mX19_push) (As := [(0, r15)]) (st := []) dX19_shift_118 i83 rfl q2567 q2569 qs108 q386 q2570 rfl hmX19_push rfl rfl rfl rfl rfl rfl rfl (k_mono h (fun r17 w18 h => ?_))
    exact y_vret dX19_shift_121 rfl h
theorem rX19_areSmall {d n : Nat} {w : bW} {Q : Int → bW → Prop} {X : String → bW → Prop} (hn : 84 ≤ n) (h : b_K d mX19_at [(2, 83), (0, 0)] n w (fun r1 w2 => b_K d mX8_isSmall [(0, r1)] n w2 (fun r3 w4 => if r3 = 0 then (Q 0 w4) else (b_K d mX19_at [(2, 83), (0, 1)] n w4 (fun r5 w6 => b_K d mX8_isSmall [(0, r5)] n w6 (fun r7 w8 => if r7 = 0 then (Q 0 w8) else (Q 1 w8)) X) X)) X) X) : b_K (d + 1) mX19_areSmall [(2, 83)] n w Q X := by
  have i83 := iz83 (Nat.le_trans (Nat.le_of_ble_eq_true rfl) hn)
  refine k_of (by decide) rfl rfl rfl (ls := [(2, 83)]) rfl ?_
  refine x_aload_n 0 dX19_areSmall_0 rfl rfl rfl rfl rfl ?_
  refine x_iconst 0 (z := 0) dX19_areSmall_1 rfl (by decide) rfl ?_
  refine y_Vi 102 (M := mX19_at) (As := [(0, 0)]) (st := []) dX19_areSmall_2 i83 rfl q2651 q2653 qs125 q386 q2654 rfl hmX19_at rfl rfl rfl rfl rfl rfl rfl rfl (k_mono h (fun r1 w2 h => ?_))
  refine y_Si 265 (M := mX8_isSmall) (As := [(0, r1)]) (st := []) dX19_areSmall_5 q2751 q2032 q375 q2033 hmX8_isSmall rfl rfl rfl rfl rfl rfl rfl rfl (k_mono h (fun r3 w4 h => ?_))
  refine x_if_eq (t := 26) 18 dX19_areSmall_8 rfl rfl (b_ite h (fun hc h => ?_) (fun hc h => ?_))
  · refine x_iconst 0 (z := 0) dX19_areSmall_26 rfl (by decide) rfl ?_
    exact y_zret dX19_areSmall_27 rfl (by decide) h
  · refine x_aload_n 0 dX19_areSmall_11 rfl rfl rfl rfl rfl ?_
    refine x_iconst 1 (z := 1) dX19_areSmall_12 rfl (by decide) rfl ?_
    refine y_Vi 102 (M := mX19_at) (As := [(0, 1)]) (st := []) dX19_areSmall_13 i83 rfl q2651 q2653 qs125 q386 q2654 rfl hmX19_at rfl rfl rfl rfl rfl rfl rfl rfl (k_mono h (fun r5 w6 h => ?_))
    refine y_Si 265 (M := mX8_isSmall) (As := [(0, r5)]) (st := []) dX19_areSmall_16 q2751 q2032 q375 q2033 hmX8_isSmall rfl rfl rfl rfl rfl rfl rfl rfl (k_mono h (fun r7 w8 h => ?_))
    refine x_if_eq (t := 26) 7 dX19_areSmall_19 rfl rfl (b_ite h (fun hc h => ?_) (fun hc h => ?_))
    · refine x_iconst 0 (z := 0) dX19_areSmall_26 rfl (by decide) rfl ?_
      exact y_zret dX19_areSmall_27 rfl (by decide) h
    · refine x_iconst 1 (z := 1) dX19_areSmall_22 rfl (by decide) rfl ?_
      refine x_goto 4 (q := 27) dX19_areSmall_23 rfl ?_
      exact y_zret dX19_areSmall_27 rfl (by decide) h
theorem rX19_pushNumber {d n : Nat} {w : bW} {Q : Int → bW → Prop} {X : String → bW → Prop} (hn : 143 ≤ n) (a1 : Int) (h : if a1 = 0 then (b_K d mX2_want [(2, 2), (0, 1), (0, 2)] n w (fun r1 w2 => b_K d mX8_ofWhole [(2, 27), (2, 93)] n w2 (fun r3 w4 => b_K d mX19_push [(2, 83), (0, r3)] n w4 (fun r5 w6 => Q 0 w6) X) X) X) else (b_K d mX6_bits [(2, 93)] n w (fun r7 w8 => if 63 < r7 then (b_K d mX2_want [(2, 2), (0, 0), (0, 2)] n w8 (fun r9 w10 => b_K d mX8_ofWhole [(2, 27), (2, 93)] n w10 (fun r11 w12 => b_K d mX19_push [(2, 83), (0, r11)] n w12 (fun r13 w14 => Q 0 w14) X) X) X) else (b_K d mX2_want [(2, 2), (0, 1), (0, 2)] n w8 (fun r15 w16 => b_K d mX8_ofWhole [(2, 27), (2, 93)] n w16 (fun r17 w18 => b_K d mX19_push [(2, 83), (0, r17)] n w18 (fun r19 w20 => Q 0 w20) X) X) X)) X)) : b_K (d + 1) mX19_pushNumber [(2, 83), (0, a1)] n w Q X := by
  have i2 := iz2 (Nat.le_trans (Nat.le_of_ble_eq_true rfl) hn)
  have i27 := iz27 (Nat.le_trans (Nat.le_of_ble_eq_true rfl) hn)
  have i83 := iz83 (Nat.le_trans (Nat.le_of_ble_eq_true rfl) hn)
  have i93 := iz93 (Nat.le_trans (Nat.le_of_ble_eq_true rfl) hn)
  refine k_of (by decide) rfl rfl rfl (ls := [(2, 83), (0, a1)]) rfl ?_
  refine x_aload_n 0 dX19_pushNumber_0 rfl rfl rfl rfl rfl ?_
  refine y_getF 90 9 (c := 18) (z := 2) dX19_pushNumber_1 i83 rfl in_X19 q1301 rfl rfl rfl fn_83_9 (Nat.le_trans (Nat.le_of_ble_eq_true rfl) hn) rfl ?_
  refine x_iload_n 1 dX19_pushNumber_4 rfl rfl rfl ?_
  refine x_if_eq (t := 20) 15 dX19_pushNumber_5 rfl rfl (b_ite h (fun hc h => ?_) (fun hc h => ?_))
  · refine x_iconst 1 (z := 1) dX19_pushNumber_20 rfl (by decide) rfl ?_
    refine x_goto 4 (q := 25) dX19_pushNumber_21 rfl ?_
    refine x_iconst 2 (z := 2) dX19_pushNumber_25 rfl (by decide) rfl ?_
    refine y_Vv 351 (M := mX2_want) (As := [(0, 1), (0, 2)]) (st := []) dX19_pushNumber_26 i2 rfl q2752 q1954 q1955 q359 q1956 rfl hmX2_want rfl rfl rfl rfl rfl rfl rfl (k_mono h (fun r1 w2 h => ?_))
    refine x_aload_n 0 dX19_pushNumber_29 rfl rfl rfl rfl rfl ?_
    refine x_aload_n 0 dX19_pushNumber_30 rfl rfl rfl rfl rfl ?_
    refine y_getF 54 0 (c := 18) (z := 27) dX19_pushNumber_31 i83 rfl in_X19 q1292 rfl rfl rfl fn_83_0 (Nat.le_trans (Nat.le_of_ble_eq_true rfl) hn) rfl ?_
    refine x_aload_n 0 dX19_pushNumber_34 rfl rfl rfl rfl rfl ?_
    refine y_getF 30 14 (c := 18) (z := 93) dX19_pushNumber_35 i83 rfl in_X19 q1306 rfl rfl rfl fn_83_14 (Nat.le_trans (Nat.le_of_ble_eq_true rfl) hn) rfl ?_
    refine y_Vi 312 (M := mX8_ofWhole) (As := [(2, 93)]) (st := [(2, 83)]) dX19_pushNumber_38 i27 rfl q2724 q1949 q1950 q375 q1951 rfl hmX8_ofWhole rfl rfl rfl rfl rfl rfl rfl rfl (k_mono h (fun r3 w4 h => ?_))
    refine y_Vv 122 (M := mX19_push) (As := [(0, r3)]) (st := []) dX19_pushNumber_41 i83 rfl q2567 q2569 qs108 q386 q2570 rfl hmX19_push rfl rfl rfl rfl rfl rfl rfl (k_mono h (fun r5 w6 h => ?_))
    exact y_vret dX19_pushNumber_44 rfl h
  · refine x_aload_n 0 dX19_pushNumber_8 rfl rfl rfl rfl rfl ?_
    refine y_getF 30 14 (c := 18) (z := 93) dX19_pushNumber_9 i83 rfl in_X19 q1306 rfl rfl rfl fn_83_14 (Nat.le_trans (Nat.le_of_ble_eq_true rfl) hn) rfl ?_
    refine y_Vi 348 (M := mX6_bits) (As := []) (st := [(2, 2)]) dX19_pushNumber_12 i93 rfl q2776 q1752 q1753 q373 q1754 rfl hmX6_bits rfl rfl rfl rfl rfl rfl rfl rfl (k_mono h (fun r7 w8 h => ?_))
    refine x_bipush 63 (z := 63) dX19_pushNumber_15 rfl (by decide) rfl ?_
    refine x_icmp_gt (t := 24) 7 dX19_pushNumber_17 rfl rfl (b_ite h (fun hc h => ?_) (fun hc h => ?_))
    · refine x_iconst 0 (z := 0) dX19_pushNumber_24 rfl (by decide) rfl ?_
      refine x_iconst 2 (z := 2) dX19_pushNumber_25 rfl (by decide) rfl ?_
      refine y_Vv 351 (M := mX2_want) (As := [(0, 0), (0, 2)]) (st := []) dX19_pushNumber_26 i2 rfl q2752 q1954 q1955 q359 q1956 rfl hmX2_want rfl rfl rfl rfl rfl rfl rfl (k_mono h (fun r9 w10 h => ?_))
      refine x_aload_n 0 dX19_pushNumber_29 rfl rfl rfl rfl rfl ?_
      refine x_aload_n 0 dX19_pushNumber_30 rfl rfl rfl rfl rfl ?_
      refine y_getF 54 0 (c := 18) (z := 27) dX19_pushNumber_31 i83 rfl in_X19 q1292 rfl rfl rfl fn_83_0 (Nat.le_trans (Nat.le_of_ble_eq_true rfl) hn) rfl ?_
      refine x_aload_n 0 dX19_pushNumber_34 rfl rfl rfl rfl rfl ?_
      refine y_getF 30 14 (c := 18) (z := 93) dX19_pushNumber_35 i83 rfl in_X19 q1306 rfl rfl rfl fn_83_14 (Nat.le_trans (Nat.le_of_ble_eq_true rfl) hn) rfl ?_
      refine y_Vi 312 (M := mX8_ofWhole) (As := [(2, 93)]) (st := [(2, 83)]) dX19_pushNumber_38 i27 rfl q2724 q1949 q1950 q375 q1951 rfl hmX8_ofWhole rfl rfl rfl rfl rfl rfl rfl rfl (k_mono h (fun r11 w12 h => ?_))
      refine y_Vv 122 (M := mX19_push) (As := [(0, r11)]) (st := []) dX19_pushNumber_41 i83 rfl q2567 q2569 qs108 q386 q2570 rfl hmX19_push rfl rfl rfl rfl rfl rfl rfl (k_mono h (fun r13 w14 h => ?_))
      exact y_vret dX19_pushNumber_44 rfl h
    · refine x_iconst 1 (z := 1) dX19_pushNumber_20 rfl (by decide) rfl ?_
      refine x_goto 4 (q := 25) dX19_pushNumber_21 rfl ?_
      refine x_iconst 2 (z := 2) dX19_pushNumber_25 rfl (by decide) rfl ?_
      refine y_Vv 351 (M := mX2_want) (As := [(0, 1), (0, 2)]) (st := []) dX19_pushNumber_26 i2 rfl q2752 q1954 q1955 q359 q1956 rfl hmX2_want rfl rfl rfl rfl rfl rfl rfl (k_mono h (fun r15 w16 h => ?_))
      refine x_aload_n 0 dX19_pushNumber_29 rfl rfl rfl rfl rfl ?_
      refine x_aload_n 0 dX19_pushNumber_30 rfl rfl rfl rfl rfl ?_
      refine y_getF 54 0 (c := 18) (z := 27) dX19_pushNumber_31 i83 rfl in_X19 q1292 rfl rfl rfl fn_83_0 (Nat.le_trans (Nat.le_of_ble_eq_true rfl) hn) rfl ?_
      refine x_aload_n 0 dX19_pushNumber_34 rfl rfl rfl rfl rfl ?_
      refine y_getF 30 14 (c := 18) (z := 93) dX19_pushNumber_35 i83 rfl in_X19 q1306 rfl rfl rfl fn_83_14 (Nat.le_trans (Nat.le_of_ble_eq_true rfl) hn) rfl ?_
      refine y_Vi 312 (M := mX8_ofWhole) (As := [(2, 93)]) (st := [(2, 83)]) dX19_pushNumber_38 i27 rfl q2724 q1949 q1950 q375 q1951 rfl hmX8_ofWhole rfl rfl rfl rfl rfl rfl rfl rfl (k_mono h (fun r17 w18 h => ?_))
      refine y_Vv 122 (M := mX19_push) (As := [(0, r17)]) (st := []) dX19_pushNumber_41 i83 rfl q2567 q2569 qs108 q386 q2570 rfl hmX19_push rfl rfl rfl rfl rfl rfl rfl (k_mono h (fun r19 w20 h => ?_))
      exact y_vret dX19_pushNumber_44 rfl h
theorem rX19_divide {d n : Nat} {w : bW} {Q : Int → bW → Prop} {X : String → bW → Prop} (hn : 143 ≤ n) (h : b_K d mX6_isZero [(2, 91)] n w (fun r1 w2 => if r1 = 0 then (b_K d mX20_divide [(2, 84), (2, 89), (2, 91), (0, 1), (2, 93), (2, 95)] n (b_up w2 91 2 0) (fun r3 w4 => if w4 93 2 = w2 91 2 then (b_K d mX8_ofWhole [(2, 27), (2, 93)] n (b_up w4 93 2 0) (fun r5 w6 => b_K d mX8_ofWhole [(2, 27), (2, 95)] n w6 (fun r7 w8 => b_K d mX8_pair [(2, 27), (0, r5), (0, r7)] n w8 (fun r9 w10 => b_K d mX8_wrap [(2, 27), (0, 4), (0, r9)] n w10 (fun r11 w12 => b_K d mX19_push [(2, 83), (0, r11)] n w12 (fun r13 w14 => Q 0 w14) X) X) X) X) X) else (b_K d mX6_isZero [(2, 93)] n w4 (fun r15 w16 => if r15 ≠ 0 then (b_K d mX8_ofWhole [(2, 27), (2, 93)] n (b_up w16 93 2 0) (fun r17 w18 => b_K d mX8_ofWhole [(2, 27), (2, 95)] n w18 (fun r19 w20 => b_K d mX8_pair [(2, 27), (0, r17), (0, r19)] n w20 (fun r21 w22 => b_K d mX8_wrap [(2, 27), (0, 4), (0, r21)] n w22 (fun r23 w24 => b_K d mX19_push [(2, 83), (0, r23)] n w24 (fun r25 w26 => Q 0 w26) X) X) X) X) X) else (b_K d mX8_ofWhole [(2, 27), (2, 93)] n (b_up w16 93 2 1) (fun r27 w28 => b_K d mX8_ofWhole [(2, 27), (2, 95)] n w28 (fun r29 w30 => b_K d mX8_pair [(2, 27), (0, r27), (0, r29)] n w30 (fun r31 w32 => b_K d mX8_wrap [(2, 27), (0, 4), (0, r31)] n w32 (fun r33 w34 => b_K d mX19_push [(2, 83), (0, r33)] n w34 (fun r35 w36 => Q 0 w36) X) X) X) X) X)) X)) X) else (b_K d mX19_push [(2, 83), (0, 8)] n w2 (fun r37 w38 => Q 0 w38) X)) X) : b_K (d + 1) mX19_divide [(2, 83)] n w Q X := by
  have i27 := iz27 (Nat.le_trans (Nat.le_of_ble_eq_true rfl) hn)
  have i83 := iz83 (Nat.le_trans (Nat.le_of_ble_eq_true rfl) hn)
  have i84 := iz84 (Nat.le_trans (Nat.le_of_ble_eq_true rfl) hn)
  have i91 := iz91 (Nat.le_trans (Nat.le_of_ble_eq_true rfl) hn)
  have i93 := iz93 (Nat.le_trans (Nat.le_of_ble_eq_true rfl) hn)
  refine k_of (by decide) rfl rfl rfl (ls := [(2, 83), (9, 0), (9, 0)]) rfl ?_
  refine x_aload_n 0 dX19_divide_0 rfl rfl rfl rfl rfl ?_
  refine y_getF 27 13 (c := 18) (z := 91) dX19_divide_1 i83 rfl in_X19 q1305 rfl rfl rfl fn_83_13 (Nat.le_trans (Nat.le_of_ble_eq_true rfl) hn) rfl ?_
  refine y_Vi 308 (M := mX6_isZero) (As := []) (st := []) dX19_divide_4 i91 rfl q2723 q1764 q1765 q373 q1766 rfl hmX6_isZero rfl rfl rfl rfl rfl rfl rfl rfl (k_mono h (fun r1 w2 h => ?_))
  refine x_if_eq (t := 17) 10 dX19_divide_7 rfl rfl (b_ite h (fun hc h => ?_) (fun hc h => ?_))
  · refine x_aload_n 0 dX19_divide_17 rfl rfl rfl rfl rfl ?_
    refine y_getF 27 13 (c := 18) (z := 91) dX19_divide_18 i83 rfl in_X19 q1305 rfl rfl rfl fn_83_13 (Nat.le_trans (Nat.le_of_ble_eq_true rfl) hn) rfl ?_
    refine y_get 304 2 (c := 5) (z := w2 91 2) dX19_divide_21 i91 rfl in_X6 q642 rfl rfl rfl rfl rfl ?_
    refine x_istore_n 1 (ls' := [(2, 83), (0, w2 91 2), (9, 0)]) dX19_divide_24 rfl rfl rfl rfl ?_
    refine x_aload_n 0 dX19_divide_25 rfl rfl rfl rfl rfl ?_
    refine y_getF 27 13 (c := 18) (z := 91) dX19_divide_26 i83 rfl in_X19 q1305 rfl rfl rfl fn_83_13 (Nat.le_trans (Nat.le_of_ble_eq_true rfl) hn) rfl ?_
    refine x_iconst 0 (z := 0) dX19_divide_29 rfl (by decide) rfl ?_
    refine x_put 304 2 (c := 5) dX19_divide_30 i91 rfl in_X6 tyX6_ok nmX6 q642 rfl rfl rfl (Or.inl rfl) (Or.inr (Or.inl ⟨rfl, rfl, by decide⟩)) rfl ?_
    refine x_aload_n 0 dX19_divide_33 rfl rfl rfl rfl rfl ?_
    refine y_getF 12 11 (c := 18) (z := 84) dX19_divide_34 i83 rfl in_X19 q1303 rfl rfl rfl fn_83_11 (Nat.le_trans (Nat.le_of_ble_eq_true rfl) hn) rfl ?_
    refine x_aload_n 0 dX19_divide_37 rfl rfl rfl rfl rfl ?_
    refine y_getF 23 12 (c := 18) (z := 89) dX19_divide_38 i83 rfl in_X19 q1304 rfl rfl rfl fn_83_12 (Nat.le_trans (Nat.le_of_ble_eq_true rfl) hn) rfl ?_
    refine x_aload_n 0 dX19_divide_41 rfl rfl rfl rfl rfl ?_
    refine y_getF 27 13 (c := 18) (z := 91) dX19_divide_42 i83 rfl in_X19 q1305 rfl rfl rfl fn_83_13 (Nat.le_trans (Nat.le_of_ble_eq_true rfl) hn) rfl ?_
    refine x_iconst 1 (z := 1) dX19_divide_45 rfl (by decide) rfl ?_
    refine x_aload_n 0 dX19_divide_46 rfl rfl rfl rfl rfl ?_
    refine y_getF 30 14 (c := 18) (z := 93) dX19_divide_47 i83 rfl in_X19 q1306 rfl rfl rfl fn_83_14 (Nat.le_trans (Nat.le_of_ble_eq_true rfl) hn) rfl ?_
    refine x_aload_n 0 dX19_divide_50 rfl rfl rfl rfl rfl ?_
    refine y_getF 33 15 (c := 18) (z := 95) dX19_divide_51 i83 rfl in_X19 q1307 rfl rfl rfl fn_83_15 (Nat.le_trans (Nat.le_of_ble_eq_true rfl) hn) rfl ?_
    refine y_Vv 355 (M := mX20_divide) (As := [(2, 89), (2, 91), (0, 1), (2, 93), (2, 95)]) (st := []) dX19_divide_54 i84 rfl q2789 q2790 q2791 q387 q2792 rfl hmX20_divide rfl rfl rfl rfl rfl rfl rfl (k_mono h (fun r3 w4 h => ?_))
    refine x_aload_n 0 dX19_divide_57 rfl rfl rfl rfl rfl ?_
    refine y_getF 30 14 (c := 18) (z := 93) dX19_divide_58 i83 rfl in_X19 q1306 rfl rfl rfl fn_83_14 (Nat.le_trans (Nat.le_of_ble_eq_true rfl) hn) rfl ?_
    refine x_aload_n 0 dX19_divide_61 rfl rfl rfl rfl rfl ?_
    refine y_getF 30 14 (c := 18) (z := 93) dX19_divide_62 i83 rfl in_X19 q1306 rfl rfl rfl fn_83_14 (Nat.le_trans (Nat.le_of_ble_eq_true rfl) hn) rfl ?_
    refine y_get 304 2 (c := 5) (z := w4 93 2) dX19_divide_65 i93 rfl in_X6 q642 rfl rfl rfl rfl rfl ?_
    refine x_iload_n 1 dX19_divide_68 rfl rfl rfl ?_
    refine x_icmp_eq (t := 86) 17 dX19_divide_69 rfl rfl (b_ite h (fun hc h => ?_) (fun hc h => ?_))
    · refine x_iconst 0 (z := 0) dX19_divide_86 rfl (by decide) rfl ?_
      refine x_put 304 2 (c := 5) dX19_divide_87 i93 rfl in_X6 tyX6_ok nmX6 q642 rfl rfl rfl (Or.inl rfl) (Or.inr (Or.inl ⟨rfl, rfl, by decide⟩)) rfl ?_
      refine x_aload_n 0 dX19_divide_90 rfl rfl rfl rfl rfl ?_
      refine y_getF 54 0 (c := 18) (z := 27) dX19_divide_91 i83 rfl in_X19 q1292 rfl rfl rfl fn_83_0 (Nat.le_trans (Nat.le_of_ble_eq_true rfl) hn) rfl ?_
      refine x_aload_n 0 dX19_divide_94 rfl rfl rfl rfl rfl ?_
      refine y_getF 30 14 (c := 18) (z := 93) dX19_divide_95 i83 rfl in_X19 q1306 rfl rfl rfl fn_83_14 (Nat.le_trans (Nat.le_of_ble_eq_true rfl) hn) rfl ?_
      refine y_Vi 312 (M := mX8_ofWhole) (As := [(2, 93)]) (st := []) dX19_divide_98 i27 rfl q2724 q1949 q1950 q375 q1951 rfl hmX8_ofWhole rfl rfl rfl rfl rfl rfl rfl rfl (k_mono h (fun r5 w6 h => ?_))
      refine x_istore_n 2 (ls' := [(2, 83), (0, w2 91 2), (0, r5)]) dX19_divide_101 rfl rfl rfl rfl ?_
      refine x_aload_n 0 dX19_divide_102 rfl rfl rfl rfl rfl ?_
      refine x_aload_n 0 dX19_divide_103 rfl rfl rfl rfl rfl ?_
      refine y_getF 54 0 (c := 18) (z := 27) dX19_divide_104 i83 rfl in_X19 q1292 rfl rfl rfl fn_83_0 (Nat.le_trans (Nat.le_of_ble_eq_true rfl) hn) rfl ?_
      refine x_iconst 4 (z := 4) dX19_divide_107 rfl (by decide) rfl ?_
      refine x_aload_n 0 dX19_divide_108 rfl rfl rfl rfl rfl ?_
      refine y_getF 54 0 (c := 18) (z := 27) dX19_divide_109 i83 rfl in_X19 q1292 rfl rfl rfl fn_83_0 (Nat.le_trans (Nat.le_of_ble_eq_true rfl) hn) rfl ?_
      refine x_iload_n 2 dX19_divide_112 rfl rfl rfl ?_
      refine x_aload_n 0 dX19_divide_113 rfl rfl rfl rfl rfl ?_
      refine y_getF 54 0 (c := 18) (z := 27) dX19_divide_114 i83 rfl in_X19 q1292 rfl rfl rfl fn_83_0 (Nat.le_trans (Nat.le_of_ble_eq_true rfl) hn) rfl ?_
      refine x_aload_n 0 dX19_divide_117 rfl rfl rfl rfl rfl ?_
      refine y_getF 33 15 (c := 18) (z := 95) dX19_divide_118 i83 rfl in_X19 q1307 rfl rfl rfl fn_83_15 (Nat.le_trans (Nat.le_of_ble_eq_true rfl) hn) rfl ?_
      refine y_Vi 312 (M := mX8_ofWhole) (As := [(2, 95)]) (st := [(0, r5), (2, 27), (0, 4), (2, 27), (2, 83)]) dX19_divide_121 i27 rfl q2724 q1949 q1950 q375 q1951 rfl hmX8_ofWhole rfl rfl rfl rfl rfl rfl rfl rfl (k_mono h (fun r7 w8 h => ?_))
      refine y_Vi 203 (M := mX8_pair) (As := [(0, r5), (0, r7)]) (st := [(0, 4), (2, 27), (2, 83)]) dX19_divide_124 i27 rfl q2626 q2054 q2055 q375 q2056 rfl hmX8_pair rfl rfl rfl rfl rfl rfl rfl rfl (k_mono h (fun r9 w10 h => ?_))
      refine y_Vi 156 (M := mX8_wrap) (As := [(0, 4), (0, r9)]) (st := [(2, 83)]) dX19_divide_127 i27 rfl q2641 q2024 q2025 q375 q2026 rfl hmX8_wrap rfl rfl rfl rfl rfl rfl rfl rfl (k_mono h (fun r11 w12 h => ?_))
      refine y_Vv 122 (M := mX19_push) (As := [(0, r11)]) (st := []) dX19_divide_130 i83 rfl q2567 q2569 qs108 q386 q2570 rfl hmX19_push rfl rfl rfl rfl rfl rfl rfl (k_mono h (fun r13 w14 h => ?_))
      exact y_vret dX19_divide_133 rfl h
    · refine x_aload_n 0 dX19_divide_72 rfl rfl rfl rfl rfl ?_
      refine y_getF 30 14 (c := 18) (z := 93) dX19_divide_73 i83 rfl in_X19 q1306 rfl rfl rfl fn_83_14 (Nat.le_trans (Nat.le_of_ble_eq_true rfl) hn) rfl ?_
      refine y_Vi 308 (M := mX6_isZero) (As := []) (st := [(2, 93)]) dX19_divide_76 i93 rfl q2723 q1764 q1765 q373 q1766 rfl hmX6_isZero rfl rfl rfl rfl rfl rfl rfl rfl (k_mono h (fun r15 w16 h => ?_))
      refine x_if_ne (t := 86) 7 dX19_divide_79 rfl rfl (b_ite h (fun hc h => ?_) (fun hc h => ?_))
      · refine x_iconst 0 (z := 0) dX19_divide_86 rfl (by decide) rfl ?_
        refine x_put 304 2 (c := 5) dX19_divide_87 i93 rfl in_X6 tyX6_ok nmX6 q642 rfl rfl rfl (Or.inl rfl) (Or.inr (Or.inl ⟨rfl, rfl, by decide⟩)) rfl ?_
        refine x_aload_n 0 dX19_divide_90 rfl rfl rfl rfl rfl ?_
        refine y_getF 54 0 (c := 18) (z := 27) dX19_divide_91 i83 rfl in_X19 q1292 rfl rfl rfl fn_83_0 (Nat.le_trans (Nat.le_of_ble_eq_true rfl) hn) rfl ?_
        refine x_aload_n 0 dX19_divide_94 rfl rfl rfl rfl rfl ?_
        refine y_getF 30 14 (c := 18) (z := 93) dX19_divide_95 i83 rfl in_X19 q1306 rfl rfl rfl fn_83_14 (Nat.le_trans (Nat.le_of_ble_eq_true rfl) hn) rfl ?_
        refine y_Vi 312 (M := mX8_ofWhole) (As := [(2, 93)]) (st := []) dX19_divide_98 i27 rfl q2724 q1949 q1950 q375 q1951 rfl hmX8_ofWhole rfl rfl rfl rfl rfl rfl rfl rfl (k_mono h (fun r17 w18 h => ?_))
        refine x_istore_n 2 (ls' := [(2, 83), (0, w2 91 2), (0, r17)]) dX19_divide_101 rfl rfl rfl rfl ?_
        refine x_aload_n 0 dX19_divide_102 rfl rfl rfl rfl rfl ?_
        refine x_aload_n 0 dX19_divide_103 rfl rfl rfl rfl rfl ?_
        refine y_getF 54 0 (c := 18) (z := 27) dX19_divide_104 i83 rfl in_X19 q1292 rfl rfl rfl fn_83_0 (Nat.le_trans (Nat.le_of_ble_eq_true rfl) hn) rfl ?_
        refine x_iconst 4 (z := 4) dX19_divide_107 rfl (by decide) rfl ?_
        refine x_aload_n 0 dX19_divide_108 rfl rfl rfl rfl rfl ?_
        refine y_getF 54 0 (c := 18) (z := 27) dX19_divide_109 i83 rfl in_X19 q1292 rfl rfl rfl fn_83_0 (Nat.le_trans (Nat.le_of_ble_eq_true rfl) hn) rfl ?_
        refine x_iload_n 2 dX19_divide_112 rfl rfl rfl ?_
        refine x_aload_n 0 dX19_divide_113 rfl rfl rfl rfl rfl ?_
        refine y_getF 54 0 (c := 18) (z := 27) dX19_divide_114 i83 rfl in_X19 q1292 rfl rfl rfl fn_83_0 (Nat.le_trans (Nat.le_of_ble_eq_true rfl) hn) rfl ?_
        refine x_aload_n 0 dX19_divide_117 rfl rfl rfl rfl rfl ?_
        refine y_getF 33 15 (c := 18) (z := 95) dX19_divide_118 i83 rfl in_X19 q1307 rfl rfl rfl fn_83_15 (Nat.le_trans (Nat.le_of_ble_eq_true rfl) hn) rfl ?_
        refine y_Vi 312 (M := mX8_ofWhole) (As := [(2, 95)]) (st := [(0, r17), (2, 27), (0, 4), (2, 27), (2, 83)]) dX19_divide_121 i27 rfl q2724 q1949 q1950 q375 q1951 rfl hmX8_ofWhole rfl rfl rfl rfl rfl rfl rfl rfl (k_mono h (fun r19 w20 h => ?_))
        refine y_Vi 203 (M := mX8_pair) (As := [(0, r17), (0, r19)]) (st := [(0, 4), (2, 27), (2, 83)]) dX19_divide_124 i27 rfl q2626 q2054 q2055 q375 q2056 rfl hmX8_pair rfl rfl rfl rfl rfl rfl rfl rfl (k_mono h (fun r21 w22 h => ?_))
        refine y_Vi 156 (M := mX8_wrap) (As := [(0, 4), (0, r21)]) (st := [(2, 83)]) dX19_divide_127 i27 rfl q2641 q2024 q2025 q375 q2026 rfl hmX8_wrap rfl rfl rfl rfl rfl rfl rfl rfl (k_mono h (fun r23 w24 h => ?_))
        refine y_Vv 122 (M := mX19_push) (As := [(0, r23)]) (st := []) dX19_divide_130 i83 rfl q2567 q2569 qs108 q386 q2570 rfl hmX19_push rfl rfl rfl rfl rfl rfl rfl (k_mono h (fun r25 w26 h => ?_))
        exact y_vret dX19_divide_133 rfl h
      · refine x_iconst 1 (z := 1) dX19_divide_82 rfl (by decide) rfl ?_
        refine x_goto 4 (q := 87) dX19_divide_83 rfl ?_
        refine x_put 304 2 (c := 5) dX19_divide_87 i93 rfl in_X6 tyX6_ok nmX6 q642 rfl rfl rfl (Or.inl rfl) (Or.inr (Or.inl ⟨rfl, rfl, by decide⟩)) rfl ?_
        refine x_aload_n 0 dX19_divide_90 rfl rfl rfl rfl rfl ?_
        refine y_getF 54 0 (c := 18) (z := 27) dX19_divide_91 i83 rfl in_X19 q1292 rfl rfl rfl fn_83_0 (Nat.le_trans (Nat.le_of_ble_eq_true rfl) hn) rfl ?_
        refine x_aload_n 0 dX19_divide_94 rfl rfl rfl rfl rfl ?_
        refine y_getF 30 14 (c := 18) (z := 93) dX19_divide_95 i83 rfl in_X19 q1306 rfl rfl rfl fn_83_14 (Nat.le_trans (Nat.le_of_ble_eq_true rfl) hn) rfl ?_
        refine y_Vi 312 (M := mX8_ofWhole) (As := [(2, 93)]) (st := []) dX19_divide_98 i27 rfl q2724 q1949 q1950 q375 q1951 rfl hmX8_ofWhole rfl rfl rfl rfl rfl rfl rfl rfl (k_mono h (fun r27 w28 h => ?_))
        refine x_istore_n 2 (ls' := [(2, 83), (0, w2 91 2), (0, r27)]) dX19_divide_101 rfl rfl rfl rfl ?_
        refine x_aload_n 0 dX19_divide_102 rfl rfl rfl rfl rfl ?_
        refine x_aload_n 0 dX19_divide_103 rfl rfl rfl rfl rfl ?_
        refine y_getF 54 0 (c := 18) (z := 27) dX19_divide_104 i83 rfl in_X19 q1292 rfl rfl rfl fn_83_0 (Nat.le_trans (Nat.le_of_ble_eq_true rfl) hn) rfl ?_
        refine x_iconst 4 (z := 4) dX19_divide_107 rfl (by decide) rfl ?_
        refine x_aload_n 0 dX19_divide_108 rfl rfl rfl rfl rfl ?_
        refine y_getF 54 0 (c := 18) (z := 27) dX19_divide_109 i83 rfl in_X19 q1292 rfl rfl rfl fn_83_0 (Nat.le_trans (Nat.le_of_ble_eq_true rfl) hn) rfl ?_
        refine x_iload_n 2 dX19_divide_112 rfl rfl rfl ?_
        refine x_aload_n 0 dX19_divide_113 rfl rfl rfl rfl rfl ?_
        refine y_getF 54 0 (c := 18) (z := 27) dX19_divide_114 i83 rfl in_X19 q1292 rfl rfl rfl fn_83_0 (Nat.le_trans (Nat.le_of_ble_eq_true rfl) hn) rfl ?_
        refine x_aload_n 0 dX19_divide_117 rfl rfl rfl rfl rfl ?_
        refine y_getF 33 15 (c := 18) (z := 95) dX19_divide_118 i83 rfl in_X19 q1307 rfl rfl rfl fn_83_15 (Nat.le_trans (Nat.le_of_ble_eq_true rfl) hn) rfl ?_
        refine y_Vi 312 (M := mX8_ofWhole) (As := [(2, 95)]) (st := [(0, r27), (2, 27), (0, 4), (2, 27), (2, 83)]) dX19_divide_121 i27 rfl q2724 q1949 q1950 q375 q1951 rfl hmX8_ofWhole rfl rfl rfl rfl rfl rfl rfl rfl (k_mono h (fun r29 w30 h => ?_))
        refine y_Vi 203 (M := mX8_pair) (As := [(0, r27), (0, r29)]) (st := [(0, 4), (2, 27), (2, 83)]) dX19_divide_124 i27 rfl q2626 q2054 q2055 q375 q2056 rfl hmX8_pair rfl rfl rfl rfl rfl rfl rfl rfl (k_mono h (fun r31 w32 h => ?_))
        refine y_Vi 156 (M := mX8_wrap) (As := [(0, 4), (0, r31)]) (st := [(2, 83)]) dX19_divide_127 i27 rfl q2641 q2024 q2025 q375 q2026 rfl hmX8_wrap rfl rfl rfl rfl rfl rfl rfl rfl (k_mono h (fun r33 w34 h => ?_))
        refine y_Vv 122 (M := mX19_push) (As := [(0, r33)]) (st := []) dX19_divide_130 i83 rfl q2567 q2569 qs108 q386 q2570 rfl hmX19_push rfl rfl rfl rfl rfl rfl rfl (k_mono h (fun r35 w36 h => ?_))
        exact y_vret dX19_divide_133 rfl h
  · refine x_aload_n 0 dX19_divide_10 rfl rfl rfl rfl rfl ?_
    refine x_bipush 8 (z := 8) dX19_divide_11 rfl (by decide) rfl ?_
    refine y_Vv 122 (M := mX19_push) (As := [(0, 8)]) (st := []) dX19_divide_13 i83 rfl q2567 q2569 qs108 q386 q2570 rfl hmX19_push rfl rfl rfl rfl rfl rfl rfl (k_mono h (fun r37 w38 h => ?_))
    exact y_vret dX19_divide_16 rfl h
theorem rX19_collection {d n : Nat} {w : bW} {Q : Int → bW → Prop} {X : String → bW → Prop} (hn : 143 ≤ n) (a1 : Int) (a2 : Int) (h : b_K d mX19_cell [(2, 83), (0, a1), (0, 1)] n w (fun r1 w2 => if a2 = 86 then (b_K d mX18_use [(2, 82), (1, 10)] n w2 (fun r3 w4 => if r1 ≠ 0 then (b_K d mX19_concat [(2, 83), (0, 0)] n w4 (fun r5 w6 => Q 0 w6) X) else (b_K d mX19_concat [(2, 83), (0, 1)] n w4 (fun r7 w8 => Q 0 w8) X)) X) else (if a2 = 87 then (b_K d mX18_use [(2, 82), (1, 10)] n w2 (fun r9 w10 => b_K d mX19_slice [(2, 83)] n w10 (fun r11 w12 => Q 0 w12) X) X) else (if a2 = 88 then (b_K d mX18_use [(2, 82), (1, 10)] n w2 (fun r13 w14 => b_K d mX19_pop [(2, 83)] n w14 (fun r15 w16 => b_K d mX19_size [(2, 83), (0, r15), (0, r1)] n w16 (fun r17 w18 => b_K d mX8_small [(0, r17)] n w18 (fun r19 w20 => b_K d mX19_push [(2, 83), (0, r19)] n w20 (fun r21 w22 => Q 0 w22) X) X) X) X) X) else (if a2 = 93 then (b_K d mX19_length [(2, 83), (0, 0)] n w2 (fun r23 w24 => b_K d mX18_use [(2, 82), (1, b_i (10 + (b_div r23 4)))] n w24 (fun r25 w26 => b_K d mX19_pop [(2, 83)] n w26 (fun r27 w28 => b_K d mX19_pack [(2, 83), (0, r27), (0, r1)] n w28 (fun r29 w30 => b_K d mX19_push [(2, 83), (0, r29)] n w30 (fun r31 w32 => Q 0 w32) X) X) X) X) X) else (if a2 = 94 then (b_K d mX19_length [(2, 83), (0, 0)] n w2 (fun r33 w34 => b_K d mX18_use [(2, 82), (1, b_l (10 + (b_l (2 * r33))))] n w34 (fun r35 w36 => b_K d mX19_pop [(2, 83)] n w36 (fun r37 w38 => b_K d mX13_read [(2, 46), (0, r37), (0, r1)] n w38 (fun r39 w40 => if r39 ≠ 0 then (b_K d mX8_wrap [(2, 27), (0, 4), (0, r39)] n w40 (fun r41 w42 => b_K d mX19_push [(2, 83), (0, r41)] n w42 (fun r43 w44 => Q 0 w44) X) X) else (b_K d mX19_push [(2, 83), (0, 8)] n w40 (fun r45 w46 => Q 0 w46) X)) X) X) X) X) else ((b_K d mX19_cell [(2, 83), (0, a1), (0, 2)] n w2 (fun r47 w48 => if r47 ≠ 2 then (b_K d mX19_keyed [(2, 83), (0, a2), (0, r1), (0, 0)] n w48 (fun r49 w50 => Q 0 w50) X) else (b_K d mX19_keyed [(2, 83), (0, a2), (0, r1), (0, 1)] n w48 (fun r51 w52 => Q 0 w52) X)) X))))))) X) : b_K (d + 1) mX19_collection [(2, 83), (0, a1), (0, a2)] n w Q X := by
  have i27 := iz27 (Nat.le_trans (Nat.le_of_ble_eq_true rfl) hn)
  have i46 := iz46 (Nat.le_trans (Nat.le_of_ble_eq_true rfl) hn)
  have i82 := iz82 (Nat.le_trans (Nat.le_of_ble_eq_true rfl) hn)
  have i83 := iz83 (Nat.le_trans (Nat.le_of_ble_eq_true rfl) hn)
  refine k_of (by decide) rfl rfl rfl (ls := [(2, 83), (0, a1), (0, a2), (9, 0), (9, 0)]) rfl ?_
  refine x_aload_n 0 dX19_collection_0 rfl rfl rfl rfl rfl ?_
  refine x_iload_n 1 dX19_collection_1 rfl rfl rfl ?_
  refine x_iconst 1 (z := 1) dX19_collection_2 rfl (by decide) rfl ?_
  refine y_Vi 131 (M := mX19_cell) (As := [(0, a1), (0, 1)]) (st := []) dX19_collection_3 i83 rfl q2579 q2581 qs111 q386 q2582 rfl hmX19_cell rfl rfl rfl rfl rfl rfl rfl rfl (k_mono h (fun r1 w2 h => ?_))
  refine x_istore_n 3 (ls' := [(2, 83), (0, a1), (0, a2), (0, r1), (9, 0)]) dX19_collection_6 rfl rfl rfl rfl ?_
  refine x_iload_n 2 dX19_collection_7 rfl rfl rfl ?_
  refine b_itc h (fun hc h => ?_) (fun hn0 h => ?_)
  · have key : b_Y (d + 1) mX19_collection n Q X 60 [(2, 83), (0, a1), (0, a2), (0, r1), (9, 0)] [] w2 := by
      refine x_aload_n 0 dX19_collection_60 rfl rfl rfl rfl rfl ?_
      refine y_getF 94 10 (c := 18) (z := 82) dX19_collection_61 i83 rfl in_X19 q1302 rfl rfl rfl fn_83_10 (Nat.le_trans (Nat.le_of_ble_eq_true rfl) hn) rfl ?_
      refine x_ldc2 206 (x := 10) dX19_collection_64 q2606 rfl (by decide) rfl ?_
      refine y_Vv 183 (M := mX18_use) (As := [(1, 10)]) (st := []) dX19_collection_67 i82 rfl q2607 q2500 q2501 q385 q2502 rfl hmX18_use rfl rfl rfl rfl rfl rfl rfl (k_mono h (fun r3 w4 h => ?_))
      refine x_aload_n 0 dX19_collection_70 rfl rfl rfl rfl rfl ?_
      refine x_iload_n 3 dX19_collection_71 rfl rfl rfl ?_
      refine x_if_ne (t := 79) 7 dX19_collection_72 rfl rfl (b_ite h (fun hc h => ?_) (fun hc h => ?_))
      · refine x_iconst 0 (z := 0) dX19_collection_79 rfl (by decide) rfl ?_
        refine y_Vv 365 (M := mX19_concat) (As := [(0, 0)]) (st := []) dX19_collection_80 i83 rfl q2835 q2837 qs147 q386 q2838 rfl hmX19_concat rfl rfl rfl rfl rfl rfl rfl (k_mono h (fun r5 w6 h => ?_))
        refine x_goto 166 (q := 249) dX19_collection_83 rfl ?_
        exact y_vret dX19_collection_249 rfl h
      · refine x_iconst 1 (z := 1) dX19_collection_75 rfl (by decide) rfl ?_
        refine x_goto 4 (q := 80) dX19_collection_76 rfl ?_
        refine y_Vv 365 (M := mX19_concat) (As := [(0, 1)]) (st := []) dX19_collection_80 i83 rfl q2835 q2837 qs147 q386 q2838 rfl hmX19_concat rfl rfl rfl rfl rfl rfl rfl (k_mono h (fun r7 w8 h => ?_))
        refine x_goto 166 (q := 249) dX19_collection_83 rfl ?_
        exact y_vret dX19_collection_249 rfl h
    have e := hc
    exact x_tsI (off := 52) (t := 60) dX19_collection_8 (by rw [e]; decide) (by rw [e]; decide) (by rw [e]; rfl) rfl key
  · refine b_itc h (fun hc h => ?_) (fun hn1 h => ?_)
    · have key : b_Y (d + 1) mX19_collection n Q X 86 [(2, 83), (0, a1), (0, a2), (0, r1), (9, 0)] [] w2 := by
        refine x_aload_n 0 dX19_collection_86 rfl rfl rfl rfl rfl ?_
        refine y_getF 94 10 (c := 18) (z := 82) dX19_collection_87 i83 rfl in_X19 q1302 rfl rfl rfl fn_83_10 (Nat.le_trans (Nat.le_of_ble_eq_true rfl) hn) rfl ?_
        refine x_ldc2 206 (x := 10) dX19_collection_90 q2606 rfl (by decide) rfl ?_
        refine y_Vv 183 (M := mX18_use) (As := [(1, 10)]) (st := []) dX19_collection_93 i82 rfl q2607 q2500 q2501 q385 q2502 rfl hmX18_use rfl rfl rfl rfl rfl rfl rfl (k_mono h (fun r9 w10 h => ?_))
        refine x_aload_n 0 dX19_collection_96 rfl rfl rfl rfl rfl ?_
        refine y_Vv 368 (M := mX19_slice) (As := []) (st := []) dX19_collection_97 i83 rfl q2848 q2850 qs149 q386 q2851 rfl hmX19_slice rfl rfl rfl rfl rfl rfl rfl (k_mono h (fun r11 w12 h => ?_))
        refine x_goto 149 (q := 249) dX19_collection_100 rfl ?_
        exact y_vret dX19_collection_249 rfl h
      have e := hc
      exact x_tsI (off := 78) (t := 86) dX19_collection_8 (by rw [e]; decide) (by rw [e]; decide) (by rw [e]; rfl) rfl key
    · refine b_itc h (fun hc h => ?_) (fun hn2 h => ?_)
      · have key : b_Y (d + 1) mX19_collection n Q X 103 [(2, 83), (0, a1), (0, a2), (0, r1), (9, 0)] [] w2 := by
          refine x_aload_n 0 dX19_collection_103 rfl rfl rfl rfl rfl ?_
          refine y_getF 94 10 (c := 18) (z := 82) dX19_collection_104 i83 rfl in_X19 q1302 rfl rfl rfl fn_83_10 (Nat.le_trans (Nat.le_of_ble_eq_true rfl) hn) rfl ?_
          refine x_ldc2 206 (x := 10) dX19_collection_107 q2606 rfl (by decide) rfl ?_
          refine y_Vv 183 (M := mX18_use) (As := [(1, 10)]) (st := []) dX19_collection_110 i82 rfl q2607 q2500 q2501 q385 q2502 rfl hmX18_use rfl rfl rfl rfl rfl rfl rfl (k_mono h (fun r13 w14 h => ?_))
          refine x_aload_n 0 dX19_collection_113 rfl rfl rfl rfl rfl ?_
          refine x_aload_n 0 dX19_collection_114 rfl rfl rfl rfl rfl ?_
          refine x_aload_n 0 dX19_collection_115 rfl rfl rfl rfl rfl ?_
          refine y_Vi 139 (M := mX19_pop) (As := []) (st := [(2, 83), (2, 83)]) dX19_collection_116 i83 rfl q2583 q2585 qs112 q386 q2586 rfl hmX19_pop rfl rfl rfl rfl rfl rfl rfl rfl (k_mono h (fun r15 w16 h => ?_))
          refine x_iload_n 3 dX19_collection_119 rfl rfl rfl ?_
          refine y_Vi 371 (M := mX19_size) (As := [(0, r15), (0, r1)]) (st := [(2, 83)]) dX19_collection_120 i83 rfl q2852 q2854 qs150 q386 q2855 rfl hmX19_size rfl rfl rfl rfl rfl rfl rfl rfl (k_mono h (fun r17 w18 h => ?_))
          refine y_Si 279 (M := mX8_small) (As := [(0, r17)]) (st := [(2, 83)]) dX19_collection_123 q2706 q1966 q375 q1967 hmX8_small rfl rfl rfl rfl rfl rfl rfl rfl (k_mono h (fun r19 w20 h => ?_))
          refine y_Vv 122 (M := mX19_push) (As := [(0, r19)]) (st := []) dX19_collection_126 i83 rfl q2567 q2569 qs108 q386 q2570 rfl hmX19_push rfl rfl rfl rfl rfl rfl rfl (k_mono h (fun r21 w22 h => ?_))
          refine x_goto 120 (q := 249) dX19_collection_129 rfl ?_
          exact y_vret dX19_collection_249 rfl h
        have e := hc
        exact x_tsI (off := 95) (t := 103) dX19_collection_8 (by rw [e]; decide) (by rw [e]; decide) (by rw [e]; rfl) rfl key
      · refine b_itc h (fun hc h => ?_) (fun hn3 h => ?_)
        · have key : b_Y (d + 1) mX19_collection n Q X 132 [(2, 83), (0, a1), (0, a2), (0, r1), (9, 0)] [] w2 := by
            refine x_aload_n 0 dX19_collection_132 rfl rfl rfl rfl rfl ?_
            refine y_getF 94 10 (c := 18) (z := 82) dX19_collection_133 i83 rfl in_X19 q1302 rfl rfl rfl fn_83_10 (Nat.le_trans (Nat.le_of_ble_eq_true rfl) hn) rfl ?_
            refine x_bipush 10 (z := 10) dX19_collection_136 rfl (by decide) rfl ?_
            refine x_aload_n 0 dX19_collection_138 rfl rfl rfl rfl rfl ?_
            refine x_iconst 0 (z := 0) dX19_collection_139 rfl (by decide) rfl ?_
            refine y_Vi 235 (M := mX19_length) (As := [(0, 0)]) (st := [(0, 10), (2, 82)]) dX19_collection_140 i83 rfl q2696 q2698 qs135 q386 q2699 rfl hmX19_length rfl rfl rfl rfl rfl rfl rfl rfl (k_mono h (fun r23 w24 h => ?_))
            refine x_iconst 4 (z := 4) dX19_collection_143 rfl (by decide) rfl ?_
            refine x_idiv dX19_collection_144 (by decide) rfl ?_
            refine x_iadd dX19_collection_145 rfl ?_
            refine x_i2l dX19_collection_146 rfl ?_
            refine y_Vv 183 (M := mX18_use) (As := [(1, b_i (10 + (b_div r23 4)))]) (st := []) dX19_collection_147 i82 rfl q2607 q2500 q2501 q385 q2502 rfl hmX18_use rfl rfl rfl rfl rfl rfl rfl (k_mono h (fun r25 w26 h => ?_))
            refine x_aload_n 0 dX19_collection_150 rfl rfl rfl rfl rfl ?_
            refine x_aload_n 0 dX19_collection_151 rfl rfl rfl rfl rfl ?_
            refine x_aload_n 0 dX19_collection_152 rfl rfl rfl rfl rfl ?_
            refine y_Vi 139 (M := mX19_pop) (As := []) (st := [(2, 83), (2, 83)]) dX19_collection_153 i83 rfl q2583 q2585 qs112 q386 q2586 rfl hmX19_pop rfl rfl rfl rfl rfl rfl rfl rfl (k_mono h (fun r27 w28 h => ?_))
            refine x_iload_n 3 dX19_collection_156 rfl rfl rfl ?_
            refine y_Vi 374 (M := mX19_pack) (As := [(0, r27), (0, r1)]) (st := [(2, 83)]) dX19_collection_157 i83 rfl q2856 q2858 qs151 q386 q2859 rfl hmX19_pack rfl rfl rfl rfl rfl rfl rfl rfl (k_mono h (fun r29 w30 h => ?_))
            refine y_Vv 122 (M := mX19_push) (As := [(0, r29)]) (st := []) dX19_collection_160 i83 rfl q2567 q2569 qs108 q386 q2570 rfl hmX19_push rfl rfl rfl rfl rfl rfl rfl (k_mono h (fun r31 w32 h => ?_))
            refine x_goto 86 (q := 249) dX19_collection_163 rfl ?_
            exact y_vret dX19_collection_249 rfl h
          have e := hc
          exact x_tsI (off := 124) (t := 132) dX19_collection_8 (by rw [e]; decide) (by rw [e]; decide) (by rw [e]; rfl) rfl key
        · refine b_itc h (fun hc h => ?_) (fun hn4 h => ?_)
          · have key : b_Y (d + 1) mX19_collection n Q X 166 [(2, 83), (0, a1), (0, a2), (0, r1), (9, 0)] [] w2 := by
              refine x_aload_n 0 dX19_collection_166 rfl rfl rfl rfl rfl ?_
              refine y_getF 94 10 (c := 18) (z := 82) dX19_collection_167 i83 rfl in_X19 q1302 rfl rfl rfl fn_83_10 (Nat.le_trans (Nat.le_of_ble_eq_true rfl) hn) rfl ?_
              refine x_ldc2 206 (x := 10) dX19_collection_170 q2606 rfl (by decide) rfl ?_
              refine x_ldc2 377 (x := 2) dX19_collection_173 q2862 rfl (by decide) rfl ?_
              refine x_aload_n 0 dX19_collection_176 rfl rfl rfl rfl rfl ?_
              refine x_iconst 0 (z := 0) dX19_collection_177 rfl (by decide) rfl ?_
              refine y_Vi 235 (M := mX19_length) (As := [(0, 0)]) (st := [(1, 2), (1, 10), (2, 82)]) dX19_collection_178 i83 rfl q2696 q2698 qs135 q386 q2699 rfl hmX19_length rfl rfl rfl rfl rfl rfl rfl rfl (k_mono h (fun r33 w34 h => ?_))
              refine x_i2l dX19_collection_181 rfl ?_
              refine x_lmul dX19_collection_182 rfl ?_
              refine x_ladd dX19_collection_183 rfl ?_
              refine y_Vv 183 (M := mX18_use) (As := [(1, b_l (10 + (b_l (2 * r33))))]) (st := []) dX19_collection_184 i82 rfl q2607 q2500 q2501 q385 q2502 rfl hmX18_use rfl rfl rfl rfl rfl rfl rfl (k_mono h (fun r35 w36 h => ?_))
              refine x_aload_n 0 dX19_collection_187 rfl rfl rfl rfl rfl ?_
              refine y_getF 78 6 (c := 18) (z := 46) dX19_collection_188 i83 rfl in_X19 q1298 rfl rfl rfl fn_83_6 (Nat.le_trans (Nat.le_of_ble_eq_true rfl) hn) rfl ?_
              refine x_aload_n 0 dX19_collection_191 rfl rfl rfl rfl rfl ?_
              refine y_Vi 139 (M := mX19_pop) (As := []) (st := [(2, 46)]) dX19_collection_192 i83 rfl q2583 q2585 qs112 q386 q2586 rfl hmX19_pop rfl rfl rfl rfl rfl rfl rfl rfl (k_mono h (fun r37 w38 h => ?_))
              refine x_iload_n 3 dX19_collection_195 rfl rfl rfl ?_
              refine y_Vi 379 (M := mX13_read) (As := [(0, r37), (0, r1)]) (st := []) dX19_collection_196 i46 rfl q2863 q2864 q2865 q380 q2866 rfl hmX13_read rfl rfl rfl rfl rfl rfl rfl rfl (k_mono h (fun r39 w40 h => ?_))
              refine x_istore 4 (ls' := [(2, 83), (0, a1), (0, a2), (0, r1), (0, r39)]) dX19_collection_199 rfl rfl rfl ?_
              refine x_aload_n 0 dX19_collection_201 rfl rfl rfl rfl rfl ?_
              refine x_iload 4 dX19_collection_202 rfl rfl ?_
              refine x_if_ne (t := 212) 8 dX19_collection_204 rfl rfl (b_ite h (fun hc h => ?_) (fun hc h => ?_))
              · refine x_aload_n 0 dX19_collection_212 rfl rfl rfl rfl rfl ?_
                refine y_getF 54 0 (c := 18) (z := 27) dX19_collection_213 i83 rfl in_X19 q1292 rfl rfl rfl fn_83_0 (Nat.le_trans (Nat.le_of_ble_eq_true rfl) hn) rfl ?_
                refine x_iconst 4 (z := 4) dX19_collection_216 rfl (by decide) rfl ?_
                refine x_iload 4 dX19_collection_217 rfl rfl ?_
                refine y_Vi 156 (M := mX8_wrap) (As := [(0, 4), (0, r39)]) (st := [(2, 83)]) dX19_collection_219 i27 rfl q2641 q2024 q2025 q375 q2026 rfl hmX8_wrap rfl rfl rfl rfl rfl rfl rfl rfl (k_mono h (fun r41 w42 h => ?_))
                refine y_Vv 122 (M := mX19_push) (As := [(0, r41)]) (st := []) dX19_collection_222 i83 rfl q2567 q2569 qs108 q386 q2570 rfl hmX19_push rfl rfl rfl rfl rfl rfl rfl (k_mono h (fun r43 w44 h => ?_))
                refine x_goto 24 (q := 249) dX19_collection_225 rfl ?_
                exact y_vret dX19_collection_249 rfl h
              · refine x_bipush 8 (z := 8) dX19_collection_207 rfl (by decide) rfl ?_
                refine x_goto 13 (q := 222) dX19_collection_209 rfl ?_
                refine y_Vv 122 (M := mX19_push) (As := [(0, 8)]) (st := []) dX19_collection_222 i83 rfl q2567 q2569 qs108 q386 q2570 rfl hmX19_push rfl rfl rfl rfl rfl rfl rfl (k_mono h (fun r45 w46 h => ?_))
                refine x_goto 24 (q := 249) dX19_collection_225 rfl ?_
                exact y_vret dX19_collection_249 rfl h
            have e := hc
            exact x_tsI (off := 158) (t := 166) dX19_collection_8 (by rw [e]; decide) (by rw [e]; decide) (by rw [e]; rfl) rfl key
          · have key : b_Y (d + 1) mX19_collection n Q X 228 [(2, 83), (0, a1), (0, a2), (0, r1), (9, 0)] [] w2 := by
              refine x_aload_n 0 dX19_collection_228 rfl rfl rfl rfl rfl ?_
              refine x_iload_n 2 dX19_collection_229 rfl rfl rfl ?_
              refine x_iload_n 3 dX19_collection_230 rfl rfl rfl ?_
              refine x_aload_n 0 dX19_collection_231 rfl rfl rfl rfl rfl ?_
              refine x_iload_n 1 dX19_collection_232 rfl rfl rfl ?_
              refine x_iconst 2 (z := 2) dX19_collection_233 rfl (by decide) rfl ?_
              refine y_Vi 131 (M := mX19_cell) (As := [(0, a1), (0, 2)]) (st := [(0, r1), (0, a2), (2, 83)]) dX19_collection_234 i83 rfl q2579 q2581 qs111 q386 q2582 rfl hmX19_cell rfl rfl rfl rfl rfl rfl rfl rfl (k_mono h (fun r47 w48 h => ?_))
              refine x_iconst 2 (z := 2) dX19_collection_237 rfl (by decide) rfl ?_
              refine x_icmp_ne (t := 245) 7 dX19_collection_238 rfl rfl (b_ite h (fun hc h => ?_) (fun hc h => ?_))
              · refine x_iconst 0 (z := 0) dX19_collection_245 rfl (by decide) rfl ?_
                refine y_Vv 384 (M := mX19_keyed) (As := [(0, a2), (0, r1), (0, 0)]) (st := []) dX19_collection_246 i83 rfl q2931 q2933 qs163 q386 q2934 rfl hmX19_keyed rfl rfl rfl rfl rfl rfl rfl (k_mono h (fun r49 w50 h => ?_))
                exact y_vret dX19_collection_249 rfl h
              · refine x_iconst 1 (z := 1) dX19_collection_241 rfl (by decide) rfl ?_
                refine x_goto 4 (q := 246) dX19_collection_242 rfl ?_
                refine y_Vv 384 (M := mX19_keyed) (As := [(0, a2), (0, r1), (0, 1)]) (st := []) dX19_collection_246 i83 rfl q2931 q2933 qs163 q386 q2934 rfl hmX19_keyed rfl rfl rfl rfl rfl rfl rfl (k_mono h (fun r51 w52 h => ?_))
                exact y_vret dX19_collection_249 rfl h
            by_cases e : a2 = 89
            · exact x_tsI (off := 220) (t := 228) dX19_collection_8 (by rw [e]; decide) (by rw [e]; decide) (by rw [e]; rfl) rfl key
            have hx89 := e
            by_cases e : a2 = 90
            · exact x_tsI (off := 220) (t := 228) dX19_collection_8 (by rw [e]; decide) (by rw [e]; decide) (by rw [e]; rfl) rfl key
            have hx90 := e
            by_cases e : a2 = 91
            · exact x_tsI (off := 220) (t := 228) dX19_collection_8 (by rw [e]; decide) (by rw [e]; decide) (by rw [e]; rfl) rfl key
            have hx91 := e
            by_cases e : a2 = 92
            · exact x_tsI (off := 220) (t := 228) dX19_collection_8 (by rw [e]; decide) (by rw [e]; decide) (by rw [e]; rfl) rfl key
            have hx92 := e
            exact x_tsO (t := 228) dX19_collection_8 (by omega) rfl key
abbrev LX19_concat_120 (d n : Nat) (Q : Int → bW → Prop) (X : String → bW → Prop) (a1 : Int) (a2 : Int) (a3 : Int) (a4 : Int) (s0 : Int) (w : bW) : Prop := b_Y (d + 1) mX19_concat n Q X 120 [(2, 83), (0, a1), (0, a2), (0, a3), (0, a4), (9, 0), (9, 0), (9, 0)] [(0, s0), (2, 2)] w
abbrev LX19_concat_19 (d n : Nat) (Q : Int → bW → Prop) (X : String → bW → Prop) (a1 : Int) (a2 : Int) (a4 : Int) (a5 : Int) (w : bW) : Prop := b_Y (d + 1) mX19_concat n Q X 19 [(2, 83), (0, a1), (0, a2), (9, 0), (0, a4), (0, a5), (9, 0), (9, 0)] [] w
abbrev LX19_concat_163 (d n : Nat) (Q : Int → bW → Prop) (X : String → bW → Prop) (a5 : Int) (a6 : Int) (a7 : Int) (w : bW) : Prop := b_Y (d + 1) mX19_concat n Q X 163 [(2, 83), (9, 0), (9, 0), (9, 0), (9, 0), (0, a5), (0, a6), (0, a7)] [] w
theorem rX19_concat {d n : Nat} {w : bW} {Q : Int → bW → Prop} {X : String → bW → Prop} (hn : 143 ≤ n) (a1 : Int) (h : b_K d mX19_at [(2, 83), (0, 0)] n w (fun r1 w2 => if a1 = 0 then (b_K d mX8_count [(2, 27), (0, r1)] n w2 (fun r3 w4 => b_K d mX19_at [(2, 83), (0, 1)] n w4 (fun r5 w6 => b_K d mX8_count [(2, 27), (0, r5)] n w6 (fun r7 w8 => if 8192 < b_i (r3 + r7) then (LX19_concat_120 d n Q X a1 (b_i (r3 + r7)) 0 r1 0 w8) else (LX19_concat_120 d n Q X a1 (b_i (r3 + r7)) 0 r1 1 w8)) X) X) X) else (LX19_concat_19 d n Q X a1 0 r1 r1 w2)) X) : b_K (d + 1) mX19_concat [(2, 83), (0, a1)] n w Q X := by
  have i27 := iz27 (Nat.le_trans (Nat.le_of_ble_eq_true rfl) hn)
  have i83 := iz83 (Nat.le_trans (Nat.le_of_ble_eq_true rfl) hn)
  refine k_of (by decide) rfl rfl rfl (ls := [(2, 83), (0, a1), (9, 0), (9, 0), (9, 0), (9, 0), (9, 0), (9, 0)]) rfl ?_
  refine x_iconst 0 (z := 0) dX19_concat_0 rfl (by decide) rfl ?_
  refine x_istore_n 2 (ls' := [(2, 83), (0, a1), (0, 0), (9, 0), (9, 0), (9, 0), (9, 0), (9, 0)]) dX19_concat_1 rfl rfl rfl rfl ?_
  refine x_iconst 0 (z := 0) dX19_concat_2 rfl (by decide) rfl ?_
  refine x_istore_n 3 (ls' := [(2, 83), (0, a1), (0, 0), (0, 0), (9, 0), (9, 0), (9, 0), (9, 0)]) dX19_concat_3 rfl rfl rfl rfl ?_
  refine x_aload_n 0 dX19_concat_4 rfl rfl rfl rfl rfl ?_
  refine x_iconst 0 (z := 0) dX19_concat_5 rfl (by decide) rfl ?_
  refine y_Vi 102 (M := mX19_at) (As := [(0, 0)]) (st := []) dX19_concat_6 i83 rfl q2651 q2653 qs125 q386 q2654 rfl hmX19_at rfl rfl rfl rfl rfl rfl rfl rfl (k_mono h (fun r1 w2 h => ?_))
  refine x_istore 4 (ls' := [(2, 83), (0, a1), (0, 0), (0, 0), (0, r1), (9, 0), (9, 0), (9, 0)]) dX19_concat_9 rfl rfl rfl ?_
  refine x_iload_n 1 dX19_concat_11 rfl rfl rfl ?_
  refine x_if_eq (t := 81) 69 dX19_concat_12 rfl rfl (b_ite h (fun hc h => ?_) (fun hc h => ?_))
  · refine x_aload_n 0 dX19_concat_81 rfl rfl rfl rfl rfl ?_
    refine y_getF 54 0 (c := 18) (z := 27) dX19_concat_82 i83 rfl in_X19 q1292 rfl rfl rfl fn_83_0 (Nat.le_trans (Nat.le_of_ble_eq_true rfl) hn) rfl ?_
    refine x_iload 4 dX19_concat_85 rfl rfl ?_
    refine y_Vi 388 (M := mX8_count) (As := [(0, r1)]) (st := []) dX19_concat_87 i27 rfl q2839 q2087 q2088 q375 q2089 rfl hmX8_count rfl rfl rfl rfl rfl rfl rfl rfl (k_mono h (fun r3 w4 h => ?_))
    refine x_aload_n 0 dX19_concat_90 rfl rfl rfl rfl rfl ?_
    refine y_getF 54 0 (c := 18) (z := 27) dX19_concat_91 i83 rfl in_X19 q1292 rfl rfl rfl fn_83_0 (Nat.le_trans (Nat.le_of_ble_eq_true rfl) hn) rfl ?_
    refine x_aload_n 0 dX19_concat_94 rfl rfl rfl rfl rfl ?_
    refine x_iconst 1 (z := 1) dX19_concat_95 rfl (by decide) rfl ?_
    refine y_Vi 102 (M := mX19_at) (As := [(0, 1)]) (st := [(2, 27), (0, r3)]) dX19_concat_96 i83 rfl q2651 q2653 qs125 q386 q2654 rfl hmX19_at rfl rfl rfl rfl rfl rfl rfl rfl (k_mono h (fun r5 w6 h => ?_))
    refine y_Vi 388 (M := mX8_count) (As := [(0, r5)]) (st := [(0, r3)]) dX19_concat_99 i27 rfl q2839 q2087 q2088 q375 q2089 rfl hmX8_count rfl rfl rfl rfl rfl rfl rfl rfl (k_mono h (fun r7 w8 h => ?_))
    refine x_iadd dX19_concat_102 rfl ?_
    refine x_istore_n 2 (ls' := [(2, 83), (0, a1), (0, b_i (r3 + r7)), (0, 0), (0, r1), (9, 0), (9, 0), (9, 0)]) dX19_concat_103 rfl rfl rfl rfl ?_
    refine x_aload_n 0 dX19_concat_104 rfl rfl rfl rfl rfl ?_
    refine y_getF 90 9 (c := 18) (z := 2) dX19_concat_105 i83 rfl in_X19 q1301 rfl rfl rfl fn_83_9 (Nat.le_trans (Nat.le_of_ble_eq_true rfl) hn) rfl ?_
    refine x_iload_n 2 dX19_concat_108 rfl rfl rfl ?_
    refine x_sipush 8192 (z := 8192) dX19_concat_109 rfl (by decide) rfl ?_
    refine x_icmp_gt (t := 119) 7 dX19_concat_112 rfl rfl (b_ite h (fun hc h => ?_) (fun hc h => ?_))
    · refine x_iconst 0 (z := 0) dX19_concat_119 rfl (by decide) rfl ?_
      exact x_fg (fgk (fgk (fgk (fgk (fgk (fgk (fgk (fgk (fg0))))))))) h
    · refine x_iconst 1 (z := 1) dX19_concat_115 rfl (by decide) rfl ?_
      refine x_goto 4 (q := 120) dX19_concat_116 rfl ?_
      exact x_fg (fgk (fgk (fgk (fgk (fgk (fgk (fgk (fgk (fg0))))))))) h
  · refine x_iload 4 dX19_concat_15 rfl rfl ?_
    refine x_istore 5 (ls' := [(2, 83), (0, a1), (0, 0), (0, 0), (0, r1), (0, r1), (9, 0), (9, 0)]) dX19_concat_17 rfl rfl rfl ?_
    exact x_fg (fgk (fgk (fgk (fgd (fgk (fgk (fgk (fgk (fg0))))))))) h
theorem sX19_concat_120 {d n : Nat} {w : bW} {Q : Int → bW → Prop} {X : String → bW → Prop} (hn : 143 ≤ n) (a1 : Int) (a2 : Int) (a3 : Int) (a4 : Int) (s0 : Int) (h : b_K d mX2_want [(2, 2), (0, s0), (0, 2)] n w (fun r1 w2 => b_K d mX18_use [(2, 82), (1, b_i ((b_div (b_i (a2 + 5)) 8) + (b_i (2 * a3))))] n w2 (fun r3 w4 => b_K d mX8_bytes [(2, 27), (0, a2)] n w4 (fun r5 w6 => if a1 = 0 then (b_K d mX8_count [(2, 27), (0, a4)] n w6 (fun r7 w8 => b_K d mX19_copy [(2, 83), (0, a4), (0, 0), (0, r7), (0, r5), (0, 0)] n w8 (fun r9 w10 => b_K d mX19_at [(2, 83), (0, 1)] n w10 (fun r11 w12 => b_K d mX19_at [(2, 83), (0, 1)] n w12 (fun r13 w14 => b_K d mX8_count [(2, 27), (0, r13)] n w14 (fun r15 w16 => b_K d mX19_copy [(2, 83), (0, r11), (0, 0), (0, r15), (0, r5), (0, r9)] n w16 (fun r17 w18 => b_K d mX19_push [(2, 83), (0, r5)] n (b_up w18 83 17 (b_i ((w18 83 17) - 2))) (fun r19 w20 => Q 0 w20) X) X) X) X) X) X) X) else (LX19_concat_163 d n Q X r5 0 a4 w6)) X) X) X) : LX19_concat_120 d n Q X a1 a2 a3 a4 s0 w := by
  have i2 := iz2 (Nat.le_trans (Nat.le_of_ble_eq_true rfl) hn)
  have i27 := iz27 (Nat.le_trans (Nat.le_of_ble_eq_true rfl) hn)
  have i82 := iz82 (Nat.le_trans (Nat.le_of_ble_eq_true rfl) hn)
  have i83 := iz83 (Nat.le_trans (Nat.le_of_ble_eq_true rfl) hn)
  refine x_iconst 2 (z := 2) dX19_concat_120 rfl (by decide) rfl ?_
  refine y_Vv 351 (M := mX2_want) (As := [(0, s0), (0, 2)]) (st := []) dX19_concat_121 i2 rfl q2752 q1954 q1955 q359 q1956 rfl hmX2_want rfl rfl rfl rfl rfl rfl rfl (k_mono h (fun r1 w2 h => ?_))
  refine x_aload_n 0 dX19_concat_124 rfl rfl rfl rfl rfl ?_
  refine y_getF 94 10 (c := 18) (z := 82) dX19_concat_125 i83 rfl in_X19 q1302 rfl rfl rfl fn_83_10 (Nat.le_trans (Nat.le_of_ble_eq_true rfl) hn) rfl ?_
  refine x_iload_n 2 dX19_concat_128 rfl rfl rfl ?_
  refine x_iconst 5 (z := 5) dX19_concat_129 rfl (by decide) rfl ?_
  refine x_iadd dX19_concat_130 rfl ?_
  refine x_bipush 8 (z := 8) dX19_concat_131 rfl (by decide) rfl ?_
  refine x_idiv dX19_concat_133 (by decide) rfl ?_
  refine x_iconst 2 (z := 2) dX19_concat_134 rfl (by decide) rfl ?_
  refine x_iload_n 3 dX19_concat_135 rfl rfl rfl ?_
  refine x_imul dX19_concat_136 rfl ?_
  refine x_iadd dX19_concat_137 rfl ?_
  refine x_i2l dX19_concat_138 rfl ?_
  refine y_Vv 183 (M := mX18_use) (As := [(1, b_i ((b_div (b_i (a2 + 5)) 8) + (b_i (2 * a3))))]) (st := []) dX19_concat_139 i82 rfl q2607 q2500 q2501 q385 q2502 rfl hmX18_use rfl rfl rfl rfl rfl rfl rfl (k_mono h (fun r3 w4 h => ?_))
  refine x_aload_n 0 dX19_concat_142 rfl rfl rfl rfl rfl ?_
  refine y_getF 54 0 (c := 18) (z := 27) dX19_concat_143 i83 rfl in_X19 q1292 rfl rfl rfl fn_83_0 (Nat.le_trans (Nat.le_of_ble_eq_true rfl) hn) rfl ?_
  refine x_iload_n 2 dX19_concat_146 rfl rfl rfl ?_
  refine y_Vi 394 (M := mX8_bytes) (As := [(0, a2)]) (st := []) dX19_concat_147 i27 rfl q2841 q2002 q2003 q375 q2004 rfl hmX8_bytes rfl rfl rfl rfl rfl rfl rfl rfl (k_mono h (fun r5 w6 h => ?_))
  refine x_istore 5 (ls' := [(2, 83), (0, a1), (0, a2), (0, a3), (0, a4), (0, r5), (9, 0), (9, 0)]) dX19_concat_150 rfl rfl rfl ?_
  refine x_iload_n 1 dX19_concat_152 rfl rfl rfl ?_
  refine x_if_eq (t := 236) 83 dX19_concat_153 rfl rfl (b_ite h (fun hc h => ?_) (fun hc h => ?_))
  · refine x_aload_n 0 dX19_concat_236 rfl rfl rfl rfl rfl ?_
    refine x_iload 4 dX19_concat_237 rfl rfl ?_
    refine x_iconst 0 (z := 0) dX19_concat_239 rfl (by decide) rfl ?_
    refine x_aload_n 0 dX19_concat_240 rfl rfl rfl rfl rfl ?_
    refine y_getF 54 0 (c := 18) (z := 27) dX19_concat_241 i83 rfl in_X19 q1292 rfl rfl rfl fn_83_0 (Nat.le_trans (Nat.le_of_ble_eq_true rfl) hn) rfl ?_
    refine x_iload 4 dX19_concat_244 rfl rfl ?_
    refine y_Vi 388 (M := mX8_count) (As := [(0, a4)]) (st := [(0, 0), (0, a4), (2, 83)]) dX19_concat_246 i27 rfl q2839 q2087 q2088 q375 q2089 rfl hmX8_count rfl rfl rfl rfl rfl rfl rfl rfl (k_mono h (fun r7 w8 h => ?_))
    refine x_iload 5 dX19_concat_249 rfl rfl ?_
    refine x_iconst 0 (z := 0) dX19_concat_251 rfl (by decide) rfl ?_
    refine y_Vi 397 (M := mX19_copy) (As := [(0, a4), (0, 0), (0, r7), (0, r5), (0, 0)]) (st := []) dX19_concat_252 i83 rfl q2842 q2844 qs148 q386 q2845 rfl hmX19_copy rfl rfl rfl rfl rfl rfl rfl rfl (k_mono h (fun r9 w10 h => ?_))
    refine x_istore 6 (ls' := [(2, 83), (0, a1), (0, a2), (0, a3), (0, a4), (0, r5), (0, r9), (9, 0)]) dX19_concat_255 rfl rfl rfl ?_
    refine x_aload_n 0 dX19_concat_257 rfl rfl rfl rfl rfl ?_
    refine x_aload_n 0 dX19_concat_258 rfl rfl rfl rfl rfl ?_
    refine x_iconst 1 (z := 1) dX19_concat_259 rfl (by decide) rfl ?_
    refine y_Vi 102 (M := mX19_at) (As := [(0, 1)]) (st := [(2, 83)]) dX19_concat_260 i83 rfl q2651 q2653 qs125 q386 q2654 rfl hmX19_at rfl rfl rfl rfl rfl rfl rfl rfl (k_mono h (fun r11 w12 h => ?_))
    refine x_iconst 0 (z := 0) dX19_concat_263 rfl (by decide) rfl ?_
    refine x_aload_n 0 dX19_concat_264 rfl rfl rfl rfl rfl ?_
    refine y_getF 54 0 (c := 18) (z := 27) dX19_concat_265 i83 rfl in_X19 q1292 rfl rfl rfl fn_83_0 (Nat.le_trans (Nat.le_of_ble_eq_true rfl) hn) rfl ?_
    refine x_aload_n 0 dX19_concat_268 rfl rfl rfl rfl rfl ?_
    refine x_iconst 1 (z := 1) dX19_concat_269 rfl (by decide) rfl ?_
    refine y_Vi 102 (M := mX19_at) (As := [(0, 1)]) (st := [(2, 27), (0, 0), (0, r11), (2, 83)]) dX19_concat_270 i83 rfl q2651 q2653 qs125 q386 q2654 rfl hmX19_at rfl rfl rfl rfl rfl rfl rfl rfl (k_mono h (fun r13 w14 h => ?_))
    refine y_Vi 388 (M := mX8_count) (As := [(0, r13)]) (st := [(0, 0), (0, r11), (2, 83)]) dX19_concat_273 i27 rfl q2839 q2087 q2088 q375 q2089 rfl hmX8_count rfl rfl rfl rfl rfl rfl rfl rfl (k_mono h (fun r15 w16 h => ?_))
    refine x_iload 5 dX19_concat_276 rfl rfl ?_
    refine x_iload 6 dX19_concat_278 rfl rfl ?_
    refine y_Vi 397 (M := mX19_copy) (As := [(0, r11), (0, 0), (0, r15), (0, r5), (0, r9)]) (st := []) dX19_concat_280 i83 rfl q2842 q2844 qs148 q386 q2845 rfl hmX19_copy rfl rfl rfl rfl rfl rfl rfl rfl (k_mono h (fun r17 w18 h => ?_))
    refine x_pop dX19_concat_283 rfl rfl ?_
    refine x_aload_n 0 dX19_concat_284 rfl rfl rfl rfl rfl ?_
    refine x_dup dX19_concat_285 rfl rfl ?_
    refine y_get 98 17 (c := 18) (z := w18 83 17) dX19_concat_286 i83 rfl in_X19 q1309 rfl rfl rfl rfl rfl ?_
    refine x_iconst 2 (z := 2) dX19_concat_289 rfl (by decide) rfl ?_
    refine x_isub dX19_concat_290 rfl ?_
    refine x_put 98 17 (c := 18) dX19_concat_291 i83 rfl in_X19 tyX19_ok nmX19 q1309 rfl rfl rfl (Or.inl rfl) (Or.inl ⟨rfl, rfl⟩) rfl ?_
    refine x_aload_n 0 dX19_concat_294 rfl rfl rfl rfl rfl ?_
    refine x_iload 5 dX19_concat_295 rfl rfl ?_
    refine y_Vv 122 (M := mX19_push) (As := [(0, r5)]) (st := []) dX19_concat_297 i83 rfl q2567 q2569 qs108 q386 q2570 rfl hmX19_push rfl rfl rfl rfl rfl rfl rfl (k_mono h (fun r19 w20 h => ?_))
    exact y_vret dX19_concat_300 rfl h
  · refine x_iconst 0 (z := 0) dX19_concat_156 rfl (by decide) rfl ?_
    refine x_istore 6 (ls' := [(2, 83), (0, a1), (0, a2), (0, a3), (0, a4), (0, r5), (0, 0), (9, 0)]) dX19_concat_157 rfl rfl rfl ?_
    refine x_iload 4 dX19_concat_159 rfl rfl ?_
    refine x_istore 7 (ls' := [(2, 83), (0, a1), (0, a2), (0, a3), (0, a4), (0, r5), (0, 0), (0, a4)]) dX19_concat_161 rfl rfl rfl ?_
    exact x_fg (fgk (fgd (fgd (fgd (fgd (fgk (fgk (fgk (fg0))))))))) h
theorem sX19_concat_19 {d n : Nat} {w : bW} {Q : Int → bW → Prop} {X : String → bW → Prop} (hn : 143 ≤ n) (a1 : Int) (a2 : Int) (a4 : Int) (a5 : Int) (h : if a5 = 10 then (b_K d mX8_listCount [(2, 27), (0, a4)] n w (fun r1 w2 => if 8192 < a2 then (LX19_concat_120 d n Q X a1 a2 r1 a4 0 w2) else (LX19_concat_120 d n Q X a1 a2 r1 a4 1 w2)) X) else (if 8192 < a2 then (b_K d mX8_listCount [(2, 27), (0, a4)] n w (fun r3 w4 => if 8192 < a2 then (LX19_concat_120 d n Q X a1 a2 r3 a4 0 w4) else (LX19_concat_120 d n Q X a1 a2 r3 a4 1 w4)) X) else (b_K d mX8_cell [(2, 27), (0, a5), (0, 2)] n w (fun r5 w6 => b_K d mX8_count [(2, 27), (0, r5)] n w6 (fun r7 w8 => b_K d mX8_cell [(2, 27), (0, a5), (0, 3)] n w8 (fun r9 w10 => LX19_concat_19 d n Q X a1 (b_i (a2 + r7)) a4 r9 w10) X) X) X))) : LX19_concat_19 d n Q X a1 a2 a4 a5 w := by
  have i27 := iz27 (Nat.le_trans (Nat.le_of_ble_eq_true rfl) hn)
  have i83 := iz83 (Nat.le_trans (Nat.le_of_ble_eq_true rfl) hn)
  refine x_iload 5 dX19_concat_19 rfl rfl ?_
  refine x_bipush 10 (z := 10) dX19_concat_21 rfl (by decide) rfl ?_
  refine x_icmp_eq (t := 68) 45 dX19_concat_23 rfl rfl (b_ite h (fun hc h => ?_) (fun hc h => ?_))
  · refine x_aload_n 0 dX19_concat_68 rfl rfl rfl rfl rfl ?_
    refine y_getF 54 0 (c := 18) (z := 27) dX19_concat_69 i83 rfl in_X19 q1292 rfl rfl rfl fn_83_0 (Nat.le_trans (Nat.le_of_ble_eq_true rfl) hn) rfl ?_
    refine x_iload 4 dX19_concat_72 rfl rfl ?_
    refine y_Vi 391 (M := mX8_listCount) (As := [(0, a4)]) (st := []) dX19_concat_74 i27 rfl q2840 q2067 q2068 q375 q2069 rfl hmX8_listCount rfl rfl rfl rfl rfl rfl rfl rfl (k_mono h (fun r1 w2 h => ?_))
    refine x_istore_n 3 (ls' := [(2, 83), (0, a1), (0, a2), (0, r1), (0, a4), (0, a5), (9, 0), (9, 0)]) dX19_concat_77 rfl rfl rfl rfl ?_
    refine x_goto 26 (q := 104) dX19_concat_78 rfl ?_
    refine x_aload_n 0 dX19_concat_104 rfl rfl rfl rfl rfl ?_
    refine y_getF 90 9 (c := 18) (z := 2) dX19_concat_105 i83 rfl in_X19 q1301 rfl rfl rfl fn_83_9 (Nat.le_trans (Nat.le_of_ble_eq_true rfl) hn) rfl ?_
    refine x_iload_n 2 dX19_concat_108 rfl rfl rfl ?_
    refine x_sipush 8192 (z := 8192) dX19_concat_109 rfl (by decide) rfl ?_
    refine x_icmp_gt (t := 119) 7 dX19_concat_112 rfl rfl (b_ite h (fun hc h => ?_) (fun hc h => ?_))
    · refine x_iconst 0 (z := 0) dX19_concat_119 rfl (by decide) rfl ?_
      exact x_fg (fgk (fgk (fgk (fgk (fgk (fgd (fgk (fgk (fg0))))))))) h
    · refine x_iconst 1 (z := 1) dX19_concat_115 rfl (by decide) rfl ?_
      refine x_goto 4 (q := 120) dX19_concat_116 rfl ?_
      exact x_fg (fgk (fgk (fgk (fgk (fgk (fgd (fgk (fgk (fg0))))))))) h
  · refine x_iload_n 2 dX19_concat_26 rfl rfl rfl ?_
    refine x_sipush 8192 (z := 8192) dX19_concat_27 rfl (by decide) rfl ?_
    refine x_icmp_gt (t := 68) 38 dX19_concat_30 rfl rfl (b_ite h (fun hc h => ?_) (fun hc h => ?_))
    · refine x_aload_n 0 dX19_concat_68 rfl rfl rfl rfl rfl ?_
      refine y_getF 54 0 (c := 18) (z := 27) dX19_concat_69 i83 rfl in_X19 q1292 rfl rfl rfl fn_83_0 (Nat.le_trans (Nat.le_of_ble_eq_true rfl) hn) rfl ?_
      refine x_iload 4 dX19_concat_72 rfl rfl ?_
      refine y_Vi 391 (M := mX8_listCount) (As := [(0, a4)]) (st := []) dX19_concat_74 i27 rfl q2840 q2067 q2068 q375 q2069 rfl hmX8_listCount rfl rfl rfl rfl rfl rfl rfl rfl (k_mono h (fun r3 w4 h => ?_))
      refine x_istore_n 3 (ls' := [(2, 83), (0, a1), (0, a2), (0, r3), (0, a4), (0, a5), (9, 0), (9, 0)]) dX19_concat_77 rfl rfl rfl rfl ?_
      refine x_goto 26 (q := 104) dX19_concat_78 rfl ?_
      refine x_aload_n 0 dX19_concat_104 rfl rfl rfl rfl rfl ?_
      refine y_getF 90 9 (c := 18) (z := 2) dX19_concat_105 i83 rfl in_X19 q1301 rfl rfl rfl fn_83_9 (Nat.le_trans (Nat.le_of_ble_eq_true rfl) hn) rfl ?_
      refine x_iload_n 2 dX19_concat_108 rfl rfl rfl ?_
      refine x_sipush 8192 (z := 8192) dX19_concat_109 rfl (by decide) rfl ?_
      refine x_icmp_gt (t := 119) 7 dX19_concat_112 rfl rfl (b_ite h (fun hc h => ?_) (fun hc h => ?_))
      · refine x_iconst 0 (z := 0) dX19_concat_119 rfl (by decide) rfl ?_
        exact x_fg (fgk (fgk (fgk (fgk (fgk (fgd (fgk (fgk (fg0))))))))) h
      · refine x_iconst 1 (z := 1) dX19_concat_115 rfl (by decide) rfl ?_
        refine x_goto 4 (q := 120) dX19_concat_116 rfl ?_
        exact x_fg (fgk (fgk (fgk (fgk (fgk (fgd (fgk (fgk (fg0))))))))) h
    · refine x_iload_n 2 dX19_concat_33 rfl rfl rfl ?_
      refine x_aload_n 0 dX19_concat_34 rfl rfl rfl rfl rfl ?_
      refine y_getF 54 0 (c := 18) (z := 27) dX19_concat_35 i83 rfl in_X19 q1292 rfl rfl rfl fn_83_0 (Nat.le_trans (Nat.le_of_ble_eq_true rfl) hn) rfl ?_
      refine x_aload_n 0 dX19_concat_38 rfl rfl rfl rfl rfl ?_
      refine y_getF 54 0 (c := 18) (z := 27) dX19_concat_39 i83 rfl in_X19 q1292 rfl rfl rfl fn_83_0 (Nat.le_trans (Nat.le_of_ble_eq_true rfl) hn) rfl ?_
      refine x_iload 5 dX19_concat_42 rfl rfl ?_
      refine x_iconst 2 (z := 2) dX19_concat_44 rfl (by decide) rfl ?_
      refine y_Vi 199 (M := mX8_cell) (As := [(0, a5), (0, 2)]) (st := [(2, 27), (0, a2)]) dX19_concat_45 i27 rfl q2595 q2010 q2011 q375 q2012 rfl hmX8_cell rfl rfl rfl rfl rfl rfl rfl rfl (k_mono h (fun r5 w6 h => ?_))
      refine y_Vi 388 (M := mX8_count) (As := [(0, r5)]) (st := [(0, a2)]) dX19_concat_48 i27 rfl q2839 q2087 q2088 q375 q2089 rfl hmX8_count rfl rfl rfl rfl rfl rfl rfl rfl (k_mono h (fun r7 w8 h => ?_))
      refine x_iadd dX19_concat_51 rfl ?_
      refine x_istore_n 2 (ls' := [(2, 83), (0, a1), (0, b_i (a2 + r7)), (9, 0), (0, a4), (0, a5), (9, 0), (9, 0)]) dX19_concat_52 rfl rfl rfl rfl ?_
      refine x_aload_n 0 dX19_concat_53 rfl rfl rfl rfl rfl ?_
      refine y_getF 54 0 (c := 18) (z := 27) dX19_concat_54 i83 rfl in_X19 q1292 rfl rfl rfl fn_83_0 (Nat.le_trans (Nat.le_of_ble_eq_true rfl) hn) rfl ?_
      refine x_iload 5 dX19_concat_57 rfl rfl ?_
      refine x_iconst 3 (z := 3) dX19_concat_59 rfl (by decide) rfl ?_
      refine y_Vi 199 (M := mX8_cell) (As := [(0, a5), (0, 3)]) (st := []) dX19_concat_60 i27 rfl q2595 q2010 q2011 q375 q2012 rfl hmX8_cell rfl rfl rfl rfl rfl rfl rfl rfl (k_mono h (fun r9 w10 h => ?_))
      refine x_istore 5 (ls' := [(2, 83), (0, a1), (0, b_i (a2 + r7)), (9, 0), (0, a4), (0, r9), (9, 0), (9, 0)]) dX19_concat_63 rfl rfl rfl ?_
      refine x_goto (-46) (q := 19) dX19_concat_65 rfl ?_
      exact x_fg (fgk (fgk (fgk (fgk (fgk (fgk (fgk (fgk (fg0))))))))) h
theorem sX19_concat_163 {d n : Nat} {w : bW} {Q : Int → bW → Prop} {X : String → bW → Prop} (hn : 143 ≤ n) (a5 : Int) (a6 : Int) (a7 : Int) (h : if a7 = 10 then (b_K d mX19_push [(2, 83), (0, a5)] n (b_up w 83 17 (b_i ((w 83 17) - 1))) (fun r1 w2 => Q 0 w2) X) else (b_K d mX8_cell [(2, 27), (0, a7), (0, 2)] n w (fun r3 w4 => b_K d mX8_cell [(2, 27), (0, a7), (0, 2)] n w4 (fun r5 w6 => b_K d mX8_count [(2, 27), (0, r5)] n w6 (fun r7 w8 => b_K d mX19_copy [(2, 83), (0, r3), (0, 0), (0, r7), (0, a5), (0, a6)] n w8 (fun r9 w10 => b_K d mX8_cell [(2, 27), (0, a7), (0, 3)] n w10 (fun r11 w12 => LX19_concat_163 d n Q X a5 r9 r11 w12) X) X) X) X) X)) : LX19_concat_163 d n Q X a5 a6 a7 w := by
  have i27 := iz27 (Nat.le_trans (Nat.le_of_ble_eq_true rfl) hn)
  have i83 := iz83 (Nat.le_trans (Nat.le_of_ble_eq_true rfl) hn)
  refine x_iload 7 dX19_concat_163 rfl rfl ?_
  refine x_bipush 10 (z := 10) dX19_concat_165 rfl (by decide) rfl ?_
  refine x_icmp_eq (t := 223) 56 dX19_concat_167 rfl rfl (b_ite h (fun hc h => ?_) (fun hc h => ?_))
  · refine x_aload_n 0 dX19_concat_223 rfl rfl rfl rfl rfl ?_
    refine x_dup dX19_concat_224 rfl rfl ?_
    refine y_get 98 17 (c := 18) (z := w 83 17) dX19_concat_225 i83 rfl in_X19 q1309 rfl rfl rfl rfl rfl ?_
    refine x_iconst 1 (z := 1) dX19_concat_228 rfl (by decide) rfl ?_
    refine x_isub dX19_concat_229 rfl ?_
    refine x_put 98 17 (c := 18) dX19_concat_230 i83 rfl in_X19 tyX19_ok nmX19 q1309 rfl rfl rfl (Or.inl rfl) (Or.inl ⟨rfl, rfl⟩) rfl ?_
    refine x_goto 61 (q := 294) dX19_concat_233 rfl ?_
    refine x_aload_n 0 dX19_concat_294 rfl rfl rfl rfl rfl ?_
    refine x_iload 5 dX19_concat_295 rfl rfl ?_
    refine y_Vv 122 (M := mX19_push) (As := [(0, a5)]) (st := []) dX19_concat_297 i83 rfl q2567 q2569 qs108 q386 q2570 rfl hmX19_push rfl rfl rfl rfl rfl rfl rfl (k_mono h (fun r1 w2 h => ?_))
    exact y_vret dX19_concat_300 rfl h
  · refine x_aload_n 0 dX19_concat_170 rfl rfl rfl rfl rfl ?_
    refine x_aload_n 0 dX19_concat_171 rfl rfl rfl rfl rfl ?_
    refine y_getF 54 0 (c := 18) (z := 27) dX19_concat_172 i83 rfl in_X19 q1292 rfl rfl rfl fn_83_0 (Nat.le_trans (Nat.le_of_ble_eq_true rfl) hn) rfl ?_
    refine x_iload 7 dX19_concat_175 rfl rfl ?_
    refine x_iconst 2 (z := 2) dX19_concat_177 rfl (by decide) rfl ?_
    refine y_Vi 199 (M := mX8_cell) (As := [(0, a7), (0, 2)]) (st := [(2, 83)]) dX19_concat_178 i27 rfl q2595 q2010 q2011 q375 q2012 rfl hmX8_cell rfl rfl rfl rfl rfl rfl rfl rfl (k_mono h (fun r3 w4 h => ?_))
    refine x_iconst 0 (z := 0) dX19_concat_181 rfl (by decide) rfl ?_
    refine x_aload_n 0 dX19_concat_182 rfl rfl rfl rfl rfl ?_
    refine y_getF 54 0 (c := 18) (z := 27) dX19_concat_183 i83 rfl in_X19 q1292 rfl rfl rfl fn_83_0 (Nat.le_trans (Nat.le_of_ble_eq_true rfl) hn) rfl ?_
    refine x_aload_n 0 dX19_concat_186 rfl rfl rfl rfl rfl ?_
    refine y_getF 54 0 (c := 18) (z := 27) dX19_concat_187 i83 rfl in_X19 q1292 rfl rfl rfl fn_83_0 (Nat.le_trans (Nat.le_of_ble_eq_true rfl) hn) rfl ?_
    refine x_iload 7 dX19_concat_190 rfl rfl ?_
    refine x_iconst 2 (z := 2) dX19_concat_192 rfl (by decide) rfl ?_
    refine y_Vi 199 (M := mX8_cell) (As := [(0, a7), (0, 2)]) (st := [(2, 27), (0, 0), (0, r3), (2, 83)]) dX19_concat_193 i27 rfl q2595 q2010 q2011 q375 q2012 rfl hmX8_cell rfl rfl rfl rfl rfl rfl rfl rfl (k_mono h (fun r5 w6 h => ?_))
    refine y_Vi 388 (M := mX8_count) (As := [(0, r5)]) (st := [(0, 0), (0, r3), (2, 83)]) dX19_concat_196 i27 rfl q2839 q2087 q2088 q375 q2089 rfl hmX8_count rfl rfl rfl rfl rfl rfl rfl rfl (k_mono h (fun r7 w8 h => ?_))
    refine x_iload 5 dX19_concat_199 rfl rfl ?_
    refine x_iload 6 dX19_concat_201 rfl rfl ?_
    refine y_Vi 397 (M := mX19_copy) (As := [(0, r3), (0, 0), (0, r7), (0, a5), (0, a6)]) (st := []) dX19_concat_203 i83 rfl q2842 q2844 qs148 q386 q2845 rfl hmX19_copy rfl rfl rfl rfl rfl rfl rfl rfl (k_mono h (fun r9 w10 h => ?_))
    refine x_istore 6 (ls' := [(2, 83), (9, 0), (9, 0), (9, 0), (9, 0), (0, a5), (0, r9), (0, a7)]) dX19_concat_206 rfl rfl rfl ?_
    refine x_aload_n 0 dX19_concat_208 rfl rfl rfl rfl rfl ?_
    refine y_getF 54 0 (c := 18) (z := 27) dX19_concat_209 i83 rfl in_X19 q1292 rfl rfl rfl fn_83_0 (Nat.le_trans (Nat.le_of_ble_eq_true rfl) hn) rfl ?_
    refine x_iload 7 dX19_concat_212 rfl rfl ?_
    refine x_iconst 3 (z := 3) dX19_concat_214 rfl (by decide) rfl ?_
    refine y_Vi 199 (M := mX8_cell) (As := [(0, a7), (0, 3)]) (st := []) dX19_concat_215 i27 rfl q2595 q2010 q2011 q375 q2012 rfl hmX8_cell rfl rfl rfl rfl rfl rfl rfl rfl (k_mono h (fun r11 w12 h => ?_))
    refine x_istore 7 (ls' := [(2, 83), (9, 0), (9, 0), (9, 0), (9, 0), (0, a5), (0, r9), (0, r11)]) dX19_concat_218 rfl rfl rfl ?_
    refine x_goto (-57) (q := 163) dX19_concat_220 rfl ?_
    exact x_fg (fgk (fgk (fgk (fgk (fgk (fgk (fgk (fgk (fg0))))))))) h
abbrev LX19_copy_3 (d n : Nat) (Q : Int → bW → Prop) (X : String → bW → Prop) (a1 : Int) (a2 : Int) (a3 : Int) (a4 : Int) (a5 : Int) (a6 : Int) (w : bW) : Prop := b_Y (d + 1) mX19_copy n Q X 3 [(2, 83), (0, a1), (0, a2), (0, a3), (0, a4), (0, a5), (0, a6)] [] w
theorem rX19_copy {d n : Nat} {w : bW} {Q : Int → bW → Prop} {X : String → bW → Prop} (hn : 143 ≤ n) (a1 : Int) (a2 : Int) (a3 : Int) (a4 : Int) (a5 : Int) (h : LX19_copy_3 d n Q X a1 a2 a3 a4 a5 0 w) : b_K (d + 1) mX19_copy [(2, 83), (0, a1), (0, a2), (0, a3), (0, a4), (0, a5)] n w Q X := by
  refine k_of (by decide) rfl rfl rfl (ls := [(2, 83), (0, a1), (0, a2), (0, a3), (0, a4), (0, a5), (9, 0)]) rfl ?_
  refine x_iconst 0 (z := 0) dX19_copy_0 rfl (by decide) rfl ?_
  refine x_istore 6 (ls' := [(2, 83), (0, a1), (0, a2), (0, a3), (0, a4), (0, a5), (0, 0)]) dX19_copy_1 rfl rfl rfl ?_
  exact x_fg (fgk (fgk (fgk (fgk (fgk (fgk (fgk (fg0)))))))) h
theorem sX19_copy_3 {d n : Nat} {w : bW} {Q : Int → bW → Prop} {X : String → bW → Prop} (hn : 143 ≤ n) (a1 : Int) (a2 : Int) (a3 : Int) (a4 : Int) (a5 : Int) (a6 : Int) (h : if a3 ≤ a6 then (Q (b_i (a5 + a3)) w) else (b_K d mX8_byteAt [(2, 27), (0, a1), (0, b_i (a2 + a6))] n w (fun r1 w2 => b_K d mX8_setByte [(2, 27), (0, a4), (0, b_i (a5 + a6)), (0, r1)] n w2 (fun r3 w4 => LX19_copy_3 d n Q X a1 a2 a3 a4 a5 (b_i (a6 + 1)) w4) X) X)) : LX19_copy_3 d n Q X a1 a2 a3 a4 a5 a6 w := by
  have i27 := iz27 (Nat.le_trans (Nat.le_of_ble_eq_true rfl) hn)
  have i83 := iz83 (Nat.le_trans (Nat.le_of_ble_eq_true rfl) hn)
  refine x_iload 6 dX19_copy_3 rfl rfl ?_
  refine x_iload_n 3 dX19_copy_5 rfl rfl rfl ?_
  refine x_icmp_ge (t := 41) 35 dX19_copy_6 rfl rfl (b_ite h (fun hc h => ?_) (fun hc h => ?_))
  · refine x_iload 5 dX19_copy_41 rfl rfl ?_
    refine x_iload_n 3 dX19_copy_43 rfl rfl rfl ?_
    refine x_iadd dX19_copy_44 rfl ?_
    exact y_iret dX19_copy_45 rfl h
  · refine x_aload_n 0 dX19_copy_9 rfl rfl rfl rfl rfl ?_
    refine y_getF 54 0 (c := 18) (z := 27) dX19_copy_10 i83 rfl in_X19 q1292 rfl rfl rfl fn_83_0 (Nat.le_trans (Nat.le_of_ble_eq_true rfl) hn) rfl ?_
    refine x_iload 4 dX19_copy_13 rfl rfl ?_
    refine x_iload 5 dX19_copy_15 rfl rfl ?_
    refine x_iload 6 dX19_copy_17 rfl rfl ?_
    refine x_iadd dX19_copy_19 rfl ?_
    refine x_aload_n 0 dX19_copy_20 rfl rfl rfl rfl rfl ?_
    refine y_getF 54 0 (c := 18) (z := 27) dX19_copy_21 i83 rfl in_X19 q1292 rfl rfl rfl fn_83_0 (Nat.le_trans (Nat.le_of_ble_eq_true rfl) hn) rfl ?_
    refine x_iload_n 1 dX19_copy_24 rfl rfl rfl ?_
    refine x_iload_n 2 dX19_copy_25 rfl rfl rfl ?_
    refine x_iload 6 dX19_copy_26 rfl rfl ?_
    refine x_iadd dX19_copy_28 rfl ?_
    refine y_Vi 401 (M := mX8_byteAt) (As := [(0, a1), (0, b_i (a2 + a6))]) (st := [(0, b_i (a5 + a6)), (0, a4), (2, 27)]) dX19_copy_29 i27 rfl q2846 q2092 q2093 q375 q2094 rfl hmX8_byteAt rfl rfl rfl rfl rfl rfl rfl rfl (k_mono h (fun r1 w2 h => ?_))
    refine y_Vv 404 (M := mX8_setByte) (As := [(0, a4), (0, b_i (a5 + a6)), (0, r1)]) (st := []) dX19_copy_32 i27 rfl q2847 q2006 q2007 q375 q2008 rfl hmX8_setByte rfl rfl rfl rfl rfl rfl rfl (k_mono h (fun r3 w4 h => ?_))
    refine x_iinc 6 1 (ls' := [(2, 83), (0, a1), (0, a2), (0, a3), (0, a4), (0, a5), (0, b_i (a6 + 1))]) dX19_copy_35 rfl rfl rfl rfl ?_
    refine x_goto (-35) (q := 3) dX19_copy_38 rfl ?_
    exact x_fg (fgk (fgk (fgk (fgk (fgk (fgk (fgk (fg0)))))))) h
abbrev LX19_slice_64 (d n : Nat) (Q : Int → bW → Prop) (X : String → bW → Prop) (a1 : Int) (a2 : Int) (a3 : Int) (s0 : Int) (w : bW) : Prop := b_Y (d + 1) mX19_slice n Q X 64 [(2, 83), (0, a1), (0, a2), (0, a3), (9, 0), (9, 0), (9, 0)] [(0, s0)] w
theorem rX19_slice {d n : Nat} {w : bW} {Q : Int → bW → Prop} {X : String → bW → Prop} (hn : 143 ≤ n) (h : b_K d mX19_pop [(2, 83)] n w (fun r1 w2 => b_K d mX19_pop [(2, 83)] n w2 (fun r3 w4 => b_K d mX19_pop [(2, 83)] n w4 (fun r5 w6 => b_K d mX8_count [(2, 27), (0, r5)] n w6 (fun r7 w8 => b_K d mX8_isSmall [(0, r1)] n w8 (fun r9 w10 => if r9 = 0 then (LX19_slice_64 d n Q X r1 r3 r5 0 w10) else (b_K d mX8_isSmall [(0, r3)] n w10 (fun r11 w12 => if r11 = 0 then (LX19_slice_64 d n Q X r1 r3 r5 0 w12) else (if r7 < b_shr r1 1 then (LX19_slice_64 d n Q X r1 r3 r5 0 w12) else (if b_i (r7 - (b_shr r1 1)) < b_shr r3 1 then (LX19_slice_64 d n Q X r1 r3 r5 0 w12) else (LX19_slice_64 d n Q X r1 r3 r5 1 w12)))) X)) X) X) X) X) X) : b_K (d + 1) mX19_slice [(2, 83)] n w Q X := by
  have i27 := iz27 (Nat.le_trans (Nat.le_of_ble_eq_true rfl) hn)
  have i83 := iz83 (Nat.le_trans (Nat.le_of_ble_eq_true rfl) hn)
  refine k_of (by decide) rfl rfl rfl (ls := [(2, 83), (9, 0), (9, 0), (9, 0), (9, 0), (9, 0), (9, 0)]) rfl ?_
  refine x_aload_n 0 dX19_slice_0 rfl rfl rfl rfl rfl ?_
  refine y_Vi 139 (M := mX19_pop) (As := []) (st := []) dX19_slice_1 i83 rfl q2583 q2585 qs112 q386 q2586 rfl hmX19_pop rfl rfl rfl rfl rfl rfl rfl rfl (k_mono h (fun r1 w2 h => ?_))
  refine x_istore_n 1 (ls' := [(2, 83), (0, r1), (9, 0), (9, 0), (9, 0), (9, 0), (9, 0)]) dX19_slice_4 rfl rfl rfl rfl ?_
  refine x_aload_n 0 dX19_slice_5 rfl rfl rfl rfl rfl ?_
  refine y_Vi 139 (M := mX19_pop) (As := []) (st := []) dX19_slice_6 i83 rfl q2583 q2585 qs112 q386 q2586 rfl hmX19_pop rfl rfl rfl rfl rfl rfl rfl rfl (k_mono h (fun r3 w4 h => ?_))
  refine x_istore_n 2 (ls' := [(2, 83), (0, r1), (0, r3), (9, 0), (9, 0), (9, 0), (9, 0)]) dX19_slice_9 rfl rfl rfl rfl ?_
  refine x_aload_n 0 dX19_slice_10 rfl rfl rfl rfl rfl ?_
  refine y_Vi 139 (M := mX19_pop) (As := []) (st := []) dX19_slice_11 i83 rfl q2583 q2585 qs112 q386 q2586 rfl hmX19_pop rfl rfl rfl rfl rfl rfl rfl rfl (k_mono h (fun r5 w6 h => ?_))
  refine x_istore_n 3 (ls' := [(2, 83), (0, r1), (0, r3), (0, r5), (9, 0), (9, 0), (9, 0)]) dX19_slice_14 rfl rfl rfl rfl ?_
  refine x_aload_n 0 dX19_slice_15 rfl rfl rfl rfl rfl ?_
  refine y_getF 54 0 (c := 18) (z := 27) dX19_slice_16 i83 rfl in_X19 q1292 rfl rfl rfl fn_83_0 (Nat.le_trans (Nat.le_of_ble_eq_true rfl) hn) rfl ?_
  refine x_iload_n 3 dX19_slice_19 rfl rfl rfl ?_
  refine y_Vi 388 (M := mX8_count) (As := [(0, r5)]) (st := []) dX19_slice_20 i27 rfl q2839 q2087 q2088 q375 q2089 rfl hmX8_count rfl rfl rfl rfl rfl rfl rfl rfl (k_mono h (fun r7 w8 h => ?_))
  refine x_istore 4 (ls' := [(2, 83), (0, r1), (0, r3), (0, r5), (0, r7), (9, 0), (9, 0)]) dX19_slice_23 rfl rfl rfl ?_
  refine x_iload_n 1 dX19_slice_25 rfl rfl rfl ?_
  refine y_Si 265 (M := mX8_isSmall) (As := [(0, r1)]) (st := []) dX19_slice_26 q2751 q2032 q375 q2033 hmX8_isSmall rfl rfl rfl rfl rfl rfl rfl rfl (k_mono h (fun r9 w10 h => ?_))
  refine x_if_eq (t := 63) 34 dX19_slice_29 rfl rfl (b_ite h (fun hc h => ?_) (fun hc h => ?_))
  · refine x_iconst 0 (z := 0) dX19_slice_63 rfl (by decide) rfl ?_
    exact x_fg (fgk (fgk (fgk (fgk (fgd (fgk (fgk (fg0)))))))) h
  · refine x_iload_n 2 dX19_slice_32 rfl rfl rfl ?_
    refine y_Si 265 (M := mX8_isSmall) (As := [(0, r3)]) (st := []) dX19_slice_33 q2751 q2032 q375 q2033 hmX8_isSmall rfl rfl rfl rfl rfl rfl rfl rfl (k_mono h (fun r11 w12 h => ?_))
    refine x_if_eq (t := 63) 27 dX19_slice_36 rfl rfl (b_ite h (fun hc h => ?_) (fun hc h => ?_))
    · refine x_iconst 0 (z := 0) dX19_slice_63 rfl (by decide) rfl ?_
      exact x_fg (fgk (fgk (fgk (fgk (fgd (fgk (fgk (fg0)))))))) h
    · refine x_iload_n 1 dX19_slice_39 rfl rfl rfl ?_
      refine x_iconst 1 (z := 1) dX19_slice_40 rfl (by decide) rfl ?_
      refine x_ishr dX19_slice_41 rfl ?_
      refine x_iload 4 dX19_slice_42 rfl rfl ?_
      refine x_icmp_gt (t := 63) 19 dX19_slice_44 rfl rfl (b_ite h (fun hc h => ?_) (fun hc h => ?_))
      · refine x_iconst 0 (z := 0) dX19_slice_63 rfl (by decide) rfl ?_
        exact x_fg (fgk (fgk (fgk (fgk (fgd (fgk (fgk (fg0)))))))) h
      · refine x_iload_n 2 dX19_slice_47 rfl rfl rfl ?_
        refine x_iconst 1 (z := 1) dX19_slice_48 rfl (by decide) rfl ?_
        refine x_ishr dX19_slice_49 rfl ?_
        refine x_iload 4 dX19_slice_50 rfl rfl ?_
        refine x_iload_n 1 dX19_slice_52 rfl rfl rfl ?_
        refine x_iconst 1 (z := 1) dX19_slice_53 rfl (by decide) rfl ?_
        refine x_ishr dX19_slice_54 rfl ?_
        refine x_isub dX19_slice_55 rfl ?_
        refine x_icmp_gt (t := 63) 7 dX19_slice_56 rfl rfl (b_ite h (fun hc h => ?_) (fun hc h => ?_))
        · refine x_iconst 0 (z := 0) dX19_slice_63 rfl (by decide) rfl ?_
          exact x_fg (fgk (fgk (fgk (fgk (fgd (fgk (fgk (fg0)))))))) h
        · refine x_iconst 1 (z := 1) dX19_slice_59 rfl (by decide) rfl ?_
          refine x_goto 4 (q := 64) dX19_slice_60 rfl ?_
          exact x_fg (fgk (fgk (fgk (fgk (fgd (fgk (fgk (fg0)))))))) h
theorem sX19_slice_64 {d n : Nat} {w : bW} {Q : Int → bW → Prop} {X : String → bW → Prop} (hn : 143 ≤ n) (a1 : Int) (a2 : Int) (a3 : Int) (s0 : Int) (h : if s0 ≠ 0 then (b_K d mX18_use [(2, 82), (1, b_div (b_i ((b_shr a2 1) + 5)) 8)] n w (fun r1 w2 => b_K d mX8_bytes [(2, 27), (0, b_shr a2 1)] n w2 (fun r3 w4 => b_K d mX19_copy [(2, 83), (0, a3), (0, b_shr a1 1), (0, b_shr a2 1), (0, r3), (0, 0)] n w4 (fun r5 w6 => b_K d mX8_wrap [(2, 27), (0, 4), (0, r3)] n w6 (fun r7 w8 => b_K d mX19_push [(2, 83), (0, r7)] n w8 (fun r9 w10 => Q 0 w10) X) X) X) X) X) else (b_K d mX19_push [(2, 83), (0, 8)] n w (fun r11 w12 => Q 0 w12) X)) : LX19_slice_64 d n Q X a1 a2 a3 s0 w := by
  have i27 := iz27 (Nat.le_trans (Nat.le_of_ble_eq_true rfl) hn)
  have i82 := iz82 (Nat.le_trans (Nat.le_of_ble_eq_true rfl) hn)
  have i83 := iz83 (Nat.le_trans (Nat.le_of_ble_eq_true rfl) hn)
  refine x_istore 5 (ls' := [(2, 83), (0, a1), (0, a2), (0, a3), (9, 0), (0, s0), (9, 0)]) dX19_slice_64 rfl rfl rfl ?_
  refine x_iload 5 dX19_slice_66 rfl rfl ?_
  refine x_if_ne (t := 78) 10 dX19_slice_68 rfl rfl (b_ite h (fun hc h => ?_) (fun hc h => ?_))
  · refine x_aload_n 0 dX19_slice_78 rfl rfl rfl rfl rfl ?_
    refine y_getF 94 10 (c := 18) (z := 82) dX19_slice_79 i83 rfl in_X19 q1302 rfl rfl rfl fn_83_10 (Nat.le_trans (Nat.le_of_ble_eq_true rfl) hn) rfl ?_
    refine x_iload_n 2 dX19_slice_82 rfl rfl rfl ?_
    refine x_iconst 1 (z := 1) dX19_slice_83 rfl (by decide) rfl ?_
    refine x_ishr dX19_slice_84 rfl ?_
    refine x_iconst 5 (z := 5) dX19_slice_85 rfl (by decide) rfl ?_
    refine x_iadd dX19_slice_86 rfl ?_
    refine x_bipush 8 (z := 8) dX19_slice_87 rfl (by decide) rfl ?_
    refine x_idiv dX19_slice_89 (by decide) rfl ?_
    refine x_i2l dX19_slice_90 rfl ?_
    refine y_Vv 183 (M := mX18_use) (As := [(1, b_div (b_i ((b_shr a2 1) + 5)) 8)]) (st := []) dX19_slice_91 i82 rfl q2607 q2500 q2501 q385 q2502 rfl hmX18_use rfl rfl rfl rfl rfl rfl rfl (k_mono h (fun r1 w2 h => ?_))
    refine x_aload_n 0 dX19_slice_94 rfl rfl rfl rfl rfl ?_
    refine y_getF 54 0 (c := 18) (z := 27) dX19_slice_95 i83 rfl in_X19 q1292 rfl rfl rfl fn_83_0 (Nat.le_trans (Nat.le_of_ble_eq_true rfl) hn) rfl ?_
    refine x_iload_n 2 dX19_slice_98 rfl rfl rfl ?_
    refine x_iconst 1 (z := 1) dX19_slice_99 rfl (by decide) rfl ?_
    refine x_ishr dX19_slice_100 rfl ?_
    refine y_Vi 394 (M := mX8_bytes) (As := [(0, b_shr a2 1)]) (st := []) dX19_slice_101 i27 rfl q2841 q2002 q2003 q375 q2004 rfl hmX8_bytes rfl rfl rfl rfl rfl rfl rfl rfl (k_mono h (fun r3 w4 h => ?_))
    refine x_istore 6 (ls' := [(2, 83), (0, a1), (0, a2), (0, a3), (9, 0), (0, s0), (0, r3)]) dX19_slice_104 rfl rfl rfl ?_
    refine x_aload_n 0 dX19_slice_106 rfl rfl rfl rfl rfl ?_
    refine x_iload_n 3 dX19_slice_107 rfl rfl rfl ?_
    refine x_iload_n 1 dX19_slice_108 rfl rfl rfl ?_
    refine x_iconst 1 (z := 1) dX19_slice_109 rfl (by decide) rfl ?_
    refine x_ishr dX19_slice_110 rfl ?_
    refine x_iload_n 2 dX19_slice_111 rfl rfl rfl ?_
    refine x_iconst 1 (z := 1) dX19_slice_112 rfl (by decide) rfl ?_
    refine x_ishr dX19_slice_113 rfl ?_
    refine x_iload 6 dX19_slice_114 rfl rfl ?_
    refine x_iconst 0 (z := 0) dX19_slice_116 rfl (by decide) rfl ?_
    refine y_Vi 397 (M := mX19_copy) (As := [(0, a3), (0, b_shr a1 1), (0, b_shr a2 1), (0, r3), (0, 0)]) (st := []) dX19_slice_117 i83 rfl q2842 q2844 qs148 q386 q2845 rfl hmX19_copy rfl rfl rfl rfl rfl rfl rfl rfl (k_mono h (fun r5 w6 h => ?_))
    refine x_pop dX19_slice_120 rfl rfl ?_
    refine x_aload_n 0 dX19_slice_121 rfl rfl rfl rfl rfl ?_
    refine x_aload_n 0 dX19_slice_122 rfl rfl rfl rfl rfl ?_
    refine y_getF 54 0 (c := 18) (z := 27) dX19_slice_123 i83 rfl in_X19 q1292 rfl rfl rfl fn_83_0 (Nat.le_trans (Nat.le_of_ble_eq_true rfl) hn) rfl ?_
    refine x_iconst 4 (z := 4) dX19_slice_126 rfl (by decide) rfl ?_
    refine x_iload 6 dX19_slice_127 rfl rfl ?_
    refine y_Vi 156 (M := mX8_wrap) (As := [(0, 4), (0, r3)]) (st := [(2, 83)]) dX19_slice_129 i27 rfl q2641 q2024 q2025 q375 q2026 rfl hmX8_wrap rfl rfl rfl rfl rfl rfl rfl rfl (k_mono h (fun r7 w8 h => ?_))
    refine y_Vv 122 (M := mX19_push) (As := [(0, r7)]) (st := []) dX19_slice_132 i83 rfl q2567 q2569 qs108 q386 q2570 rfl hmX19_push rfl rfl rfl rfl rfl rfl rfl (k_mono h (fun r9 w10 h => ?_))
    exact y_vret dX19_slice_135 rfl h
  · refine x_aload_n 0 dX19_slice_71 rfl rfl rfl rfl rfl ?_
    refine x_bipush 8 (z := 8) dX19_slice_72 rfl (by decide) rfl ?_
    refine y_Vv 122 (M := mX19_push) (As := [(0, 8)]) (st := []) dX19_slice_74 i83 rfl q2567 q2569 qs108 q386 q2570 rfl hmX19_push rfl rfl rfl rfl rfl rfl rfl (k_mono h (fun r11 w12 h => ?_))
    exact y_vret dX19_slice_77 rfl h
theorem rX19_size {d n : Nat} {w : bW} {Q : Int → bW → Prop} {X : String → bW → Prop} (hn : 143 ≤ n) (a1 : Int) (a2 : Int) (h : if a2 ≠ 11 then (if a2 = 12 then (b_K d mX8_many [(2, 27), (0, a1)] n w (fun r1 w2 => Q r1 w2) X) else (if a2 ≠ 15 then (b_K d mX8_count [(2, 27), (0, a1)] n w (fun r3 w4 => Q r3 w4) X) else (b_K d mX8_many [(2, 27), (0, a1)] n w (fun r5 w6 => Q r5 w6) X))) else (b_K d mX8_listCount [(2, 27), (0, a1)] n w (fun r7 w8 => Q r7 w8) X)) : b_K (d + 1) mX19_size [(2, 83), (0, a1), (0, a2)] n w Q X := by
  have i27 := iz27 (Nat.le_trans (Nat.le_of_ble_eq_true rfl) hn)
  have i83 := iz83 (Nat.le_trans (Nat.le_of_ble_eq_true rfl) hn)
  refine k_of (by decide) rfl rfl rfl (ls := [(2, 83), (0, a1), (0, a2)]) rfl ?_
  refine x_iload_n 2 dX19_size_0 rfl rfl rfl ?_
  refine x_bipush 11 (z := 11) dX19_size_1 rfl (by decide) rfl ?_
  refine x_icmp_ne (t := 17) 14 dX19_size_3 rfl rfl (b_ite h (fun hc h => ?_) (fun hc h => ?_))
  · refine x_iload_n 2 dX19_size_17 rfl rfl rfl ?_
    refine x_bipush 12 (z := 12) dX19_size_18 rfl (by decide) rfl ?_
    refine x_icmp_eq (t := 29) 9 dX19_size_20 rfl rfl (b_ite h (fun hc h => ?_) (fun hc h => ?_))
    · refine x_aload_n 0 dX19_size_29 rfl rfl rfl rfl rfl ?_
      refine y_getF 54 0 (c := 18) (z := 27) dX19_size_30 i83 rfl in_X19 q1292 rfl rfl rfl fn_83_0 (Nat.le_trans (Nat.le_of_ble_eq_true rfl) hn) rfl ?_
      refine x_iload_n 1 dX19_size_33 rfl rfl rfl ?_
      refine y_Vi 245 (M := mX8_many) (As := [(0, a1)]) (st := []) dX19_size_34 i27 rfl q2605 q2135 q2136 q375 q2137 rfl hmX8_many rfl rfl rfl rfl rfl rfl rfl rfl (k_mono h (fun r1 w2 h => ?_))
      refine x_goto 11 (q := 48) dX19_size_37 rfl ?_
      exact y_iret dX19_size_48 rfl h
    · refine x_iload_n 2 dX19_size_23 rfl rfl rfl ?_
      refine x_bipush 15 (z := 15) dX19_size_24 rfl (by decide) rfl ?_
      refine x_icmp_ne (t := 40) 14 dX19_size_26 rfl rfl (b_ite h (fun hc h => ?_) (fun hc h => ?_))
      · refine x_aload_n 0 dX19_size_40 rfl rfl rfl rfl rfl ?_
        refine y_getF 54 0 (c := 18) (z := 27) dX19_size_41 i83 rfl in_X19 q1292 rfl rfl rfl fn_83_0 (Nat.le_trans (Nat.le_of_ble_eq_true rfl) hn) rfl ?_
        refine x_iload_n 1 dX19_size_44 rfl rfl rfl ?_
        refine y_Vi 388 (M := mX8_count) (As := [(0, a1)]) (st := []) dX19_size_45 i27 rfl q2839 q2087 q2088 q375 q2089 rfl hmX8_count rfl rfl rfl rfl rfl rfl rfl rfl (k_mono h (fun r3 w4 h => ?_))
        exact y_iret dX19_size_48 rfl h
      · refine x_aload_n 0 dX19_size_29 rfl rfl rfl rfl rfl ?_
        refine y_getF 54 0 (c := 18) (z := 27) dX19_size_30 i83 rfl in_X19 q1292 rfl rfl rfl fn_83_0 (Nat.le_trans (Nat.le_of_ble_eq_true rfl) hn) rfl ?_
        refine x_iload_n 1 dX19_size_33 rfl rfl rfl ?_
        refine y_Vi 245 (M := mX8_many) (As := [(0, a1)]) (st := []) dX19_size_34 i27 rfl q2605 q2135 q2136 q375 q2137 rfl hmX8_many rfl rfl rfl rfl rfl rfl rfl rfl (k_mono h (fun r5 w6 h => ?_))
        refine x_goto 11 (q := 48) dX19_size_37 rfl ?_
        exact y_iret dX19_size_48 rfl h
  · refine x_aload_n 0 dX19_size_6 rfl rfl rfl rfl rfl ?_
    refine y_getF 54 0 (c := 18) (z := 27) dX19_size_7 i83 rfl in_X19 q1292 rfl rfl rfl fn_83_0 (Nat.le_trans (Nat.le_of_ble_eq_true rfl) hn) rfl ?_
    refine x_iload_n 1 dX19_size_10 rfl rfl rfl ?_
    refine y_Vi 391 (M := mX8_listCount) (As := [(0, a1)]) (st := []) dX19_size_11 i27 rfl q2840 q2067 q2068 q375 q2069 rfl hmX8_listCount rfl rfl rfl rfl rfl rfl rfl rfl (k_mono h (fun r7 w8 h => ?_))
    refine x_goto 34 (q := 48) dX19_size_14 rfl ?_
    exact y_iret dX19_size_48 rfl h
theorem rX19_pack {d n : Nat} {w : bW} {Q : Int → bW → Prop} {X : String → bW → Prop} (hn : 143 ≤ n) (a1 : Int) (a2 : Int) (h : b_K d mX8_length [(2, 27), (0, a1)] n w (fun r1 w2 => if 8192 < b_i (1 + r1) then (b_K d mX2_want [(2, 2), (0, 0), (0, 2)] n w2 (fun r3 w4 => b_K d mX13_write [(2, 46), (2, 100), (0, 1), (0, a1), (0, a2)] n (b_up w4 100 0 5) (fun r5 w6 => b_K d mX8_ofBytes [(2, 27), (2, 100), (0, 0), (0, b_i (1 + r1))] n w6 (fun r7 w8 => Q r7 w8) X) X) X) else (b_K d mX2_want [(2, 2), (0, 1), (0, 2)] n w2 (fun r9 w10 => b_K d mX13_write [(2, 46), (2, 100), (0, 1), (0, a1), (0, a2)] n (b_up w10 100 0 5) (fun r11 w12 => b_K d mX8_ofBytes [(2, 27), (2, 100), (0, 0), (0, b_i (1 + r1))] n w12 (fun r13 w14 => Q r13 w14) X) X) X)) X) : b_K (d + 1) mX19_pack [(2, 83), (0, a1), (0, a2)] n w Q X := by
  have i2 := iz2 (Nat.le_trans (Nat.le_of_ble_eq_true rfl) hn)
  have i27 := iz27 (Nat.le_trans (Nat.le_of_ble_eq_true rfl) hn)
  have i46 := iz46 (Nat.le_trans (Nat.le_of_ble_eq_true rfl) hn)
  have i83 := iz83 (Nat.le_trans (Nat.le_of_ble_eq_true rfl) hn)
  have i100 := iz100 (Nat.le_trans (Nat.le_of_ble_eq_true rfl) hn)
  refine k_of (by decide) rfl rfl rfl (ls := [(2, 83), (0, a1), (0, a2), (9, 0)]) rfl ?_
  refine x_iconst 1 (z := 1) dX19_pack_0 rfl (by decide) rfl ?_
  refine x_aload_n 0 dX19_pack_1 rfl rfl rfl rfl rfl ?_
  refine y_getF 54 0 (c := 18) (z := 27) dX19_pack_2 i83 rfl in_X19 q1292 rfl rfl rfl fn_83_0 (Nat.le_trans (Nat.le_of_ble_eq_true rfl) hn) rfl ?_
  refine x_iload_n 1 dX19_pack_5 rfl rfl rfl ?_
  refine y_Vi 106 (M := mX8_length) (As := [(0, a1)]) (st := [(0, 1)]) dX19_pack_6 i27 rfl q2650 q2028 q2029 q375 q2030 rfl hmX8_length rfl rfl rfl rfl rfl rfl rfl rfl (k_mono h (fun r1 w2 h => ?_))
  refine x_iadd dX19_pack_9 rfl ?_
  refine x_istore_n 3 (ls' := [(2, 83), (0, a1), (0, a2), (0, b_i (1 + r1))]) dX19_pack_10 rfl rfl rfl rfl ?_
  refine x_aload_n 0 dX19_pack_11 rfl rfl rfl rfl rfl ?_
  refine y_getF 90 9 (c := 18) (z := 2) dX19_pack_12 i83 rfl in_X19 q1301 rfl rfl rfl fn_83_9 (Nat.le_trans (Nat.le_of_ble_eq_true rfl) hn) rfl ?_
  refine x_iload_n 3 dX19_pack_15 rfl rfl rfl ?_
  refine x_sipush 8192 (z := 8192) dX19_pack_16 rfl (by decide) rfl ?_
  refine x_icmp_gt (t := 26) 7 dX19_pack_19 rfl rfl (b_ite h (fun hc h => ?_) (fun hc h => ?_))
  · refine x_iconst 0 (z := 0) dX19_pack_26 rfl (by decide) rfl ?_
    refine x_iconst 2 (z := 2) dX19_pack_27 rfl (by decide) rfl ?_
    refine y_Vv 351 (M := mX2_want) (As := [(0, 0), (0, 2)]) (st := []) dX19_pack_28 i2 rfl q2752 q1954 q1955 q359 q1956 rfl hmX2_want rfl rfl rfl rfl rfl rfl rfl (k_mono h (fun r3 w4 h => ?_))
    refine x_aload_n 0 dX19_pack_31 rfl rfl rfl rfl rfl ?_
    refine y_getF 47 23 (c := 18) (z := 100) dX19_pack_32 i83 rfl in_X19 q1315 rfl rfl rfl fn_83_23 (Nat.le_trans (Nat.le_of_ble_eq_true rfl) hn) rfl ?_
    refine x_iconst 0 (z := 0) dX19_pack_35 rfl (by decide) rfl ?_
    refine x_iconst 5 (z := 5) dX19_pack_36 rfl (by decide) rfl ?_
    refine y_bast (x' := 5) dX19_pack_37 ⟨8300, i100, by decide⟩ (by decide) rfl ?_
    refine x_aload_n 0 dX19_pack_38 rfl rfl rfl rfl rfl ?_
    refine y_getF 78 6 (c := 18) (z := 46) dX19_pack_39 i83 rfl in_X19 q1298 rfl rfl rfl fn_83_6 (Nat.le_trans (Nat.le_of_ble_eq_true rfl) hn) rfl ?_
    refine x_aload_n 0 dX19_pack_42 rfl rfl rfl rfl rfl ?_
    refine y_getF 47 23 (c := 18) (z := 100) dX19_pack_43 i83 rfl in_X19 q1315 rfl rfl rfl fn_83_23 (Nat.le_trans (Nat.le_of_ble_eq_true rfl) hn) rfl ?_
    refine x_iconst 1 (z := 1) dX19_pack_46 rfl (by decide) rfl ?_
    refine x_iload_n 1 dX19_pack_47 rfl rfl rfl ?_
    refine x_iload_n 2 dX19_pack_48 rfl rfl rfl ?_
    refine y_Vv 407 (M := mX13_write) (As := [(2, 100), (0, 1), (0, a1), (0, a2)]) (st := []) dX19_pack_49 i46 rfl q2860 q2383 q2384 q380 q2385 rfl hmX13_write rfl rfl rfl rfl rfl rfl rfl (k_mono h (fun r5 w6 h => ?_))
    refine x_aload_n 0 dX19_pack_52 rfl rfl rfl rfl rfl ?_
    refine y_getF 54 0 (c := 18) (z := 27) dX19_pack_53 i83 rfl in_X19 q1292 rfl rfl rfl fn_83_0 (Nat.le_trans (Nat.le_of_ble_eq_true rfl) hn) rfl ?_
    refine x_aload_n 0 dX19_pack_56 rfl rfl rfl rfl rfl ?_
    refine y_getF 47 23 (c := 18) (z := 100) dX19_pack_57 i83 rfl in_X19 q1315 rfl rfl rfl fn_83_23 (Nat.le_trans (Nat.le_of_ble_eq_true rfl) hn) rfl ?_
    refine x_iconst 0 (z := 0) dX19_pack_60 rfl (by decide) rfl ?_
    refine x_iload_n 3 dX19_pack_61 rfl rfl rfl ?_
    refine y_Vi 411 (M := mX8_ofBytes) (As := [(2, 100), (0, 0), (0, b_i (1 + r1))]) (st := []) dX19_pack_62 i27 rfl q2861 q1998 q1999 q375 q2000 rfl hmX8_ofBytes rfl rfl rfl rfl rfl rfl rfl rfl (k_mono h (fun r7 w8 h => ?_))
    exact y_iret dX19_pack_65 rfl h
  · refine x_iconst 1 (z := 1) dX19_pack_22 rfl (by decide) rfl ?_
    refine x_goto 4 (q := 27) dX19_pack_23 rfl ?_
    refine x_iconst 2 (z := 2) dX19_pack_27 rfl (by decide) rfl ?_
    refine y_Vv 351 (M := mX2_want) (As := [(0, 1), (0, 2)]) (st := []) dX19_pack_28 i2 rfl q2752 q1954 q1955 q359 q1956 rfl hmX2_want rfl rfl rfl rfl rfl rfl rfl (k_mono h (fun r9 w10 h => ?_))
    refine x_aload_n 0 dX19_pack_31 rfl rfl rfl rfl rfl ?_
    refine y_getF 47 23 (c := 18) (z := 100) dX19_pack_32 i83 rfl in_X19 q1315 rfl rfl rfl fn_83_23 (Nat.le_trans (Nat.le_of_ble_eq_true rfl) hn) rfl ?_
    refine x_iconst 0 (z := 0) dX19_pack_35 rfl (by decide) rfl ?_
    refine x_iconst 5 (z := 5) dX19_pack_36 rfl (by decide) rfl ?_
    refine y_bast (x' := 5) dX19_pack_37 ⟨8300, i100, by decide⟩ (by decide) rfl ?_
    refine x_aload_n 0 dX19_pack_38 rfl rfl rfl rfl rfl ?_
    refine y_getF 78 6 (c := 18) (z := 46) dX19_pack_39 i83 rfl in_X19 q1298 rfl rfl rfl fn_83_6 (Nat.le_trans (Nat.le_of_ble_eq_true rfl) hn) rfl ?_
    refine x_aload_n 0 dX19_pack_42 rfl rfl rfl rfl rfl ?_
    refine y_getF 47 23 (c := 18) (z := 100) dX19_pack_43 i83 rfl in_X19 q1315 rfl rfl rfl fn_83_23 (Nat.le_trans (Nat.le_of_ble_eq_true rfl) hn) rfl ?_
    refine x_iconst 1 (z := 1) dX19_pack_46 rfl (by decide) rfl ?_
    refine x_iload_n 1 dX19_pack_47 rfl rfl rfl ?_
    refine x_iload_n 2 dX19_pack_48 rfl rfl rfl ?_
    refine y_Vv 407 (M := mX13_write) (As := [(2, 100), (0, 1), (0, a1), (0, a2)]) (st := []) dX19_pack_49 i46 rfl q2860 q2383 q2384 q380 q2385 rfl hmX13_write rfl rfl rfl rfl rfl rfl rfl (k_mono h (fun r11 w12 h => ?_))
    refine x_aload_n 0 dX19_pack_52 rfl rfl rfl rfl rfl ?_
    refine y_getF 54 0 (c := 18) (z := 27) dX19_pack_53 i83 rfl in_X19 q1292 rfl rfl rfl fn_83_0 (Nat.le_trans (Nat.le_of_ble_eq_true rfl) hn) rfl ?_
    refine x_aload_n 0 dX19_pack_56 rfl rfl rfl rfl rfl ?_
    refine y_getF 47 23 (c := 18) (z := 100) dX19_pack_57 i83 rfl in_X19 q1315 rfl rfl rfl fn_83_23 (Nat.le_trans (Nat.le_of_ble_eq_true rfl) hn) rfl ?_
    refine x_iconst 0 (z := 0) dX19_pack_60 rfl (by decide) rfl ?_
    refine x_iload_n 3 dX19_pack_61 rfl rfl rfl ?_
    refine y_Vi 411 (M := mX8_ofBytes) (As := [(2, 100), (0, 0), (0, b_i (1 + r1))]) (st := []) dX19_pack_62 i27 rfl q2861 q1998 q1999 q375 q2000 rfl hmX8_ofBytes rfl rfl rfl rfl rfl rfl rfl rfl (k_mono h (fun r13 w14 h => ?_))
    exact y_iret dX19_pack_65 rfl h
abbrev LX19_keyed_30 (d n : Nat) (Q : Int → bW → Prop) (X : String → bW → Prop) (a1 : Int) (a2 : Int) (a3 : Int) (s0 : Int) (w : bW) : Prop := b_Y (d + 1) mX19_keyed n Q X 30 [(2, 83), (0, a1), (0, a2), (0, a3), (9, 0), (9, 0), (9, 0), (9, 0), (9, 0), (9, 0), (9, 0), (9, 0), (9, 0), (9, 0)] [(0, s0), (2, 83)] w
abbrev LX19_keyed_136 (d n : Nat) (Q : Int → bW → Prop) (X : String → bW → Prop) (a1 : Int) (a2 : Int) (a3 : Int) (a5 : Int) (a7 : Int) (a8 : Int) (s0 : Int) (w : bW) : Prop := b_Y (d + 1) mX19_keyed n Q X 136 [(2, 83), (0, a1), (0, a2), (0, a3), (9, 0), (0, a5), (9, 0), (0, a7), (0, a8), (9, 0), (9, 0), (9, 0), (9, 0), (9, 0)] [(0, s0)] w
abbrev LX19_keyed_204 (d n : Nat) (Q : Int → bW → Prop) (X : String → bW → Prop) (a1 : Int) (a2 : Int) (a3 : Int) (a5 : Int) (a7 : Int) (a9 : Int) (s0 : Int) (w : bW) : Prop := b_Y (d + 1) mX19_keyed n Q X 204 [(2, 83), (0, a1), (0, a2), (0, a3), (9, 0), (0, a5), (9, 0), (0, a7), (9, 0), (0, a9), (9, 0), (9, 0), (9, 0), (9, 0)] [(0, s0)] w
abbrev LX19_keyed_276 (d n : Nat) (Q : Int → bW → Prop) (X : String → bW → Prop) (a1 : Int) (a2 : Int) (a3 : Int) (a5 : Int) (a7 : Int) (a9 : Int) (a10 : Int) (a11 : Int) (s0 : Int) (w : bW) : Prop := b_Y (d + 1) mX19_keyed n Q X 276 [(2, 83), (0, a1), (0, a2), (0, a3), (9, 0), (0, a5), (9, 0), (0, a7), (9, 0), (0, a9), (0, a10), (0, a11), (9, 0), (9, 0)] [(0, s0)] w
theorem rX19_keyed {d n : Nat} {w : bW} {Q : Int → bW → Prop} {X : String → bW → Prop} (hn : 143 ≤ n) (a1 : Int) (a2 : Int) (a3 : Int) (h : if a1 = 91 then (LX19_keyed_30 d n Q X a1 a2 a3 2 w) else (if a1 ≠ 92 then (LX19_keyed_30 d n Q X a1 a2 a3 1 w) else (LX19_keyed_30 d n Q X a1 a2 a3 2 w))) : b_K (d + 1) mX19_keyed [(2, 83), (0, a1), (0, a2), (0, a3)] n w Q X := by
  refine k_of (by decide) rfl rfl rfl (ls := [(2, 83), (0, a1), (0, a2), (0, a3), (9, 0), (9, 0), (9, 0), (9, 0), (9, 0), (9, 0), (9, 0), (9, 0), (9, 0), (9, 0)]) rfl ?_
  refine x_iload_n 1 dX19_keyed_0 rfl rfl rfl ?_
  refine x_bipush 91 (z := 91) dX19_keyed_1 rfl (by decide) rfl ?_
  refine x_icmp_eq (t := 12) 9 dX19_keyed_3 rfl rfl (b_ite h (fun hc h => ?_) (fun hc h => ?_))
  · refine x_iconst 1 (z := 1) dX19_keyed_12 rfl (by decide) rfl ?_
    refine x_goto 4 (q := 17) dX19_keyed_13 rfl ?_
    refine x_istore 4 (ls' := [(2, 83), (0, a1), (0, a2), (0, a3), (0, 1), (9, 0), (9, 0), (9, 0), (9, 0), (9, 0), (9, 0), (9, 0), (9, 0), (9, 0)]) dX19_keyed_17 rfl rfl rfl ?_
    refine x_aload_n 0 dX19_keyed_19 rfl rfl rfl rfl rfl ?_
    refine x_iload 4 dX19_keyed_20 rfl rfl ?_
    refine x_if_eq (t := 29) 7 dX19_keyed_22 rfl rfl (b_ifF (by decide) ?_)
    refine x_iconst 2 (z := 2) dX19_keyed_25 rfl (by decide) rfl ?_
    refine x_goto 4 (q := 30) dX19_keyed_26 rfl ?_
    exact x_fg (fgk (fgk (fgk (fgk (fgd (fgk (fgk (fgk (fgk (fgk (fgk (fgk (fgk (fgk (fg0))))))))))))))) h
  · refine x_iload_n 1 dX19_keyed_6 rfl rfl rfl ?_
    refine x_bipush 92 (z := 92) dX19_keyed_7 rfl (by decide) rfl ?_
    refine x_icmp_ne (t := 16) 7 dX19_keyed_9 rfl rfl (b_ite h (fun hc h => ?_) (fun hc h => ?_))
    · refine x_iconst 0 (z := 0) dX19_keyed_16 rfl (by decide) rfl ?_
      refine x_istore 4 (ls' := [(2, 83), (0, a1), (0, a2), (0, a3), (0, 0), (9, 0), (9, 0), (9, 0), (9, 0), (9, 0), (9, 0), (9, 0), (9, 0), (9, 0)]) dX19_keyed_17 rfl rfl rfl ?_
      refine x_aload_n 0 dX19_keyed_19 rfl rfl rfl rfl rfl ?_
      refine x_iload 4 dX19_keyed_20 rfl rfl ?_
      refine x_if_eq (t := 29) 7 dX19_keyed_22 rfl rfl (b_ifT (by decide) ?_)
      refine x_iconst 1 (z := 1) dX19_keyed_29 rfl (by decide) rfl ?_
      exact x_fg (fgk (fgk (fgk (fgk (fgd (fgk (fgk (fgk (fgk (fgk (fgk (fgk (fgk (fgk (fg0))))))))))))))) h
    · refine x_iconst 1 (z := 1) dX19_keyed_12 rfl (by decide) rfl ?_
      refine x_goto 4 (q := 17) dX19_keyed_13 rfl ?_
      refine x_istore 4 (ls' := [(2, 83), (0, a1), (0, a2), (0, a3), (0, 1), (9, 0), (9, 0), (9, 0), (9, 0), (9, 0), (9, 0), (9, 0), (9, 0), (9, 0)]) dX19_keyed_17 rfl rfl rfl ?_
      refine x_aload_n 0 dX19_keyed_19 rfl rfl rfl rfl rfl ?_
      refine x_iload 4 dX19_keyed_20 rfl rfl ?_
      refine x_if_eq (t := 29) 7 dX19_keyed_22 rfl rfl (b_ifF (by decide) ?_)
      refine x_iconst 2 (z := 2) dX19_keyed_25 rfl (by decide) rfl ?_
      refine x_goto 4 (q := 30) dX19_keyed_26 rfl ?_
      exact x_fg (fgk (fgk (fgk (fgk (fgd (fgk (fgk (fgk (fgk (fgk (fgk (fgk (fgk (fgk (fg0))))))))))))))) h
theorem sX19_keyed_30 {d n : Nat} {w : bW} {Q : Int → bW → Prop} {X : String → bW → Prop} (hn : 143 ≤ n) (a1 : Int) (a2 : Int) (a3 : Int) (s0 : Int) (h : b_K d mX19_at [(2, 83), (0, s0)] n w (fun r1 w2 => b_K d mX8_many [(2, 27), (0, r1)] n w2 (fun r3 w4 => b_K d mJ11_numberOfLeadingZeros [(0, r3)] n w4 (fun r5 w6 => b_K d mX19_length [(2, 83), (0, 0)] n w6 (fun r7 w8 => b_K d mX18_use [(2, 82), (1, b_l (10 + (b_l ((b_i ((b_div r7 8) + 20)) * (b_i (32 - r5))))))] n w8 (fun r9 w10 => b_K d mX19_pop [(2, 83)] n w10 (fun r11 w12 => if a1 ≠ 91 then (b_K d mX10_find [(2, 38), (0, r1), (0, r11), (0, a2)] n w12 (fun r13 w14 => if r13 = 12 then (LX19_keyed_136 d n Q X a1 a2 a3 r1 r11 r13 0 w14) else (LX19_keyed_136 d n Q X a1 a2 a3 r1 r11 r13 1 w14)) X) else (if a3 = 0 then (b_K d mX10_find [(2, 38), (0, r1), (0, r11), (0, a2)] n w12 (fun r15 w16 => if r15 = 12 then (LX19_keyed_136 d n Q X a1 a2 a3 r1 r11 r15 0 w16) else (LX19_keyed_136 d n Q X a1 a2 a3 r1 r11 r15 1 w16)) X) else (b_K d mX19_at [(2, 83), (0, 0)] n w12 (fun r17 w18 => if r17 = 8 then (b_K d mX10_find [(2, 38), (0, r1), (0, r11), (0, a2)] n w18 (fun r19 w20 => if r19 = 12 then (LX19_keyed_136 d n Q X a1 a2 a3 r1 r11 r19 0 w20) else (LX19_keyed_136 d n Q X a1 a2 a3 r1 r11 r19 1 w20)) X) else (LX19_keyed_136 d n Q X a1 a2 a3 r1 r11 12 0 w18)) X))) X) X) X) X) X) X) : LX19_keyed_30 d n Q X a1 a2 a3 s0 w := by
  have i27 := iz27 (Nat.le_trans (Nat.le_of_ble_eq_true rfl) hn)
  have i38 := iz38 (Nat.le_trans (Nat.le_of_ble_eq_true rfl) hn)
  have i82 := iz82 (Nat.le_trans (Nat.le_of_ble_eq_true rfl) hn)
  have i83 := iz83 (Nat.le_trans (Nat.le_of_ble_eq_true rfl) hn)
  refine y_Vi 102 (M := mX19_at) (As := [(0, s0)]) (st := []) dX19_keyed_30 i83 rfl q2651 q2653 qs125 q386 q2654 rfl hmX19_at rfl rfl rfl rfl rfl rfl rfl rfl (k_mono h (fun r1 w2 h => ?_))
  refine x_istore 5 (ls' := [(2, 83), (0, a1), (0, a2), (0, a3), (9, 0), (0, r1), (9, 0), (9, 0), (9, 0), (9, 0), (9, 0), (9, 0), (9, 0), (9, 0)]) dX19_keyed_33 rfl rfl rfl ?_
  refine x_bipush 32 (z := 32) dX19_keyed_35 rfl (by decide) rfl ?_
  refine x_aload_n 0 dX19_keyed_37 rfl rfl rfl rfl rfl ?_
  refine y_getF 54 0 (c := 18) (z := 27) dX19_keyed_38 i83 rfl in_X19 q1292 rfl rfl rfl fn_83_0 (Nat.le_trans (Nat.le_of_ble_eq_true rfl) hn) rfl ?_
  refine x_iload 5 dX19_keyed_41 rfl rfl ?_
  refine y_Vi 245 (M := mX8_many) (As := [(0, r1)]) (st := [(0, 32)]) dX19_keyed_43 i27 rfl q2605 q2135 q2136 q375 q2137 rfl hmX8_many rfl rfl rfl rfl rfl rfl rfl rfl (k_mono h (fun r3 w4 h => ?_))
  refine y_Si 415 (M := mJ11_numberOfLeadingZeros) (As := [(0, r3)]) (st := [(0, 32)]) dX19_keyed_46 q2935 q1756 q399 q1757 hmJ11_numberOfLeadingZeros rfl rfl rfl rfl rfl rfl rfl rfl (k_mono h (fun r5 w6 h => ?_))
  refine x_isub dX19_keyed_49 rfl ?_
  refine x_istore 6 (ls' := [(2, 83), (0, a1), (0, a2), (0, a3), (9, 0), (0, r1), (0, b_i (32 - r5)), (9, 0), (9, 0), (9, 0), (9, 0), (9, 0), (9, 0), (9, 0)]) dX19_keyed_50 rfl rfl rfl ?_
  refine x_aload_n 0 dX19_keyed_52 rfl rfl rfl rfl rfl ?_
  refine y_getF 94 10 (c := 18) (z := 82) dX19_keyed_53 i83 rfl in_X19 q1302 rfl rfl rfl fn_83_10 (Nat.le_trans (Nat.le_of_ble_eq_true rfl) hn) rfl ?_
  refine x_ldc2 206 (x := 10) dX19_keyed_56 q2606 rfl (by decide) rfl ?_
  refine x_aload_n 0 dX19_keyed_59 rfl rfl rfl rfl rfl ?_
  refine x_iconst 0 (z := 0) dX19_keyed_60 rfl (by decide) rfl ?_
  refine y_Vi 235 (M := mX19_length) (As := [(0, 0)]) (st := [(1, 10), (2, 82)]) dX19_keyed_61 i83 rfl q2696 q2698 qs135 q386 q2699 rfl hmX19_length rfl rfl rfl rfl rfl rfl rfl rfl (k_mono h (fun r7 w8 h => ?_))
  refine x_bipush 8 (z := 8) dX19_keyed_64 rfl (by decide) rfl ?_
  refine x_idiv dX19_keyed_66 (by decide) rfl ?_
  refine x_bipush 20 (z := 20) dX19_keyed_67 rfl (by decide) rfl ?_
  refine x_iadd dX19_keyed_69 rfl ?_
  refine x_i2l dX19_keyed_70 rfl ?_
  refine x_iload 6 dX19_keyed_71 rfl rfl ?_
  refine x_i2l dX19_keyed_73 rfl ?_
  refine x_lmul dX19_keyed_74 rfl ?_
  refine x_ladd dX19_keyed_75 rfl ?_
  refine y_Vv 183 (M := mX18_use) (As := [(1, b_l (10 + (b_l ((b_i ((b_div r7 8) + 20)) * (b_i (32 - r5))))))]) (st := []) dX19_keyed_76 i82 rfl q2607 q2500 q2501 q385 q2502 rfl hmX18_use rfl rfl rfl rfl rfl rfl rfl (k_mono h (fun r9 w10 h => ?_))
  refine x_aload_n 0 dX19_keyed_79 rfl rfl rfl rfl rfl ?_
  refine y_Vi 139 (M := mX19_pop) (As := []) (st := []) dX19_keyed_80 i83 rfl q2583 q2585 qs112 q386 q2586 rfl hmX19_pop rfl rfl rfl rfl rfl rfl rfl rfl (k_mono h (fun r11 w12 h => ?_))
  refine x_istore 7 (ls' := [(2, 83), (0, a1), (0, a2), (0, a3), (9, 0), (0, r1), (0, b_i (32 - r5)), (0, r11), (9, 0), (9, 0), (9, 0), (9, 0), (9, 0), (9, 0)]) dX19_keyed_83 rfl rfl rfl ?_
  refine x_iload_n 1 dX19_keyed_85 rfl rfl rfl ?_
  refine x_bipush 91 (z := 91) dX19_keyed_86 rfl (by decide) rfl ?_
  refine x_icmp_ne (t := 110) 22 dX19_keyed_88 rfl rfl (b_ite h (fun hc h => ?_) (fun hc h => ?_))
  · refine x_aload_n 0 dX19_keyed_110 rfl rfl rfl rfl rfl ?_
    refine y_getF 74 5 (c := 18) (z := 38) dX19_keyed_111 i83 rfl in_X19 q1297 rfl rfl rfl fn_83_5 (Nat.le_trans (Nat.le_of_ble_eq_true rfl) hn) rfl ?_
    refine x_iload 5 dX19_keyed_114 rfl rfl ?_
    refine x_iload 7 dX19_keyed_116 rfl rfl ?_
    refine x_iload_n 2 dX19_keyed_118 rfl rfl rfl ?_
    refine y_Vi 420 (M := mX10_find) (As := [(0, r1), (0, r11), (0, a2)]) (st := []) dX19_keyed_119 i38 rfl q2936 q2937 q2938 q377 q2939 rfl hmX10_find rfl rfl rfl rfl rfl rfl rfl rfl (k_mono h (fun r13 w14 h => ?_))
    refine x_istore 8 (ls' := [(2, 83), (0, a1), (0, a2), (0, a3), (9, 0), (0, r1), (0, b_i (32 - r5)), (0, r11), (0, r13), (9, 0), (9, 0), (9, 0), (9, 0), (9, 0)]) dX19_keyed_122 rfl rfl rfl ?_
    refine x_iload 8 dX19_keyed_124 rfl rfl ?_
    refine x_bipush 12 (z := 12) dX19_keyed_126 rfl (by decide) rfl ?_
    refine x_icmp_eq (t := 135) 7 dX19_keyed_128 rfl rfl (b_ite h (fun hc h => ?_) (fun hc h => ?_))
    · refine x_iconst 0 (z := 0) dX19_keyed_135 rfl (by decide) rfl ?_
      exact x_fg (fgk (fgk (fgk (fgk (fgk (fgk (fgd (fgk (fgk (fgk (fgk (fgk (fgk (fgk (fg0))))))))))))))) h
    · refine x_iconst 1 (z := 1) dX19_keyed_131 rfl (by decide) rfl ?_
      refine x_goto 4 (q := 136) dX19_keyed_132 rfl ?_
      exact x_fg (fgk (fgk (fgk (fgk (fgk (fgk (fgd (fgk (fgk (fgk (fgk (fgk (fgk (fgk (fg0))))))))))))))) h
  · refine x_iload_n 3 dX19_keyed_91 rfl rfl rfl ?_
    refine x_if_eq (t := 110) 18 dX19_keyed_92 rfl rfl (b_ite h (fun hc h => ?_) (fun hc h => ?_))
    · refine x_aload_n 0 dX19_keyed_110 rfl rfl rfl rfl rfl ?_
      refine y_getF 74 5 (c := 18) (z := 38) dX19_keyed_111 i83 rfl in_X19 q1297 rfl rfl rfl fn_83_5 (Nat.le_trans (Nat.le_of_ble_eq_true rfl) hn) rfl ?_
      refine x_iload 5 dX19_keyed_114 rfl rfl ?_
      refine x_iload 7 dX19_keyed_116 rfl rfl ?_
      refine x_iload_n 2 dX19_keyed_118 rfl rfl rfl ?_
      refine y_Vi 420 (M := mX10_find) (As := [(0, r1), (0, r11), (0, a2)]) (st := []) dX19_keyed_119 i38 rfl q2936 q2937 q2938 q377 q2939 rfl hmX10_find rfl rfl rfl rfl rfl rfl rfl rfl (k_mono h (fun r15 w16 h => ?_))
      refine x_istore 8 (ls' := [(2, 83), (0, a1), (0, a2), (0, a3), (9, 0), (0, r1), (0, b_i (32 - r5)), (0, r11), (0, r15), (9, 0), (9, 0), (9, 0), (9, 0), (9, 0)]) dX19_keyed_122 rfl rfl rfl ?_
      refine x_iload 8 dX19_keyed_124 rfl rfl ?_
      refine x_bipush 12 (z := 12) dX19_keyed_126 rfl (by decide) rfl ?_
      refine x_icmp_eq (t := 135) 7 dX19_keyed_128 rfl rfl (b_ite h (fun hc h => ?_) (fun hc h => ?_))
      · refine x_iconst 0 (z := 0) dX19_keyed_135 rfl (by decide) rfl ?_
        exact x_fg (fgk (fgk (fgk (fgk (fgk (fgk (fgd (fgk (fgk (fgk (fgk (fgk (fgk (fgk (fg0))))))))))))))) h
      · refine x_iconst 1 (z := 1) dX19_keyed_131 rfl (by decide) rfl ?_
        refine x_goto 4 (q := 136) dX19_keyed_132 rfl ?_
        exact x_fg (fgk (fgk (fgk (fgk (fgk (fgk (fgd (fgk (fgk (fgk (fgk (fgk (fgk (fgk (fg0))))))))))))))) h
    · refine x_aload_n 0 dX19_keyed_95 rfl rfl rfl rfl rfl ?_
      refine x_iconst 0 (z := 0) dX19_keyed_96 rfl (by decide) rfl ?_
      refine y_Vi 102 (M := mX19_at) (As := [(0, 0)]) (st := []) dX19_keyed_97 i83 rfl q2651 q2653 qs125 q386 q2654 rfl hmX19_at rfl rfl rfl rfl rfl rfl rfl rfl (k_mono h (fun r17 w18 h => ?_))
      refine x_bipush 8 (z := 8) dX19_keyed_100 rfl (by decide) rfl ?_
      refine x_icmp_eq (t := 110) 8 dX19_keyed_102 rfl rfl (b_ite h (fun hc h => ?_) (fun hc h => ?_))
      · refine x_aload_n 0 dX19_keyed_110 rfl rfl rfl rfl rfl ?_
        refine y_getF 74 5 (c := 18) (z := 38) dX19_keyed_111 i83 rfl in_X19 q1297 rfl rfl rfl fn_83_5 (Nat.le_trans (Nat.le_of_ble_eq_true rfl) hn) rfl ?_
        refine x_iload 5 dX19_keyed_114 rfl rfl ?_
        refine x_iload 7 dX19_keyed_116 rfl rfl ?_
        refine x_iload_n 2 dX19_keyed_118 rfl rfl rfl ?_
        refine y_Vi 420 (M := mX10_find) (As := [(0, r1), (0, r11), (0, a2)]) (st := []) dX19_keyed_119 i38 rfl q2936 q2937 q2938 q377 q2939 rfl hmX10_find rfl rfl rfl rfl rfl rfl rfl rfl (k_mono h (fun r19 w20 h => ?_))
        refine x_istore 8 (ls' := [(2, 83), (0, a1), (0, a2), (0, a3), (9, 0), (0, r1), (0, b_i (32 - r5)), (0, r11), (0, r19), (9, 0), (9, 0), (9, 0), (9, 0), (9, 0)]) dX19_keyed_122 rfl rfl rfl ?_
        refine x_iload 8 dX19_keyed_124 rfl rfl ?_
        refine x_bipush 12 (z := 12) dX19_keyed_126 rfl (by decide) rfl ?_
        refine x_icmp_eq (t := 135) 7 dX19_keyed_128 rfl rfl (b_ite h (fun hc h => ?_) (fun hc h => ?_))
        · refine x_iconst 0 (z := 0) dX19_keyed_135 rfl (by decide) rfl ?_
          exact x_fg (fgk (fgk (fgk (fgk (fgk (fgk (fgd (fgk (fgk (fgk (fgk (fgk (fgk (fgk (fg0))))))))))))))) h
        · refine x_iconst 1 (z := 1) dX19_keyed_131 rfl (by decide) rfl ?_
          refine x_goto 4 (q := 136) dX19_keyed_132 rfl ?_
          exact x_fg (fgk (fgk (fgk (fgk (fgk (fgk (fgd (fgk (fgk (fgk (fgk (fgk (fgk (fgk (fg0))))))))))))))) h
      · refine x_bipush 12 (z := 12) dX19_keyed_105 rfl (by decide) rfl ?_
        refine x_goto 15 (q := 122) dX19_keyed_107 rfl ?_
        refine x_istore 8 (ls' := [(2, 83), (0, a1), (0, a2), (0, a3), (9, 0), (0, r1), (0, b_i (32 - r5)), (0, r11), (0, 12), (9, 0), (9, 0), (9, 0), (9, 0), (9, 0)]) dX19_keyed_122 rfl rfl rfl ?_
        refine x_iload 8 dX19_keyed_124 rfl rfl ?_
        refine x_bipush 12 (z := 12) dX19_keyed_126 rfl (by decide) rfl ?_
        refine x_icmp_eq (t := 135) 7 dX19_keyed_128 rfl rfl (b_ifT (by decide) ?_)
        refine x_iconst 0 (z := 0) dX19_keyed_135 rfl (by decide) rfl ?_
        exact x_fg (fgk (fgk (fgk (fgk (fgk (fgk (fgd (fgk (fgk (fgk (fgk (fgk (fgk (fgk (fg0))))))))))))))) h
theorem sX19_keyed_136 {d n : Nat} {w : bW} {Q : Int → bW → Prop} {X : String → bW → Prop} (hn : 143 ≤ n) (a1 : Int) (a2 : Int) (a3 : Int) (a5 : Int) (a7 : Int) (a8 : Int) (s0 : Int) (h : if a1 ≠ 89 then (if a1 = 91 then (LX19_keyed_204 d n Q X a1 a2 a3 a5 a7 s0 8 w) else (if s0 ≠ 0 then (b_K d mX8_cell [(2, 27), (0, a8), (0, 3)] n w (fun r1 w2 => b_K d mX8_wrap [(2, 27), (0, 4), (0, r1)] n w2 (fun r3 w4 => LX19_keyed_204 d n Q X a1 a2 a3 a5 a7 s0 r3 w4) X) X) else (LX19_keyed_204 d n Q X a1 a2 a3 a5 a7 s0 8 w))) else (if s0 = 0 then (b_K d mX19_push [(2, 83), (0, 4)] n (b_up w 83 17 (b_i ((w 83 17) - 1))) (fun r5 w6 => Q 0 w6) X) else (b_K d mX19_push [(2, 83), (0, 6)] n (b_up w 83 17 (b_i ((w 83 17) - 1))) (fun r7 w8 => Q 0 w8) X))) : LX19_keyed_136 d n Q X a1 a2 a3 a5 a7 a8 s0 w := by
  have i27 := iz27 (Nat.le_trans (Nat.le_of_ble_eq_true rfl) hn)
  have i83 := iz83 (Nat.le_trans (Nat.le_of_ble_eq_true rfl) hn)
  refine x_istore 9 (ls' := [(2, 83), (0, a1), (0, a2), (0, a3), (9, 0), (0, a5), (9, 0), (0, a7), (0, a8), (0, s0), (9, 0), (9, 0), (9, 0), (9, 0)]) dX19_keyed_136 rfl rfl rfl ?_
  refine x_iload_n 1 dX19_keyed_138 rfl rfl rfl ?_
  refine x_bipush 89 (z := 89) dX19_keyed_139 rfl (by decide) rfl ?_
  refine x_icmp_ne (t := 170) 29 dX19_keyed_141 rfl rfl (b_ite h (fun hc h => ?_) (fun hc h => ?_))
  · refine x_iload_n 1 dX19_keyed_170 rfl rfl rfl ?_
    refine x_bipush 91 (z := 91) dX19_keyed_171 rfl (by decide) rfl ?_
    refine x_icmp_eq (t := 181) 8 dX19_keyed_173 rfl rfl (b_ite h (fun hc h => ?_) (fun hc h => ?_))
    · refine x_bipush 8 (z := 8) dX19_keyed_181 rfl (by decide) rfl ?_
      refine x_goto 21 (q := 204) dX19_keyed_183 rfl ?_
      exact x_fg (fgk (fgk (fgk (fgk (fgk (fgk (fgk (fgk (fgd (fgk (fgk (fgk (fgk (fgk (fg0))))))))))))))) h
    · refine x_iload 9 dX19_keyed_176 rfl rfl ?_
      refine x_if_ne (t := 186) 8 dX19_keyed_178 rfl rfl (b_ite h (fun hc h => ?_) (fun hc h => ?_))
      · refine x_aload_n 0 dX19_keyed_186 rfl rfl rfl rfl rfl ?_
        refine y_getF 54 0 (c := 18) (z := 27) dX19_keyed_187 i83 rfl in_X19 q1292 rfl rfl rfl fn_83_0 (Nat.le_trans (Nat.le_of_ble_eq_true rfl) hn) rfl ?_
        refine x_iconst 4 (z := 4) dX19_keyed_190 rfl (by decide) rfl ?_
        refine x_aload_n 0 dX19_keyed_191 rfl rfl rfl rfl rfl ?_
        refine y_getF 54 0 (c := 18) (z := 27) dX19_keyed_192 i83 rfl in_X19 q1292 rfl rfl rfl fn_83_0 (Nat.le_trans (Nat.le_of_ble_eq_true rfl) hn) rfl ?_
        refine x_iload 8 dX19_keyed_195 rfl rfl ?_
        refine x_iconst 3 (z := 3) dX19_keyed_197 rfl (by decide) rfl ?_
        refine y_Vi 199 (M := mX8_cell) (As := [(0, a8), (0, 3)]) (st := [(0, 4), (2, 27)]) dX19_keyed_198 i27 rfl q2595 q2010 q2011 q375 q2012 rfl hmX8_cell rfl rfl rfl rfl rfl rfl rfl rfl (k_mono h (fun r1 w2 h => ?_))
        refine y_Vi 156 (M := mX8_wrap) (As := [(0, 4), (0, r1)]) (st := []) dX19_keyed_201 i27 rfl q2641 q2024 q2025 q375 q2026 rfl hmX8_wrap rfl rfl rfl rfl rfl rfl rfl rfl (k_mono h (fun r3 w4 h => ?_))
        exact x_fg (fgk (fgk (fgk (fgk (fgk (fgk (fgk (fgk (fgd (fgk (fgk (fgk (fgk (fgk (fg0))))))))))))))) h
      · refine x_bipush 8 (z := 8) dX19_keyed_181 rfl (by decide) rfl ?_
        refine x_goto 21 (q := 204) dX19_keyed_183 rfl ?_
        exact x_fg (fgk (fgk (fgk (fgk (fgk (fgk (fgk (fgk (fgd (fgk (fgk (fgk (fgk (fgk (fg0))))))))))))))) h
  · refine x_aload_n 0 dX19_keyed_144 rfl rfl rfl rfl rfl ?_
    refine x_dup dX19_keyed_145 rfl rfl ?_
    refine y_get 98 17 (c := 18) (z := w 83 17) dX19_keyed_146 i83 rfl in_X19 q1309 rfl rfl rfl rfl rfl ?_
    refine x_iconst 1 (z := 1) dX19_keyed_149 rfl (by decide) rfl ?_
    refine x_isub dX19_keyed_150 rfl ?_
    refine x_put 98 17 (c := 18) dX19_keyed_151 i83 rfl in_X19 tyX19_ok nmX19 q1309 rfl rfl rfl (Or.inl rfl) (Or.inl ⟨rfl, rfl⟩) rfl ?_
    refine x_aload_n 0 dX19_keyed_154 rfl rfl rfl rfl rfl ?_
    refine x_iload 9 dX19_keyed_155 rfl rfl ?_
    refine x_if_eq (t := 165) 8 dX19_keyed_157 rfl rfl (b_ite h (fun hc h => ?_) (fun hc h => ?_))
    · refine x_iconst 4 (z := 4) dX19_keyed_165 rfl (by decide) rfl ?_
      refine y_Vv 122 (M := mX19_push) (As := [(0, 4)]) (st := []) dX19_keyed_166 i83 rfl q2567 q2569 qs108 q386 q2570 rfl hmX19_push rfl rfl rfl rfl rfl rfl rfl (k_mono h (fun r5 w6 h => ?_))
      exact y_vret dX19_keyed_169 rfl h
    · refine x_bipush 6 (z := 6) dX19_keyed_160 rfl (by decide) rfl ?_
      refine x_goto 4 (q := 166) dX19_keyed_162 rfl ?_
      refine y_Vv 122 (M := mX19_push) (As := [(0, 6)]) (st := []) dX19_keyed_166 i83 rfl q2567 q2569 qs108 q386 q2570 rfl hmX19_push rfl rfl rfl rfl rfl rfl rfl (k_mono h (fun r7 w8 h => ?_))
      exact y_vret dX19_keyed_169 rfl h
theorem sX19_keyed_204 {d n : Nat} {w : bW} {Q : Int → bW → Prop} {X : String → bW → Prop} (hn : 143 ≤ n) (a1 : Int) (a2 : Int) (a3 : Int) (a5 : Int) (a7 : Int) (a9 : Int) (s0 : Int) (h : if a1 ≠ 90 then (b_K d mX19_pop [(2, 83)] n w (fun r1 w2 => if a3 = 0 then (if r1 ≠ 6 then (LX19_keyed_276 d n Q X a1 a2 a3 a5 a7 a9 s0 r1 0 (b_up w2 83 17 (b_i ((w2 83 17) - 1)))) else (LX19_keyed_276 d n Q X a1 a2 a3 a5 a7 a9 s0 r1 1 (b_up w2 83 17 (b_i ((w2 83 17) - 1))))) else (if r1 = 8 then (LX19_keyed_276 d n Q X a1 a2 a3 a5 a7 a9 s0 r1 0 (b_up w2 83 17 (b_i ((w2 83 17) - 1)))) else (LX19_keyed_276 d n Q X a1 a2 a3 a5 a7 a9 s0 r1 1 (b_up w2 83 17 (b_i ((w2 83 17) - 1)))))) X) else (b_K d mX19_push [(2, 83), (0, s0)] n (b_up w 83 17 (b_i ((w 83 17) - 1))) (fun r3 w4 => Q 0 w4) X)) : LX19_keyed_204 d n Q X a1 a2 a3 a5 a7 a9 s0 w := by
  have i83 := iz83 (Nat.le_trans (Nat.le_of_ble_eq_true rfl) hn)
  refine x_istore 10 (ls' := [(2, 83), (0, a1), (0, a2), (0, a3), (9, 0), (0, a5), (9, 0), (0, a7), (9, 0), (0, a9), (0, s0), (9, 0), (9, 0), (9, 0)]) dX19_keyed_204 rfl rfl rfl ?_
  refine x_iload_n 1 dX19_keyed_206 rfl rfl rfl ?_
  refine x_bipush 90 (z := 90) dX19_keyed_207 rfl (by decide) rfl ?_
  refine x_icmp_ne (t := 229) 20 dX19_keyed_209 rfl rfl (b_ite h (fun hc h => ?_) (fun hc h => ?_))
  · refine x_aload_n 0 dX19_keyed_229 rfl rfl rfl rfl rfl ?_
    refine y_Vi 139 (M := mX19_pop) (As := []) (st := []) dX19_keyed_230 i83 rfl q2583 q2585 qs112 q386 q2586 rfl hmX19_pop rfl rfl rfl rfl rfl rfl rfl rfl (k_mono h (fun r1 w2 h => ?_))
    refine x_istore 11 (ls' := [(2, 83), (0, a1), (0, a2), (0, a3), (9, 0), (0, a5), (9, 0), (0, a7), (9, 0), (0, a9), (0, s0), (0, r1), (9, 0), (9, 0)]) dX19_keyed_233 rfl rfl rfl ?_
    refine x_aload_n 0 dX19_keyed_235 rfl rfl rfl rfl rfl ?_
    refine x_dup dX19_keyed_236 rfl rfl ?_
    refine y_get 98 17 (c := 18) (z := w2 83 17) dX19_keyed_237 i83 rfl in_X19 q1309 rfl rfl rfl rfl rfl ?_
    refine x_iconst 1 (z := 1) dX19_keyed_240 rfl (by decide) rfl ?_
    refine x_isub dX19_keyed_241 rfl ?_
    refine x_put 98 17 (c := 18) dX19_keyed_242 i83 rfl in_X19 tyX19_ok nmX19 q1309 rfl rfl rfl (Or.inl rfl) (Or.inl ⟨rfl, rfl⟩) rfl ?_
    refine x_iload_n 3 dX19_keyed_245 rfl rfl rfl ?_
    refine x_if_eq (t := 264) 18 dX19_keyed_246 rfl rfl (b_ite h (fun hc h => ?_) (fun hc h => ?_))
    · refine x_iload 11 dX19_keyed_264 rfl rfl ?_
      refine x_bipush 6 (z := 6) dX19_keyed_266 rfl (by decide) rfl ?_
      refine x_icmp_ne (t := 275) 7 dX19_keyed_268 rfl rfl (b_ite h (fun hc h => ?_) (fun hc h => ?_))
      · refine x_iconst 0 (z := 0) dX19_keyed_275 rfl (by decide) rfl ?_
        exact x_fg (fgk (fgk (fgk (fgk (fgk (fgk (fgk (fgk (fgk (fgk (fgk (fgk (fgk (fgk (fg0))))))))))))))) h
      · refine x_iconst 1 (z := 1) dX19_keyed_271 rfl (by decide) rfl ?_
        refine x_goto 4 (q := 276) dX19_keyed_272 rfl ?_
        exact x_fg (fgk (fgk (fgk (fgk (fgk (fgk (fgk (fgk (fgk (fgk (fgk (fgk (fgk (fgk (fg0))))))))))))))) h
    · refine x_iload 11 dX19_keyed_249 rfl rfl ?_
      refine x_bipush 8 (z := 8) dX19_keyed_251 rfl (by decide) rfl ?_
      refine x_icmp_eq (t := 260) 7 dX19_keyed_253 rfl rfl (b_ite h (fun hc h => ?_) (fun hc h => ?_))
      · refine x_iconst 0 (z := 0) dX19_keyed_260 rfl (by decide) rfl ?_
        refine x_goto 15 (q := 276) dX19_keyed_261 rfl ?_
        exact x_fg (fgk (fgk (fgk (fgk (fgk (fgk (fgk (fgk (fgk (fgk (fgk (fgk (fgk (fgk (fg0))))))))))))))) h
      · refine x_iconst 1 (z := 1) dX19_keyed_256 rfl (by decide) rfl ?_
        refine x_goto 19 (q := 276) dX19_keyed_257 rfl ?_
        exact x_fg (fgk (fgk (fgk (fgk (fgk (fgk (fgk (fgk (fgk (fgk (fgk (fgk (fgk (fgk (fg0))))))))))))))) h
  · refine x_aload_n 0 dX19_keyed_212 rfl rfl rfl rfl rfl ?_
    refine x_dup dX19_keyed_213 rfl rfl ?_
    refine y_get 98 17 (c := 18) (z := w 83 17) dX19_keyed_214 i83 rfl in_X19 q1309 rfl rfl rfl rfl rfl ?_
    refine x_iconst 1 (z := 1) dX19_keyed_217 rfl (by decide) rfl ?_
    refine x_isub dX19_keyed_218 rfl ?_
    refine x_put 98 17 (c := 18) dX19_keyed_219 i83 rfl in_X19 tyX19_ok nmX19 q1309 rfl rfl rfl (Or.inl rfl) (Or.inl ⟨rfl, rfl⟩) rfl ?_
    refine x_aload_n 0 dX19_keyed_222 rfl rfl rfl rfl rfl ?_
    refine x_iload 10 dX19_keyed_223 rfl rfl ?_
    refine y_Vv 122 (M := mX19_push) (As := [(0, s0)]) (st := []) dX19_keyed_225 i83 rfl q2567 q2569 qs108 q386 q2570 rfl hmX19_push rfl rfl rfl rfl rfl rfl rfl (k_mono h (fun r3 w4 h => ?_))
    exact y_vret dX19_keyed_228 rfl h
theorem sX19_keyed_276 {d n : Nat} {w : bW} {Q : Int → bW → Prop} {X : String → bW → Prop} (hn : 143 ≤ n) (a1 : Int) (a2 : Int) (a3 : Int) (a5 : Int) (a7 : Int) (a9 : Int) (a10 : Int) (a11 : Int) (s0 : Int) (h : if s0 = 0 then (if a9 = 0 then (b_K d mX19_push [(2, 83), (0, a5)] n w (fun r1 w2 => if a1 ≠ 92 then (Q 0 w2) else (b_K d mX19_push [(2, 83), (0, a10)] n w2 (fun r3 w4 => Q 0 w4) X)) X) else (b_K d mX10_remove [(2, 38), (0, a5), (0, a7), (0, a2)] n w (fun r5 w6 => b_K d mX19_push [(2, 83), (0, r5)] n w6 (fun r7 w8 => if a1 ≠ 92 then (Q 0 w8) else (b_K d mX19_push [(2, 83), (0, a10)] n w8 (fun r9 w10 => Q 0 w10) X)) X) X)) else (if a3 = 0 then (b_K d mX10_put [(2, 38), (0, a5), (0, a7), (0, 0), (0, a2)] n w (fun r11 w12 => b_K d mX19_push [(2, 83), (0, r11)] n w12 (fun r13 w14 => if a1 ≠ 92 then (Q 0 w14) else (b_K d mX19_push [(2, 83), (0, a10)] n w14 (fun r15 w16 => Q 0 w16) X)) X) X) else (b_K d mX8_cell [(2, 27), (0, a11), (0, 2)] n w (fun r17 w18 => b_K d mX10_put [(2, 38), (0, a5), (0, a7), (0, r17), (0, a2)] n w18 (fun r19 w20 => b_K d mX19_push [(2, 83), (0, r19)] n w20 (fun r21 w22 => if a1 ≠ 92 then (Q 0 w22) else (b_K d mX19_push [(2, 83), (0, a10)] n w22 (fun r23 w24 => Q 0 w24) X)) X) X) X))) : LX19_keyed_276 d n Q X a1 a2 a3 a5 a7 a9 a10 a11 s0 w := by
  have i27 := iz27 (Nat.le_trans (Nat.le_of_ble_eq_true rfl) hn)
  have i38 := iz38 (Nat.le_trans (Nat.le_of_ble_eq_true rfl) hn)
  have i83 := iz83 (Nat.le_trans (Nat.le_of_ble_eq_true rfl) hn)
  refine x_istore 12 (ls' := [(2, 83), (0, a1), (0, a2), (0, a3), (9, 0), (0, a5), (9, 0), (0, a7), (9, 0), (0, a9), (0, a10), (0, a11), (0, s0), (9, 0)]) dX19_keyed_276 rfl rfl rfl ?_
  refine x_iload 5 dX19_keyed_278 rfl rfl ?_
  refine x_istore 13 (ls' := [(2, 83), (0, a1), (0, a2), (0, a3), (9, 0), (0, a5), (9, 0), (0, a7), (9, 0), (0, a9), (0, a10), (0, a11), (0, s0), (0, a5)]) dX19_keyed_280 rfl rfl rfl ?_
  refine x_iload 12 dX19_keyed_282 rfl rfl ?_
  refine x_if_eq (t := 322) 38 dX19_keyed_284 rfl rfl (b_ite h (fun hc h => ?_) (fun hc h => ?_))
  · refine x_iload 9 dX19_keyed_322 rfl rfl ?_
    refine x_if_eq (t := 341) 17 dX19_keyed_324 rfl rfl (b_ite h (fun hc h => ?_) (fun hc h => ?_))
    · refine x_aload_n 0 dX19_keyed_341 rfl rfl rfl rfl rfl ?_
      refine x_iload 13 dX19_keyed_342 rfl rfl ?_
      refine y_Vv 122 (M := mX19_push) (As := [(0, a5)]) (st := []) dX19_keyed_344 i83 rfl q2567 q2569 qs108 q386 q2570 rfl hmX19_push rfl rfl rfl rfl rfl rfl rfl (k_mono h (fun r1 w2 h => ?_))
      refine x_iload_n 1 dX19_keyed_347 rfl rfl rfl ?_
      refine x_bipush 92 (z := 92) dX19_keyed_348 rfl (by decide) rfl ?_
      refine x_icmp_ne (t := 359) 9 dX19_keyed_350 rfl rfl (b_ite h (fun hc h => ?_) (fun hc h => ?_))
      · exact y_vret dX19_keyed_359 rfl h
      · refine x_aload_n 0 dX19_keyed_353 rfl rfl rfl rfl rfl ?_
        refine x_iload 10 dX19_keyed_354 rfl rfl ?_
        refine y_Vv 122 (M := mX19_push) (As := [(0, a10)]) (st := []) dX19_keyed_356 i83 rfl q2567 q2569 qs108 q386 q2570 rfl hmX19_push rfl rfl rfl rfl rfl rfl rfl (k_mono h (fun r3 w4 h => ?_))
        exact y_vret dX19_keyed_359 rfl h
    · refine x_aload_n 0 dX19_keyed_327 rfl rfl rfl rfl rfl ?_
      refine y_getF 74 5 (c := 18) (z := 38) dX19_keyed_328 i83 rfl in_X19 q1297 rfl rfl rfl fn_83_5 (Nat.le_trans (Nat.le_of_ble_eq_true rfl) hn) rfl ?_
      refine x_iload 5 dX19_keyed_331 rfl rfl ?_
      refine x_iload 7 dX19_keyed_333 rfl rfl ?_
      refine x_iload_n 2 dX19_keyed_335 rfl rfl rfl ?_
      refine y_Vi 427 (M := mX10_remove) (As := [(0, a5), (0, a7), (0, a2)]) (st := []) dX19_keyed_336 i38 rfl q2955 q2956 q2957 q377 q2958 rfl hmX10_remove rfl rfl rfl rfl rfl rfl rfl rfl (k_mono h (fun r5 w6 h => ?_))
      refine x_istore 13 (ls' := [(2, 83), (0, a1), (0, a2), (0, a3), (9, 0), (0, a5), (9, 0), (0, a7), (9, 0), (0, a9), (0, a10), (0, a11), (0, s0), (0, r5)]) dX19_keyed_339 rfl rfl rfl ?_
      refine x_aload_n 0 dX19_keyed_341 rfl rfl rfl rfl rfl ?_
      refine x_iload 13 dX19_keyed_342 rfl rfl ?_
      refine y_Vv 122 (M := mX19_push) (As := [(0, r5)]) (st := []) dX19_keyed_344 i83 rfl q2567 q2569 qs108 q386 q2570 rfl hmX19_push rfl rfl rfl rfl rfl rfl rfl (k_mono h (fun r7 w8 h => ?_))
      refine x_iload_n 1 dX19_keyed_347 rfl rfl rfl ?_
      refine x_bipush 92 (z := 92) dX19_keyed_348 rfl (by decide) rfl ?_
      refine x_icmp_ne (t := 359) 9 dX19_keyed_350 rfl rfl (b_ite h (fun hc h => ?_) (fun hc h => ?_))
      · exact y_vret dX19_keyed_359 rfl h
      · refine x_aload_n 0 dX19_keyed_353 rfl rfl rfl rfl rfl ?_
        refine x_iload 10 dX19_keyed_354 rfl rfl ?_
        refine y_Vv 122 (M := mX19_push) (As := [(0, a10)]) (st := []) dX19_keyed_356 i83 rfl q2567 q2569 qs108 q386 q2570 rfl hmX19_push rfl rfl rfl rfl rfl rfl rfl (k_mono h (fun r9 w10 h => ?_))
        exact y_vret dX19_keyed_359 rfl h
  · refine x_aload_n 0 dX19_keyed_287 rfl rfl rfl rfl rfl ?_
    refine y_getF 74 5 (c := 18) (z := 38) dX19_keyed_288 i83 rfl in_X19 q1297 rfl rfl rfl fn_83_5 (Nat.le_trans (Nat.le_of_ble_eq_true rfl) hn) rfl ?_
    refine x_iload 5 dX19_keyed_291 rfl rfl ?_
    refine x_iload 7 dX19_keyed_293 rfl rfl ?_
    refine x_iload_n 3 dX19_keyed_295 rfl rfl rfl ?_
    refine x_if_eq (t := 312) 16 dX19_keyed_296 rfl rfl (b_ite h (fun hc h => ?_) (fun hc h => ?_))
    · refine x_iconst 0 (z := 0) dX19_keyed_312 rfl (by decide) rfl ?_
      refine x_iload_n 2 dX19_keyed_313 rfl rfl rfl ?_
      refine y_Vi 423 (M := mX10_put) (As := [(0, a5), (0, a7), (0, 0), (0, a2)]) (st := []) dX19_keyed_314 i38 rfl q2941 q2942 q2943 q377 q2944 rfl hmX10_put rfl rfl rfl rfl rfl rfl rfl rfl (k_mono h (fun r11 w12 h => ?_))
      refine x_istore 13 (ls' := [(2, 83), (0, a1), (0, a2), (0, a3), (9, 0), (0, a5), (9, 0), (0, a7), (9, 0), (0, a9), (0, a10), (0, a11), (0, s0), (0, r11)]) dX19_keyed_317 rfl rfl rfl ?_
      refine x_goto 22 (q := 341) dX19_keyed_319 rfl ?_
      refine x_aload_n 0 dX19_keyed_341 rfl rfl rfl rfl rfl ?_
      refine x_iload 13 dX19_keyed_342 rfl rfl ?_
      refine y_Vv 122 (M := mX19_push) (As := [(0, r11)]) (st := []) dX19_keyed_344 i83 rfl q2567 q2569 qs108 q386 q2570 rfl hmX19_push rfl rfl rfl rfl rfl rfl rfl (k_mono h (fun r13 w14 h => ?_))
      refine x_iload_n 1 dX19_keyed_347 rfl rfl rfl ?_
      refine x_bipush 92 (z := 92) dX19_keyed_348 rfl (by decide) rfl ?_
      refine x_icmp_ne (t := 359) 9 dX19_keyed_350 rfl rfl (b_ite h (fun hc h => ?_) (fun hc h => ?_))
      · exact y_vret dX19_keyed_359 rfl h
      · refine x_aload_n 0 dX19_keyed_353 rfl rfl rfl rfl rfl ?_
        refine x_iload 10 dX19_keyed_354 rfl rfl ?_
        refine y_Vv 122 (M := mX19_push) (As := [(0, a10)]) (st := []) dX19_keyed_356 i83 rfl q2567 q2569 qs108 q386 q2570 rfl hmX19_push rfl rfl rfl rfl rfl rfl rfl (k_mono h (fun r15 w16 h => ?_))
        exact y_vret dX19_keyed_359 rfl h
    · refine x_aload_n 0 dX19_keyed_299 rfl rfl rfl rfl rfl ?_
      refine y_getF 54 0 (c := 18) (z := 27) dX19_keyed_300 i83 rfl in_X19 q1292 rfl rfl rfl fn_83_0 (Nat.le_trans (Nat.le_of_ble_eq_true rfl) hn) rfl ?_
      refine x_iload 11 dX19_keyed_303 rfl rfl ?_
      refine x_iconst 2 (z := 2) dX19_keyed_305 rfl (by decide) rfl ?_
      refine y_Vi 199 (M := mX8_cell) (As := [(0, a11), (0, 2)]) (st := [(0, a7), (0, a5), (2, 38)]) dX19_keyed_306 i27 rfl q2595 q2010 q2011 q375 q2012 rfl hmX8_cell rfl rfl rfl rfl rfl rfl rfl rfl (k_mono h (fun r17 w18 h => ?_))
      refine x_goto 4 (q := 313) dX19_keyed_309 rfl ?_
      refine x_iload_n 2 dX19_keyed_313 rfl rfl rfl ?_
      refine y_Vi 423 (M := mX10_put) (As := [(0, a5), (0, a7), (0, r17), (0, a2)]) (st := []) dX19_keyed_314 i38 rfl q2941 q2942 q2943 q377 q2944 rfl hmX10_put rfl rfl rfl rfl rfl rfl rfl rfl (k_mono h (fun r19 w20 h => ?_))
      refine x_istore 13 (ls' := [(2, 83), (0, a1), (0, a2), (0, a3), (9, 0), (0, a5), (9, 0), (0, a7), (9, 0), (0, a9), (0, a10), (0, a11), (0, s0), (0, r19)]) dX19_keyed_317 rfl rfl rfl ?_
      refine x_goto 22 (q := 341) dX19_keyed_319 rfl ?_
      refine x_aload_n 0 dX19_keyed_341 rfl rfl rfl rfl rfl ?_
      refine x_iload 13 dX19_keyed_342 rfl rfl ?_
      refine y_Vv 122 (M := mX19_push) (As := [(0, r19)]) (st := []) dX19_keyed_344 i83 rfl q2567 q2569 qs108 q386 q2570 rfl hmX19_push rfl rfl rfl rfl rfl rfl rfl (k_mono h (fun r21 w22 h => ?_))
      refine x_iload_n 1 dX19_keyed_347 rfl rfl rfl ?_
      refine x_bipush 92 (z := 92) dX19_keyed_348 rfl (by decide) rfl ?_
      refine x_icmp_ne (t := 359) 9 dX19_keyed_350 rfl rfl (b_ite h (fun hc h => ?_) (fun hc h => ?_))
      · exact y_vret dX19_keyed_359 rfl h
      · refine x_aload_n 0 dX19_keyed_353 rfl rfl rfl rfl rfl ?_
        refine x_iload 10 dX19_keyed_354 rfl rfl ?_
        refine y_Vv 122 (M := mX19_push) (As := [(0, a10)]) (st := []) dX19_keyed_356 i83 rfl q2567 q2569 qs108 q386 q2570 rfl hmX19_push rfl rfl rfl rfl rfl rfl rfl (k_mono h (fun r23 w24 h => ?_))
        exact y_vret dX19_keyed_359 rfl h
abbrev LX19_ledger_59 (d n : Nat) (Q : Int → bW → Prop) (X : String → bW → Prop) (a1 : Int) (a2 : Int) (s0 : Int) (s1 : Int) (w : bW) : Prop := b_Y (d + 1) mX19_ledger n Q X 59 [(2, 83), (0, a1), (0, a2), (9, 0), (9, 0), (9, 0)] [(0, s0), (0, s1), (2, 82)] w
theorem rX19_ledger {d n : Nat} {w : bW} {Q : Int → bW → Prop} {X : String → bW → Prop} (hn : 143 ≤ n) (a1 : Int) (a2 : Int) (h : if a2 ≠ 104 then (if a2 ≠ 105 then (if a2 ≠ 106 then (LX19_ledger_59 d n Q X a1 a2 0 10 w) else (b_K d mX19_length [(2, 83), (0, 1)] n w (fun r1 w2 => LX19_ledger_59 d n Q X a1 a2 (b_i (300 + (b_div r1 8))) 10 w2) X)) else (b_K d mX19_length [(2, 83), (0, 0)] n w (fun r3 w4 => LX19_ledger_59 d n Q X a1 a2 (b_i (100 + (b_div r3 8))) 10 w4) X)) else (LX19_ledger_59 d n Q X a1 a2 50 10 w)) : b_K (d + 1) mX19_ledger [(2, 83), (0, a1), (0, a2)] n w Q X := by
  have i83 := iz83 (Nat.le_trans (Nat.le_of_ble_eq_true rfl) hn)
  refine k_of (by decide) rfl rfl rfl (ls := [(2, 83), (0, a1), (0, a2), (9, 0), (9, 0), (9, 0)]) rfl ?_
  refine x_aload_n 0 dX19_ledger_0 rfl rfl rfl rfl rfl ?_
  refine y_getF 94 10 (c := 18) (z := 82) dX19_ledger_1 i83 rfl in_X19 q1302 rfl rfl rfl fn_83_10 (Nat.le_trans (Nat.le_of_ble_eq_true rfl) hn) rfl ?_
  refine x_bipush 10 (z := 10) dX19_ledger_4 rfl (by decide) rfl ?_
  refine x_iload_n 2 dX19_ledger_6 rfl rfl rfl ?_
  refine x_bipush 104 (z := 104) dX19_ledger_7 rfl (by decide) rfl ?_
  refine x_icmp_ne (t := 17) 8 dX19_ledger_9 rfl rfl (b_ite h (fun hc h => ?_) (fun hc h => ?_))
  · refine x_iload_n 2 dX19_ledger_17 rfl rfl rfl ?_
    refine x_bipush 105 (z := 105) dX19_ledger_18 rfl (by decide) rfl ?_
    refine x_icmp_ne (t := 37) 17 dX19_ledger_20 rfl rfl (b_ite h (fun hc h => ?_) (fun hc h => ?_))
    · refine x_iload_n 2 dX19_ledger_37 rfl rfl rfl ?_
      refine x_bipush 106 (z := 106) dX19_ledger_38 rfl (by decide) rfl ?_
      refine x_icmp_ne (t := 58) 18 dX19_ledger_40 rfl rfl (b_ite h (fun hc h => ?_) (fun hc h => ?_))
      · refine x_iconst 0 (z := 0) dX19_ledger_58 rfl (by decide) rfl ?_
        exact x_fg (fgk (fgk (fgk (fgk (fgk (fgk (fg0))))))) h
      · refine x_sipush 300 (z := 300) dX19_ledger_43 rfl (by decide) rfl ?_
        refine x_aload_n 0 dX19_ledger_46 rfl rfl rfl rfl rfl ?_
        refine x_iconst 1 (z := 1) dX19_ledger_47 rfl (by decide) rfl ?_
        refine y_Vi 235 (M := mX19_length) (As := [(0, 1)]) (st := [(0, 300), (0, 10), (2, 82)]) dX19_ledger_48 i83 rfl q2696 q2698 qs135 q386 q2699 rfl hmX19_length rfl rfl rfl rfl rfl rfl rfl rfl (k_mono h (fun r1 w2 h => ?_))
        refine x_bipush 8 (z := 8) dX19_ledger_51 rfl (by decide) rfl ?_
        refine x_idiv dX19_ledger_53 (by decide) rfl ?_
        refine x_iadd dX19_ledger_54 rfl ?_
        refine x_goto 4 (q := 59) dX19_ledger_55 rfl ?_
        exact x_fg (fgk (fgk (fgk (fgk (fgk (fgk (fg0))))))) h
    · refine x_bipush 100 (z := 100) dX19_ledger_23 rfl (by decide) rfl ?_
      refine x_aload_n 0 dX19_ledger_25 rfl rfl rfl rfl rfl ?_
      refine x_iconst 0 (z := 0) dX19_ledger_26 rfl (by decide) rfl ?_
      refine y_Vi 235 (M := mX19_length) (As := [(0, 0)]) (st := [(0, 100), (0, 10), (2, 82)]) dX19_ledger_27 i83 rfl q2696 q2698 qs135 q386 q2699 rfl hmX19_length rfl rfl rfl rfl rfl rfl rfl rfl (k_mono h (fun r3 w4 h => ?_))
      refine x_bipush 8 (z := 8) dX19_ledger_30 rfl (by decide) rfl ?_
      refine x_idiv dX19_ledger_32 (by decide) rfl ?_
      refine x_iadd dX19_ledger_33 rfl ?_
      refine x_goto 25 (q := 59) dX19_ledger_34 rfl ?_
      exact x_fg (fgk (fgk (fgk (fgk (fgk (fgk (fg0))))))) h
  · refine x_bipush 50 (z := 50) dX19_ledger_12 rfl (by decide) rfl ?_
    refine x_goto 45 (q := 59) dX19_ledger_14 rfl ?_
    exact x_fg (fgk (fgk (fgk (fgk (fgk (fgk (fg0))))))) h
theorem sX19_ledger_59 {d n : Nat} {w : bW} {Q : Int → bW → Prop} {X : String → bW → Prop} (hn : 143 ≤ n) (a1 : Int) (a2 : Int) (s0 : Int) (s1 : Int) (h : b_K d mX18_use [(2, 82), (1, b_i (s1 + s0))] n w (fun r1 w2 => if a2 = 95 then (b_K d mX8_ofLong [(2, 27), (1, w2 83 28)] n w2 (fun r3 w4 => b_K d mX19_push [(2, 83), (0, r3)] n w4 (fun r5 w6 => Q 0 w6) X) X) else (if a2 = 96 then (b_K d mX8_ofLong [(2, 27), (1, w2 83 29)] n w2 (fun r7 w8 => b_K d mX19_push [(2, 83), (0, r7)] n w8 (fun r9 w10 => Q 0 w10) X) X) else (if a2 = 97 then (b_K d mX19_address [(2, 83), (0, w2 83 26), (0, 0)] n w2 (fun r11 w12 => b_K d mX19_push [(2, 83), (0, r11)] n w12 (fun r13 w14 => Q 0 w14) X) X) else (if a2 = 98 then (b_K d mX19_address [(2, 83), (0, w2 83 27), (0, 0)] n w2 (fun r15 w16 => b_K d mX19_push [(2, 83), (0, r15)] n w16 (fun r17 w18 => Q 0 w18) X) X) else (if a2 = 99 then (b_K d mX19_address [(2, 83), (0, w2 83 25), (0, 0)] n w2 (fun r19 w20 => b_K d mX19_push [(2, 83), (0, r19)] n w20 (fun r21 w22 => Q 0 w22) X) X) else (if a2 = 100 then (b_K d mX8_ofLong [(2, 27), (1, w2 70 12)] n w2 (fun r23 w24 => b_K d mX19_push [(2, 83), (0, r23)] n w24 (fun r25 w26 => Q 0 w26) X) X) else (if a2 = 101 then (b_K d mX8_ofLong [(2, 27), (1, w2 70 13)] n w2 (fun r27 w28 => b_K d mX19_push [(2, 83), (0, r27)] n w28 (fun r29 w30 => Q 0 w30) X) X) else (if a2 = 102 then (b_K d mX19_cell [(2, 83), (0, a1), (0, 1)] n w2 (fun r31 w32 => b_K d mX8_contract [(2, 27), (0, w2 83 25), (0, r31)] n w32 (fun r33 w34 => b_K d mX19_push [(2, 83), (0, r33)] n w34 (fun r35 w36 => Q 0 w36) X) X) X) else (if a2 = 103 then (b_K d mX19_pop [(2, 83)] n w2 (fun r37 w38 => b_K d mX8_cell [(2, 27), (0, r37), (0, 2)] n w38 (fun r39 w40 => b_K d mX8_cell [(2, 27), (0, r37), (0, 3)] n w40 (fun r41 w42 => b_K d mX19_address [(2, 83), (0, r39), (0, r41)] n w42 (fun r43 w44 => b_K d mX19_push [(2, 83), (0, r43)] n w44 (fun r45 w46 => Q 0 w46) X) X) X) X) X) else (if a2 = 104 then (b_K d mX19_pop [(2, 83)] n w2 (fun r47 w48 => b_K d mX19_cell [(2, 83), (0, a1), (0, 1)] n w48 (fun r49 w50 => b_K d mX19_cell [(2, 83), (0, a1), (0, 2)] n w50 (fun r51 w52 => b_K d mX19_contract [(2, 83), (0, r47), (0, r49), (0, r51)] n w52 (fun r53 w54 => b_K d mX19_push [(2, 83), (0, r53)] n w54 (fun r55 w56 => Q 0 w56) X) X) X) X) X) else (if a2 = 105 then (b_K d mX19_pop [(2, 83)] n w2 (fun r57 w58 => b_K d mX19_pop [(2, 83)] n w58 (fun r59 w60 => b_K d mX19_pop [(2, 83)] n w60 (fun r61 w62 => b_K d mX8_cell [(2, 27), (0, r61), (0, 2)] n w62 (fun r63 w64 => b_K d mX8_cell [(2, 27), (0, r61), (0, 3)] n w64 (fun r65 w66 => b_K d mX8_operation [(2, 27), (0, r59), (0, r57), (0, r63), (0, r65), (0, (-1))] n w66 (fun r67 w68 => b_K d mX19_push [(2, 83), (0, r67)] n w68 (fun r69 w70 => Q 0 w70) X) X) X) X) X) X) X) else ((if 100 ≤ w2 70 7 then (b_K d mX2_want [(2, 2), (0, 0), (0, 8)] n w2 (fun r71 w72 => b_K d mX19_pop [(2, 83)] n (b_up w72 70 7 (b_i ((w72 70 7) + 1))) (fun r73 w74 => b_K d mX19_pop [(2, 83)] n w74 (fun r75 w76 => b_K d mX19_address [(2, 83), (0, b_i (100 + (w72 70 7))), (0, 0)] n w76 (fun r77 w78 => b_K d mX19_push [(2, 83), (0, r77)] n w78 (fun r79 w80 => b_K d mX19_cell [(2, 83), (0, a1), (0, 1)] n w80 (fun r81 w82 => b_K d mX8_operation [(2, 27), (0, r73), (0, r75), (0, b_i (100 + (w72 70 7))), (0, 0), (0, r81)] n w82 (fun r83 w84 => b_K d mX19_push [(2, 83), (0, r83)] n w84 (fun r85 w86 => Q 0 w86) X) X) X) X) X) X) X) X) else (b_K d mX2_want [(2, 2), (0, 1), (0, 8)] n w2 (fun r87 w88 => b_K d mX19_pop [(2, 83)] n (b_up w88 70 7 (b_i ((w88 70 7) + 1))) (fun r89 w90 => b_K d mX19_pop [(2, 83)] n w90 (fun r91 w92 => b_K d mX19_address [(2, 83), (0, b_i (100 + (w88 70 7))), (0, 0)] n w92 (fun r93 w94 => b_K d mX19_push [(2, 83), (0, r93)] n w94 (fun r95 w96 => b_K d mX19_cell [(2, 83), (0, a1), (0, 1)] n w96 (fun r97 w98 => b_K d mX8_operation [(2, 27), (0, r89), (0, r91), (0, b_i (100 + (w88 70 7))), (0, 0), (0, r97)] n w98 (fun r99 w100 => b_K d mX19_push [(2, 83), (0, r99)] n w100 (fun r101 w102 => Q 0 w102) X) X) X) X) X) X) X) X)))))))))))))) X) : LX19_ledger_59 d n Q X a1 a2 s0 s1 w := by
  have i2 := iz2 (Nat.le_trans (Nat.le_of_ble_eq_true rfl) hn)
  have i27 := iz27 (Nat.le_trans (Nat.le_of_ble_eq_true rfl) hn)
  have i70 := iz70 (Nat.le_trans (Nat.le_of_ble_eq_true rfl) hn)
  have i82 := iz82 (Nat.le_trans (Nat.le_of_ble_eq_true rfl) hn)
  have i83 := iz83 (Nat.le_trans (Nat.le_of_ble_eq_true rfl) hn)
  refine x_iadd dX19_ledger_59 rfl ?_
  refine x_i2l dX19_ledger_60 rfl ?_
  refine y_Vv 183 (M := mX18_use) (As := [(1, b_i (s1 + s0))]) (st := []) dX19_ledger_61 i82 rfl q2607 q2500 q2501 q385 q2502 rfl hmX18_use rfl rfl rfl rfl rfl rfl rfl (k_mono h (fun r1 w2 h => ?_))
  refine x_iload_n 2 dX19_ledger_64 rfl rfl rfl ?_
  refine b_itc h (fun hc h => ?_) (fun hn0 h => ?_)
  · have key : b_Y (d + 1) mX19_ledger n Q X 124 [(2, 83), (0, a1), (0, a2), (9, 0), (9, 0), (9, 0)] [] w2 := by
      refine x_aload_n 0 dX19_ledger_124 rfl rfl rfl rfl rfl ?_
      refine x_aload_n 0 dX19_ledger_125 rfl rfl rfl rfl rfl ?_
      refine y_getF 54 0 (c := 18) (z := 27) dX19_ledger_126 i83 rfl in_X19 q1292 rfl rfl rfl fn_83_0 (Nat.le_trans (Nat.le_of_ble_eq_true rfl) hn) rfl ?_
      refine x_aload_n 0 dX19_ledger_129 rfl rfl rfl rfl rfl ?_
      refine y_get 430 28 (c := 18) (z := w2 83 28) dX19_ledger_130 i83 rfl in_X19 q1324 rfl rfl rfl rfl rfl ?_
      refine y_Vi 329 (M := mX8_ofLong) (As := [(1, w2 83 28)]) (st := [(2, 83)]) dX19_ledger_133 i27 rfl q2765 q2766 q2767 q375 q2768 rfl hmX8_ofLong rfl rfl rfl rfl rfl rfl rfl rfl (k_mono h (fun r3 w4 h => ?_))
      refine y_Vv 122 (M := mX19_push) (As := [(0, r3)]) (st := []) dX19_ledger_136 i83 rfl q2567 q2569 qs108 q386 q2570 rfl hmX19_push rfl rfl rfl rfl rfl rfl rfl (k_mono h (fun r5 w6 h => ?_))
      refine x_goto 344 (q := 483) dX19_ledger_139 rfl ?_
      exact y_vret dX19_ledger_483 rfl h
    have e := hc
    exact x_tsI (off := 59) (t := 124) dX19_ledger_65 (by rw [e]; decide) (by rw [e]; decide) (by rw [e]; rfl) rfl key
  · refine b_itc h (fun hc h => ?_) (fun hn1 h => ?_)
    · have key : b_Y (d + 1) mX19_ledger n Q X 142 [(2, 83), (0, a1), (0, a2), (9, 0), (9, 0), (9, 0)] [] w2 := by
        refine x_aload_n 0 dX19_ledger_142 rfl rfl rfl rfl rfl ?_
        refine x_aload_n 0 dX19_ledger_143 rfl rfl rfl rfl rfl ?_
        refine y_getF 54 0 (c := 18) (z := 27) dX19_ledger_144 i83 rfl in_X19 q1292 rfl rfl rfl fn_83_0 (Nat.le_trans (Nat.le_of_ble_eq_true rfl) hn) rfl ?_
        refine x_aload_n 0 dX19_ledger_147 rfl rfl rfl rfl rfl ?_
        refine y_get 434 29 (c := 18) (z := w2 83 29) dX19_ledger_148 i83 rfl in_X19 q1326 rfl rfl rfl rfl rfl ?_
        refine y_Vi 329 (M := mX8_ofLong) (As := [(1, w2 83 29)]) (st := [(2, 83)]) dX19_ledger_151 i27 rfl q2765 q2766 q2767 q375 q2768 rfl hmX8_ofLong rfl rfl rfl rfl rfl rfl rfl rfl (k_mono h (fun r7 w8 h => ?_))
        refine y_Vv 122 (M := mX19_push) (As := [(0, r7)]) (st := []) dX19_ledger_154 i83 rfl q2567 q2569 qs108 q386 q2570 rfl hmX19_push rfl rfl rfl rfl rfl rfl rfl (k_mono h (fun r9 w10 h => ?_))
        refine x_goto 326 (q := 483) dX19_ledger_157 rfl ?_
        exact y_vret dX19_ledger_483 rfl h
      have e := hc
      exact x_tsI (off := 77) (t := 142) dX19_ledger_65 (by rw [e]; decide) (by rw [e]; decide) (by rw [e]; rfl) rfl key
    · refine b_itc h (fun hc h => ?_) (fun hn2 h => ?_)
      · have key : b_Y (d + 1) mX19_ledger n Q X 160 [(2, 83), (0, a1), (0, a2), (9, 0), (9, 0), (9, 0)] [] w2 := by
          refine x_aload_n 0 dX19_ledger_160 rfl rfl rfl rfl rfl ?_
          refine x_aload_n 0 dX19_ledger_161 rfl rfl rfl rfl rfl ?_
          refine x_aload_n 0 dX19_ledger_162 rfl rfl rfl rfl rfl ?_
          refine y_get 437 26 (c := 18) (z := w2 83 26) dX19_ledger_163 i83 rfl in_X19 q1320 rfl rfl rfl rfl rfl ?_
          refine x_iconst 0 (z := 0) dX19_ledger_166 rfl (by decide) rfl ?_
          refine y_Vi 442 (M := mX19_address) (As := [(0, w2 83 26), (0, 0)]) (st := [(2, 83)]) dX19_ledger_167 i83 rfl q2972 q2974 qs169 q386 q2975 rfl hmX19_address rfl rfl rfl rfl rfl rfl rfl rfl (k_mono h (fun r11 w12 h => ?_))
          refine y_Vv 122 (M := mX19_push) (As := [(0, r11)]) (st := []) dX19_ledger_170 i83 rfl q2567 q2569 qs108 q386 q2570 rfl hmX19_push rfl rfl rfl rfl rfl rfl rfl (k_mono h (fun r13 w14 h => ?_))
          refine x_goto 310 (q := 483) dX19_ledger_173 rfl ?_
          exact y_vret dX19_ledger_483 rfl h
        have e := hc
        exact x_tsI (off := 95) (t := 160) dX19_ledger_65 (by rw [e]; decide) (by rw [e]; decide) (by rw [e]; rfl) rfl key
      · refine b_itc h (fun hc h => ?_) (fun hn3 h => ?_)
        · have key : b_Y (d + 1) mX19_ledger n Q X 176 [(2, 83), (0, a1), (0, a2), (9, 0), (9, 0), (9, 0)] [] w2 := by
            refine x_aload_n 0 dX19_ledger_176 rfl rfl rfl rfl rfl ?_
            refine x_aload_n 0 dX19_ledger_177 rfl rfl rfl rfl rfl ?_
            refine x_aload_n 0 dX19_ledger_178 rfl rfl rfl rfl rfl ?_
            refine y_get 445 27 (c := 18) (z := w2 83 27) dX19_ledger_179 i83 rfl in_X19 q1322 rfl rfl rfl rfl rfl ?_
            refine x_iconst 0 (z := 0) dX19_ledger_182 rfl (by decide) rfl ?_
            refine y_Vi 442 (M := mX19_address) (As := [(0, w2 83 27), (0, 0)]) (st := [(2, 83)]) dX19_ledger_183 i83 rfl q2972 q2974 qs169 q386 q2975 rfl hmX19_address rfl rfl rfl rfl rfl rfl rfl rfl (k_mono h (fun r15 w16 h => ?_))
            refine y_Vv 122 (M := mX19_push) (As := [(0, r15)]) (st := []) dX19_ledger_186 i83 rfl q2567 q2569 qs108 q386 q2570 rfl hmX19_push rfl rfl rfl rfl rfl rfl rfl (k_mono h (fun r17 w18 h => ?_))
            refine x_goto 294 (q := 483) dX19_ledger_189 rfl ?_
            exact y_vret dX19_ledger_483 rfl h
          have e := hc
          exact x_tsI (off := 111) (t := 176) dX19_ledger_65 (by rw [e]; decide) (by rw [e]; decide) (by rw [e]; rfl) rfl key
        · refine b_itc h (fun hc h => ?_) (fun hn4 h => ?_)
          · have key : b_Y (d + 1) mX19_ledger n Q X 192 [(2, 83), (0, a1), (0, a2), (9, 0), (9, 0), (9, 0)] [] w2 := by
              refine x_aload_n 0 dX19_ledger_192 rfl rfl rfl rfl rfl ?_
              refine x_aload_n 0 dX19_ledger_193 rfl rfl rfl rfl rfl ?_
              refine x_aload_n 0 dX19_ledger_194 rfl rfl rfl rfl rfl ?_
              refine y_get 448 25 (c := 18) (z := w2 83 25) dX19_ledger_195 i83 rfl in_X19 q1318 rfl rfl rfl rfl rfl ?_
              refine x_iconst 0 (z := 0) dX19_ledger_198 rfl (by decide) rfl ?_
              refine y_Vi 442 (M := mX19_address) (As := [(0, w2 83 25), (0, 0)]) (st := [(2, 83)]) dX19_ledger_199 i83 rfl q2972 q2974 qs169 q386 q2975 rfl hmX19_address rfl rfl rfl rfl rfl rfl rfl rfl (k_mono h (fun r19 w20 h => ?_))
              refine y_Vv 122 (M := mX19_push) (As := [(0, r19)]) (st := []) dX19_ledger_202 i83 rfl q2567 q2569 qs108 q386 q2570 rfl hmX19_push rfl rfl rfl rfl rfl rfl rfl (k_mono h (fun r21 w22 h => ?_))
              refine x_goto 278 (q := 483) dX19_ledger_205 rfl ?_
              exact y_vret dX19_ledger_483 rfl h
            have e := hc
            exact x_tsI (off := 127) (t := 192) dX19_ledger_65 (by rw [e]; decide) (by rw [e]; decide) (by rw [e]; rfl) rfl key
          · refine b_itc h (fun hc h => ?_) (fun hn5 h => ?_)
            · have key : b_Y (d + 1) mX19_ledger n Q X 208 [(2, 83), (0, a1), (0, a2), (9, 0), (9, 0), (9, 0)] [] w2 := by
                refine x_aload_n 0 dX19_ledger_208 rfl rfl rfl rfl rfl ?_
                refine x_aload_n 0 dX19_ledger_209 rfl rfl rfl rfl rfl ?_
                refine y_getF 54 0 (c := 18) (z := 27) dX19_ledger_210 i83 rfl in_X19 q1292 rfl rfl rfl fn_83_0 (Nat.le_trans (Nat.le_of_ble_eq_true rfl) hn) rfl ?_
                refine x_aload_n 0 dX19_ledger_213 rfl rfl rfl rfl rfl ?_
                refine y_getF 86 8 (c := 18) (z := 70) dX19_ledger_214 i83 rfl in_X19 q1300 rfl rfl rfl fn_83_8 (Nat.le_trans (Nat.le_of_ble_eq_true rfl) hn) rfl ?_
                refine y_get 451 12 (c := 16) (z := w2 70 12) dX19_ledger_217 i70 rfl in_X17 q1192 rfl rfl rfl rfl rfl ?_
                refine y_Vi 329 (M := mX8_ofLong) (As := [(1, w2 70 12)]) (st := [(2, 83)]) dX19_ledger_220 i27 rfl q2765 q2766 q2767 q375 q2768 rfl hmX8_ofLong rfl rfl rfl rfl rfl rfl rfl rfl (k_mono h (fun r23 w24 h => ?_))
                refine y_Vv 122 (M := mX19_push) (As := [(0, r23)]) (st := []) dX19_ledger_223 i83 rfl q2567 q2569 qs108 q386 q2570 rfl hmX19_push rfl rfl rfl rfl rfl rfl rfl (k_mono h (fun r25 w26 h => ?_))
                refine x_goto 257 (q := 483) dX19_ledger_226 rfl ?_
                exact y_vret dX19_ledger_483 rfl h
              have e := hc
              exact x_tsI (off := 143) (t := 208) dX19_ledger_65 (by rw [e]; decide) (by rw [e]; decide) (by rw [e]; rfl) rfl key
            · refine b_itc h (fun hc h => ?_) (fun hn6 h => ?_)
              · have key : b_Y (d + 1) mX19_ledger n Q X 229 [(2, 83), (0, a1), (0, a2), (9, 0), (9, 0), (9, 0)] [] w2 := by
                  refine x_aload_n 0 dX19_ledger_229 rfl rfl rfl rfl rfl ?_
                  refine x_aload_n 0 dX19_ledger_230 rfl rfl rfl rfl rfl ?_
                  refine y_getF 54 0 (c := 18) (z := 27) dX19_ledger_231 i83 rfl in_X19 q1292 rfl rfl rfl fn_83_0 (Nat.le_trans (Nat.le_of_ble_eq_true rfl) hn) rfl ?_
                  refine x_aload_n 0 dX19_ledger_234 rfl rfl rfl rfl rfl ?_
                  refine y_getF 86 8 (c := 18) (z := 70) dX19_ledger_235 i83 rfl in_X19 q1300 rfl rfl rfl fn_83_8 (Nat.le_trans (Nat.le_of_ble_eq_true rfl) hn) rfl ?_
                  refine y_get 456 13 (c := 16) (z := w2 70 13) dX19_ledger_238 i70 rfl in_X17 q1194 rfl rfl rfl rfl rfl ?_
                  refine x_i2l dX19_ledger_241 rfl ?_
                  refine y_Vi 329 (M := mX8_ofLong) (As := [(1, w2 70 13)]) (st := [(2, 83)]) dX19_ledger_242 i27 rfl q2765 q2766 q2767 q375 q2768 rfl hmX8_ofLong rfl rfl rfl rfl rfl rfl rfl rfl (k_mono h (fun r27 w28 h => ?_))
                  refine y_Vv 122 (M := mX19_push) (As := [(0, r27)]) (st := []) dX19_ledger_245 i83 rfl q2567 q2569 qs108 q386 q2570 rfl hmX19_push rfl rfl rfl rfl rfl rfl rfl (k_mono h (fun r29 w30 h => ?_))
                  refine x_goto 235 (q := 483) dX19_ledger_248 rfl ?_
                  exact y_vret dX19_ledger_483 rfl h
                have e := hc
                exact x_tsI (off := 164) (t := 229) dX19_ledger_65 (by rw [e]; decide) (by rw [e]; decide) (by rw [e]; rfl) rfl key
              · refine b_itc h (fun hc h => ?_) (fun hn7 h => ?_)
                · have key : b_Y (d + 1) mX19_ledger n Q X 251 [(2, 83), (0, a1), (0, a2), (9, 0), (9, 0), (9, 0)] [] w2 := by
                    refine x_aload_n 0 dX19_ledger_251 rfl rfl rfl rfl rfl ?_
                    refine x_aload_n 0 dX19_ledger_252 rfl rfl rfl rfl rfl ?_
                    refine y_getF 54 0 (c := 18) (z := 27) dX19_ledger_253 i83 rfl in_X19 q1292 rfl rfl rfl fn_83_0 (Nat.le_trans (Nat.le_of_ble_eq_true rfl) hn) rfl ?_
                    refine x_aload_n 0 dX19_ledger_256 rfl rfl rfl rfl rfl ?_
                    refine y_get 448 25 (c := 18) (z := w2 83 25) dX19_ledger_257 i83 rfl in_X19 q1318 rfl rfl rfl rfl rfl ?_
                    refine x_aload_n 0 dX19_ledger_260 rfl rfl rfl rfl rfl ?_
                    refine x_iload_n 1 dX19_ledger_261 rfl rfl rfl ?_
                    refine x_iconst 1 (z := 1) dX19_ledger_262 rfl (by decide) rfl ?_
                    refine y_Vi 131 (M := mX19_cell) (As := [(0, a1), (0, 1)]) (st := [(0, w2 83 25), (2, 27), (2, 83)]) dX19_ledger_263 i83 rfl q2579 q2581 qs111 q386 q2582 rfl hmX19_cell rfl rfl rfl rfl rfl rfl rfl rfl (k_mono h (fun r31 w32 h => ?_))
                    refine y_Vi 459 (M := mX8_contract) (As := [(0, w2 83 25), (0, r31)]) (st := [(2, 83)]) dX19_ledger_266 i27 rfl q2983 q2984 q2985 q375 q2986 rfl hmX8_contract rfl rfl rfl rfl rfl rfl rfl rfl (k_mono h (fun r33 w34 h => ?_))
                    refine y_Vv 122 (M := mX19_push) (As := [(0, r33)]) (st := []) dX19_ledger_269 i83 rfl q2567 q2569 qs108 q386 q2570 rfl hmX19_push rfl rfl rfl rfl rfl rfl rfl (k_mono h (fun r35 w36 h => ?_))
                    refine x_goto 211 (q := 483) dX19_ledger_272 rfl ?_
                    exact y_vret dX19_ledger_483 rfl h
                  have e := hc
                  exact x_tsI (off := 186) (t := 251) dX19_ledger_65 (by rw [e]; decide) (by rw [e]; decide) (by rw [e]; rfl) rfl key
                · refine b_itc h (fun hc h => ?_) (fun hn8 h => ?_)
                  · have key : b_Y (d + 1) mX19_ledger n Q X 275 [(2, 83), (0, a1), (0, a2), (9, 0), (9, 0), (9, 0)] [] w2 := by
                      refine x_aload_n 0 dX19_ledger_275 rfl rfl rfl rfl rfl ?_
                      refine y_Vi 139 (M := mX19_pop) (As := []) (st := []) dX19_ledger_276 i83 rfl q2583 q2585 qs112 q386 q2586 rfl hmX19_pop rfl rfl rfl rfl rfl rfl rfl rfl (k_mono h (fun r37 w38 h => ?_))
                      refine x_istore_n 3 (ls' := [(2, 83), (0, a1), (0, a2), (0, r37), (9, 0), (9, 0)]) dX19_ledger_279 rfl rfl rfl rfl ?_
                      refine x_aload_n 0 dX19_ledger_280 rfl rfl rfl rfl rfl ?_
                      refine x_aload_n 0 dX19_ledger_281 rfl rfl rfl rfl rfl ?_
                      refine x_aload_n 0 dX19_ledger_282 rfl rfl rfl rfl rfl ?_
                      refine y_getF 54 0 (c := 18) (z := 27) dX19_ledger_283 i83 rfl in_X19 q1292 rfl rfl rfl fn_83_0 (Nat.le_trans (Nat.le_of_ble_eq_true rfl) hn) rfl ?_
                      refine x_iload_n 3 dX19_ledger_286 rfl rfl rfl ?_
                      refine x_iconst 2 (z := 2) dX19_ledger_287 rfl (by decide) rfl ?_
                      refine y_Vi 199 (M := mX8_cell) (As := [(0, r37), (0, 2)]) (st := [(2, 83), (2, 83)]) dX19_ledger_288 i27 rfl q2595 q2010 q2011 q375 q2012 rfl hmX8_cell rfl rfl rfl rfl rfl rfl rfl rfl (k_mono h (fun r39 w40 h => ?_))
                      refine x_aload_n 0 dX19_ledger_291 rfl rfl rfl rfl rfl ?_
                      refine y_getF 54 0 (c := 18) (z := 27) dX19_ledger_292 i83 rfl in_X19 q1292 rfl rfl rfl fn_83_0 (Nat.le_trans (Nat.le_of_ble_eq_true rfl) hn) rfl ?_
                      refine x_iload_n 3 dX19_ledger_295 rfl rfl rfl ?_
                      refine x_iconst 3 (z := 3) dX19_ledger_296 rfl (by decide) rfl ?_
                      refine y_Vi 199 (M := mX8_cell) (As := [(0, r37), (0, 3)]) (st := [(0, r39), (2, 83), (2, 83)]) dX19_ledger_297 i27 rfl q2595 q2010 q2011 q375 q2012 rfl hmX8_cell rfl rfl rfl rfl rfl rfl rfl rfl (k_mono h (fun r41 w42 h => ?_))
                      refine y_Vi 442 (M := mX19_address) (As := [(0, r39), (0, r41)]) (st := [(2, 83)]) dX19_ledger_300 i83 rfl q2972 q2974 qs169 q386 q2975 rfl hmX19_address rfl rfl rfl rfl rfl rfl rfl rfl (k_mono h (fun r43 w44 h => ?_))
                      refine y_Vv 122 (M := mX19_push) (As := [(0, r43)]) (st := []) dX19_ledger_303 i83 rfl q2567 q2569 qs108 q386 q2570 rfl hmX19_push rfl rfl rfl rfl rfl rfl rfl (k_mono h (fun r45 w46 h => ?_))
                      refine x_goto 177 (q := 483) dX19_ledger_306 rfl ?_
                      exact y_vret dX19_ledger_483 rfl h
                    have e := hc
                    exact x_tsI (off := 210) (t := 275) dX19_ledger_65 (by rw [e]; decide) (by rw [e]; decide) (by rw [e]; rfl) rfl key
                  · refine b_itc h (fun hc h => ?_) (fun hn9 h => ?_)
                    · have key : b_Y (d + 1) mX19_ledger n Q X 309 [(2, 83), (0, a1), (0, a2), (9, 0), (9, 0), (9, 0)] [] w2 := by
                        refine x_aload_n 0 dX19_ledger_309 rfl rfl rfl rfl rfl ?_
                        refine x_aload_n 0 dX19_ledger_310 rfl rfl rfl rfl rfl ?_
                        refine x_aload_n 0 dX19_ledger_311 rfl rfl rfl rfl rfl ?_
                        refine y_Vi 139 (M := mX19_pop) (As := []) (st := [(2, 83), (2, 83)]) dX19_ledger_312 i83 rfl q2583 q2585 qs112 q386 q2586 rfl hmX19_pop rfl rfl rfl rfl rfl rfl rfl rfl (k_mono h (fun r47 w48 h => ?_))
                        refine x_aload_n 0 dX19_ledger_315 rfl rfl rfl rfl rfl ?_
                        refine x_iload_n 1 dX19_ledger_316 rfl rfl rfl ?_
                        refine x_iconst 1 (z := 1) dX19_ledger_317 rfl (by decide) rfl ?_
                        refine y_Vi 131 (M := mX19_cell) (As := [(0, a1), (0, 1)]) (st := [(0, r47), (2, 83), (2, 83)]) dX19_ledger_318 i83 rfl q2579 q2581 qs111 q386 q2582 rfl hmX19_cell rfl rfl rfl rfl rfl rfl rfl rfl (k_mono h (fun r49 w50 h => ?_))
                        refine x_aload_n 0 dX19_ledger_321 rfl rfl rfl rfl rfl ?_
                        refine x_iload_n 1 dX19_ledger_322 rfl rfl rfl ?_
                        refine x_iconst 2 (z := 2) dX19_ledger_323 rfl (by decide) rfl ?_
                        refine y_Vi 131 (M := mX19_cell) (As := [(0, a1), (0, 2)]) (st := [(0, r49), (0, r47), (2, 83), (2, 83)]) dX19_ledger_324 i83 rfl q2579 q2581 qs111 q386 q2582 rfl hmX19_cell rfl rfl rfl rfl rfl rfl rfl rfl (k_mono h (fun r51 w52 h => ?_))
                        refine y_Vi 462 (M := mX19_contract) (As := [(0, r47), (0, r49), (0, r51)]) (st := [(2, 83)]) dX19_ledger_327 i83 rfl q2987 q2989 qs170 q386 q2990 rfl hmX19_contract rfl rfl rfl rfl rfl rfl rfl rfl (k_mono h (fun r53 w54 h => ?_))
                        refine y_Vv 122 (M := mX19_push) (As := [(0, r53)]) (st := []) dX19_ledger_330 i83 rfl q2567 q2569 qs108 q386 q2570 rfl hmX19_push rfl rfl rfl rfl rfl rfl rfl (k_mono h (fun r55 w56 h => ?_))
                        refine x_goto 150 (q := 483) dX19_ledger_333 rfl ?_
                        exact y_vret dX19_ledger_483 rfl h
                      have e := hc
                      exact x_tsI (off := 244) (t := 309) dX19_ledger_65 (by rw [e]; decide) (by rw [e]; decide) (by rw [e]; rfl) rfl key
                    · refine b_itc h (fun hc h => ?_) (fun hn10 h => ?_)
                      · have key : b_Y (d + 1) mX19_ledger n Q X 336 [(2, 83), (0, a1), (0, a2), (9, 0), (9, 0), (9, 0)] [] w2 := by
                          refine x_aload_n 0 dX19_ledger_336 rfl rfl rfl rfl rfl ?_
                          refine y_Vi 139 (M := mX19_pop) (As := []) (st := []) dX19_ledger_337 i83 rfl q2583 q2585 qs112 q386 q2586 rfl hmX19_pop rfl rfl rfl rfl rfl rfl rfl rfl (k_mono h (fun r57 w58 h => ?_))
                          refine x_istore_n 3 (ls' := [(2, 83), (0, a1), (0, a2), (0, r57), (9, 0), (9, 0)]) dX19_ledger_340 rfl rfl rfl rfl ?_
                          refine x_aload_n 0 dX19_ledger_341 rfl rfl rfl rfl rfl ?_
                          refine y_Vi 139 (M := mX19_pop) (As := []) (st := []) dX19_ledger_342 i83 rfl q2583 q2585 qs112 q386 q2586 rfl hmX19_pop rfl rfl rfl rfl rfl rfl rfl rfl (k_mono h (fun r59 w60 h => ?_))
                          refine x_istore 4 (ls' := [(2, 83), (0, a1), (0, a2), (0, r57), (0, r59), (9, 0)]) dX19_ledger_345 rfl rfl rfl ?_
                          refine x_aload_n 0 dX19_ledger_347 rfl rfl rfl rfl rfl ?_
                          refine y_Vi 139 (M := mX19_pop) (As := []) (st := []) dX19_ledger_348 i83 rfl q2583 q2585 qs112 q386 q2586 rfl hmX19_pop rfl rfl rfl rfl rfl rfl rfl rfl (k_mono h (fun r61 w62 h => ?_))
                          refine x_istore 5 (ls' := [(2, 83), (0, a1), (0, a2), (0, r57), (0, r59), (0, r61)]) dX19_ledger_351 rfl rfl rfl ?_
                          refine x_aload_n 0 dX19_ledger_353 rfl rfl rfl rfl rfl ?_
                          refine x_aload_n 0 dX19_ledger_354 rfl rfl rfl rfl rfl ?_
                          refine y_getF 54 0 (c := 18) (z := 27) dX19_ledger_355 i83 rfl in_X19 q1292 rfl rfl rfl fn_83_0 (Nat.le_trans (Nat.le_of_ble_eq_true rfl) hn) rfl ?_
                          refine x_iload 4 dX19_ledger_358 rfl rfl ?_
                          refine x_iload_n 3 dX19_ledger_360 rfl rfl rfl ?_
                          refine x_aload_n 0 dX19_ledger_361 rfl rfl rfl rfl rfl ?_
                          refine y_getF 54 0 (c := 18) (z := 27) dX19_ledger_362 i83 rfl in_X19 q1292 rfl rfl rfl fn_83_0 (Nat.le_trans (Nat.le_of_ble_eq_true rfl) hn) rfl ?_
                          refine x_iload 5 dX19_ledger_365 rfl rfl ?_
                          refine x_iconst 2 (z := 2) dX19_ledger_367 rfl (by decide) rfl ?_
                          refine y_Vi 199 (M := mX8_cell) (As := [(0, r61), (0, 2)]) (st := [(0, r57), (0, r59), (2, 27), (2, 83)]) dX19_ledger_368 i27 rfl q2595 q2010 q2011 q375 q2012 rfl hmX8_cell rfl rfl rfl rfl rfl rfl rfl rfl (k_mono h (fun r63 w64 h => ?_))
                          refine x_aload_n 0 dX19_ledger_371 rfl rfl rfl rfl rfl ?_
                          refine y_getF 54 0 (c := 18) (z := 27) dX19_ledger_372 i83 rfl in_X19 q1292 rfl rfl rfl fn_83_0 (Nat.le_trans (Nat.le_of_ble_eq_true rfl) hn) rfl ?_
                          refine x_iload 5 dX19_ledger_375 rfl rfl ?_
                          refine x_iconst 3 (z := 3) dX19_ledger_377 rfl (by decide) rfl ?_
                          refine y_Vi 199 (M := mX8_cell) (As := [(0, r61), (0, 3)]) (st := [(0, r63), (0, r57), (0, r59), (2, 27), (2, 83)]) dX19_ledger_378 i27 rfl q2595 q2010 q2011 q375 q2012 rfl hmX8_cell rfl rfl rfl rfl rfl rfl rfl rfl (k_mono h (fun r65 w66 h => ?_))
                          refine x_iconst (-1) (z := (-1)) dX19_ledger_381 rfl (by decide) rfl ?_
                          refine y_Vi 464 (M := mX8_operation) (As := [(0, r59), (0, r57), (0, r63), (0, r65), (0, (-1))]) (st := [(2, 83)]) dX19_ledger_382 i27 rfl q2998 q2999 q3000 q375 q3001 rfl hmX8_operation rfl rfl rfl rfl rfl rfl rfl rfl (k_mono h (fun r67 w68 h => ?_))
                          refine y_Vv 122 (M := mX19_push) (As := [(0, r67)]) (st := []) dX19_ledger_385 i83 rfl q2567 q2569 qs108 q386 q2570 rfl hmX19_push rfl rfl rfl rfl rfl rfl rfl (k_mono h (fun r69 w70 h => ?_))
                          refine x_goto 95 (q := 483) dX19_ledger_388 rfl ?_
                          exact y_vret dX19_ledger_483 rfl h
                        have e := hc
                        exact x_tsI (off := 271) (t := 336) dX19_ledger_65 (by rw [e]; decide) (by rw [e]; decide) (by rw [e]; rfl) rfl key
                      · have key : b_Y (d + 1) mX19_ledger n Q X 391 [(2, 83), (0, a1), (0, a2), (9, 0), (9, 0), (9, 0)] [] w2 := by
                          refine x_aload_n 0 dX19_ledger_391 rfl rfl rfl rfl rfl ?_
                          refine y_getF 90 9 (c := 18) (z := 2) dX19_ledger_392 i83 rfl in_X19 q1301 rfl rfl rfl fn_83_9 (Nat.le_trans (Nat.le_of_ble_eq_true rfl) hn) rfl ?_
                          refine x_aload_n 0 dX19_ledger_395 rfl rfl rfl rfl rfl ?_
                          refine y_getF 86 8 (c := 18) (z := 70) dX19_ledger_396 i83 rfl in_X19 q1300 rfl rfl rfl fn_83_8 (Nat.le_trans (Nat.le_of_ble_eq_true rfl) hn) rfl ?_
                          refine y_get 467 7 (c := 16) (z := w2 70 7) dX19_ledger_399 i70 rfl in_X17 q1182 rfl rfl rfl rfl rfl ?_
                          refine x_bipush 100 (z := 100) dX19_ledger_402 rfl (by decide) rfl ?_
                          refine x_icmp_ge (t := 411) 7 dX19_ledger_404 rfl rfl (b_ite h (fun hc h => ?_) (fun hc h => ?_))
                          · refine x_iconst 0 (z := 0) dX19_ledger_411 rfl (by decide) rfl ?_
                            refine x_bipush 8 (z := 8) dX19_ledger_412 rfl (by decide) rfl ?_
                            refine y_Vv 351 (M := mX2_want) (As := [(0, 0), (0, 8)]) (st := []) dX19_ledger_414 i2 rfl q2752 q1954 q1955 q359 q1956 rfl hmX2_want rfl rfl rfl rfl rfl rfl rfl (k_mono h (fun r71 w72 h => ?_))
                            refine x_bipush 100 (z := 100) dX19_ledger_417 rfl (by decide) rfl ?_
                            refine x_aload_n 0 dX19_ledger_419 rfl rfl rfl rfl rfl ?_
                            refine y_getF 86 8 (c := 18) (z := 70) dX19_ledger_420 i83 rfl in_X19 q1300 rfl rfl rfl fn_83_8 (Nat.le_trans (Nat.le_of_ble_eq_true rfl) hn) rfl ?_
                            refine x_dup dX19_ledger_423 rfl rfl ?_
                            refine y_get 467 7 (c := 16) (z := w72 70 7) dX19_ledger_424 i70 rfl in_X17 q1182 rfl rfl rfl rfl rfl ?_
                            refine x_dup_x1 dX19_ledger_427 rfl rfl rfl ?_
                            refine x_iconst 1 (z := 1) dX19_ledger_428 rfl (by decide) rfl ?_
                            refine x_iadd dX19_ledger_429 rfl ?_
                            refine x_put 467 7 (c := 16) dX19_ledger_430 i70 rfl in_X17 tyX17_ok nmX17 q1182 rfl rfl rfl (Or.inl rfl) (Or.inl ⟨rfl, rfl⟩) rfl ?_
                            refine x_iadd dX19_ledger_433 rfl ?_
                            refine x_istore_n 3 (ls' := [(2, 83), (0, a1), (0, a2), (0, b_i (100 + (w72 70 7))), (9, 0), (9, 0)]) dX19_ledger_434 rfl rfl rfl rfl ?_
                            refine x_aload_n 0 dX19_ledger_435 rfl rfl rfl rfl rfl ?_
                            refine y_Vi 139 (M := mX19_pop) (As := []) (st := []) dX19_ledger_436 i83 rfl q2583 q2585 qs112 q386 q2586 rfl hmX19_pop rfl rfl rfl rfl rfl rfl rfl rfl (k_mono h (fun r73 w74 h => ?_))
                            refine x_istore 4 (ls' := [(2, 83), (0, a1), (0, a2), (0, b_i (100 + (w72 70 7))), (0, r73), (9, 0)]) dX19_ledger_439 rfl rfl rfl ?_
                            refine x_aload_n 0 dX19_ledger_441 rfl rfl rfl rfl rfl ?_
                            refine y_Vi 139 (M := mX19_pop) (As := []) (st := []) dX19_ledger_442 i83 rfl q2583 q2585 qs112 q386 q2586 rfl hmX19_pop rfl rfl rfl rfl rfl rfl rfl rfl (k_mono h (fun r75 w76 h => ?_))
                            refine x_istore 5 (ls' := [(2, 83), (0, a1), (0, a2), (0, b_i (100 + (w72 70 7))), (0, r73), (0, r75)]) dX19_ledger_445 rfl rfl rfl ?_
                            refine x_aload_n 0 dX19_ledger_447 rfl rfl rfl rfl rfl ?_
                            refine x_aload_n 0 dX19_ledger_448 rfl rfl rfl rfl rfl ?_
                            refine x_iload_n 3 dX19_ledger_449 rfl rfl rfl ?_
                            refine x_iconst 0 (z := 0) dX19_ledger_450 rfl (by decide) rfl ?_
                            refine y_Vi 442 (M := mX19_address) (As := [(0, b_i (100 + (w72 70 7))), (0, 0)]) (st := [(2, 83)]) dX19_ledger_451 i83 rfl q2972 q2974 qs169 q386 q2975 rfl hmX19_address rfl rfl rfl rfl rfl rfl rfl rfl (k_mono h (fun r77 w78 h => ?_))
                            refine y_Vv 122 (M := mX19_push) (As := [(0, r77)]) (st := []) dX19_ledger_454 i83 rfl q2567 q2569 qs108 q386 q2570 rfl hmX19_push rfl rfl rfl rfl rfl rfl rfl (k_mono h (fun r79 w80 h => ?_))
                            refine x_aload_n 0 dX19_ledger_457 rfl rfl rfl rfl rfl ?_
                            refine x_aload_n 0 dX19_ledger_458 rfl rfl rfl rfl rfl ?_
                            refine y_getF 54 0 (c := 18) (z := 27) dX19_ledger_459 i83 rfl in_X19 q1292 rfl rfl rfl fn_83_0 (Nat.le_trans (Nat.le_of_ble_eq_true rfl) hn) rfl ?_
                            refine x_iload 4 dX19_ledger_462 rfl rfl ?_
                            refine x_iload 5 dX19_ledger_464 rfl rfl ?_
                            refine x_iload_n 3 dX19_ledger_466 rfl rfl rfl ?_
                            refine x_iconst 0 (z := 0) dX19_ledger_467 rfl (by decide) rfl ?_
                            refine x_aload_n 0 dX19_ledger_468 rfl rfl rfl rfl rfl ?_
                            refine x_iload_n 1 dX19_ledger_469 rfl rfl rfl ?_
                            refine x_iconst 1 (z := 1) dX19_ledger_470 rfl (by decide) rfl ?_
                            refine y_Vi 131 (M := mX19_cell) (As := [(0, a1), (0, 1)]) (st := [(0, 0), (0, b_i (100 + (w72 70 7))), (0, r75), (0, r73), (2, 27), (2, 83)]) dX19_ledger_471 i83 rfl q2579 q2581 qs111 q386 q2582 rfl hmX19_cell rfl rfl rfl rfl rfl rfl rfl rfl (k_mono h (fun r81 w82 h => ?_))
                            refine y_Vi 464 (M := mX8_operation) (As := [(0, r73), (0, r75), (0, b_i (100 + (w72 70 7))), (0, 0), (0, r81)]) (st := [(2, 83)]) dX19_ledger_474 i27 rfl q2998 q2999 q3000 q375 q3001 rfl hmX8_operation rfl rfl rfl rfl rfl rfl rfl rfl (k_mono h (fun r83 w84 h => ?_))
                            refine y_Vv 122 (M := mX19_push) (As := [(0, r83)]) (st := []) dX19_ledger_477 i83 rfl q2567 q2569 qs108 q386 q2570 rfl hmX19_push rfl rfl rfl rfl rfl rfl rfl (k_mono h (fun r85 w86 h => ?_))
                            refine x_goto 3 (q := 483) dX19_ledger_480 rfl ?_
                            exact y_vret dX19_ledger_483 rfl h
                          · refine x_iconst 1 (z := 1) dX19_ledger_407 rfl (by decide) rfl ?_
                            refine x_goto 4 (q := 412) dX19_ledger_408 rfl ?_
                            refine x_bipush 8 (z := 8) dX19_ledger_412 rfl (by decide) rfl ?_
                            refine y_Vv 351 (M := mX2_want) (As := [(0, 1), (0, 8)]) (st := []) dX19_ledger_414 i2 rfl q2752 q1954 q1955 q359 q1956 rfl hmX2_want rfl rfl rfl rfl rfl rfl rfl (k_mono h (fun r87 w88 h => ?_))
                            refine x_bipush 100 (z := 100) dX19_ledger_417 rfl (by decide) rfl ?_
                            refine x_aload_n 0 dX19_ledger_419 rfl rfl rfl rfl rfl ?_
                            refine y_getF 86 8 (c := 18) (z := 70) dX19_ledger_420 i83 rfl in_X19 q1300 rfl rfl rfl fn_83_8 (Nat.le_trans (Nat.le_of_ble_eq_true rfl) hn) rfl ?_
                            refine x_dup dX19_ledger_423 rfl rfl ?_
                            refine y_get 467 7 (c := 16) (z := w88 70 7) dX19_ledger_424 i70 rfl in_X17 q1182 rfl rfl rfl rfl rfl ?_
                            refine x_dup_x1 dX19_ledger_427 rfl rfl rfl ?_
                            refine x_iconst 1 (z := 1) dX19_ledger_428 rfl (by decide) rfl ?_
                            refine x_iadd dX19_ledger_429 rfl ?_
                            refine x_put 467 7 (c := 16) dX19_ledger_430 i70 rfl in_X17 tyX17_ok nmX17 q1182 rfl rfl rfl (Or.inl rfl) (Or.inl ⟨rfl, rfl⟩) rfl ?_
                            refine x_iadd dX19_ledger_433 rfl ?_
                            refine x_istore_n 3 (ls' := [(2, 83), (0, a1), (0, a2), (0, b_i (100 + (w88 70 7))), (9, 0), (9, 0)]) dX19_ledger_434 rfl rfl rfl rfl ?_
                            refine x_aload_n 0 dX19_ledger_435 rfl rfl rfl rfl rfl ?_
                            refine y_Vi 139 (M := mX19_pop) (As := []) (st := []) dX19_ledger_436 i83 rfl q2583 q2585 qs112 q386 q2586 rfl hmX19_pop rfl rfl rfl rfl rfl rfl rfl rfl (k_mono h (fun r89 w90 h => ?_))
                            refine x_istore 4 (ls' := [(2, 83), (0, a1), (0, a2), (0, b_i (100 + (w88 70 7))), (0, r89), (9, 0)]) dX19_ledger_439 rfl rfl rfl ?_
                            refine x_aload_n 0 dX19_ledger_441 rfl rfl rfl rfl rfl ?_
                            refine y_Vi 139 (M := mX19_pop) (As := []) (st := []) dX19_ledger_442 i83 rfl q2583 q2585 qs112 q386 q2586 rfl hmX19_pop rfl rfl rfl rfl rfl rfl rfl rfl (k_mono h (fun r91 w92 h => ?_))
                            refine x_istore 5 (ls' := [(2, 83), (0, a1), (0, a2), (0, b_i (100 + (w88 70 7))), (0, r89), (0, r91)]) dX19_ledger_445 rfl rfl rfl ?_
                            refine x_aload_n 0 dX19_ledger_447 rfl rfl rfl rfl rfl ?_
                            refine x_aload_n 0 dX19_ledger_448 rfl rfl rfl rfl rfl ?_
                            refine x_iload_n 3 dX19_ledger_449 rfl rfl rfl ?_
                            refine x_iconst 0 (z := 0) dX19_ledger_450 rfl (by decide) rfl ?_
                            refine y_Vi 442 (M := mX19_address) (As := [(0, b_i (100 + (w88 70 7))), (0, 0)]) (st := [(2, 83)]) dX19_ledger_451 i83 rfl q2972 q2974 qs169 q386 q2975 rfl hmX19_address rfl rfl rfl rfl rfl rfl rfl rfl (k_mono h (fun r93 w94 h => ?_))
                            refine y_Vv 122 (M := mX19_push) (As := [(0, r93)]) (st := []) dX19_ledger_454 i83 rfl q2567 q2569 qs108 q386 q2570 rfl hmX19_push rfl rfl rfl rfl rfl rfl rfl (k_mono h (fun r95 w96 h => ?_))
                            refine x_aload_n 0 dX19_ledger_457 rfl rfl rfl rfl rfl ?_
                            refine x_aload_n 0 dX19_ledger_458 rfl rfl rfl rfl rfl ?_
                            refine y_getF 54 0 (c := 18) (z := 27) dX19_ledger_459 i83 rfl in_X19 q1292 rfl rfl rfl fn_83_0 (Nat.le_trans (Nat.le_of_ble_eq_true rfl) hn) rfl ?_
                            refine x_iload 4 dX19_ledger_462 rfl rfl ?_
                            refine x_iload 5 dX19_ledger_464 rfl rfl ?_
                            refine x_iload_n 3 dX19_ledger_466 rfl rfl rfl ?_
                            refine x_iconst 0 (z := 0) dX19_ledger_467 rfl (by decide) rfl ?_
                            refine x_aload_n 0 dX19_ledger_468 rfl rfl rfl rfl rfl ?_
                            refine x_iload_n 1 dX19_ledger_469 rfl rfl rfl ?_
                            refine x_iconst 1 (z := 1) dX19_ledger_470 rfl (by decide) rfl ?_
                            refine y_Vi 131 (M := mX19_cell) (As := [(0, a1), (0, 1)]) (st := [(0, 0), (0, b_i (100 + (w88 70 7))), (0, r91), (0, r89), (2, 27), (2, 83)]) dX19_ledger_471 i83 rfl q2579 q2581 qs111 q386 q2582 rfl hmX19_cell rfl rfl rfl rfl rfl rfl rfl rfl (k_mono h (fun r97 w98 h => ?_))
                            refine y_Vi 464 (M := mX8_operation) (As := [(0, r89), (0, r91), (0, b_i (100 + (w88 70 7))), (0, 0), (0, r97)]) (st := [(2, 83)]) dX19_ledger_474 i27 rfl q2998 q2999 q3000 q375 q3001 rfl hmX8_operation rfl rfl rfl rfl rfl rfl rfl rfl (k_mono h (fun r99 w100 h => ?_))
                            refine y_Vv 122 (M := mX19_push) (As := [(0, r99)]) (st := []) dX19_ledger_477 i83 rfl q2567 q2569 qs108 q386 q2570 rfl hmX19_push rfl rfl rfl rfl rfl rfl rfl (k_mono h (fun r101 w102 h => ?_))
                            refine x_goto 3 (q := 483) dX19_ledger_480 rfl ?_
                            exact y_vret dX19_ledger_483 rfl h
                        exact x_tsO (t := 391) dX19_ledger_65 (by omega) rfl key
theorem rX19_address {d n : Nat} {w : bW} {Q : Int → bW → Prop} {X : String → bW → Prop} (hn : 143 ≤ n) (a1 : Int) (a2 : Int) (h : (0 ≤ a2 ∧ a2 < 12001) ∧ (if a2 ≠ 0 then (b_K d mX14_length [(2, 50), (0, a2)] n w (fun r2 w3 => b_K d mX11_make [(2, 39), (2, 27), (0, a1), (2, 51), (0, w 52 a2), (0, r2)] n w3 (fun r4 w5 => Q r4 w5) X) X) else (b_K d mX11_make [(2, 39), (2, 27), (0, a1), (2, 51), (0, w 52 a2), (0, 0)] n w (fun r6 w7 => Q r6 w7) X))) : b_K (d + 1) mX19_address [(2, 83), (0, a1), (0, a2)] n w Q X := by
  have i39 := iz39 (Nat.le_trans (Nat.le_of_ble_eq_true rfl) hn)
  have i50 := iz50 (Nat.le_trans (Nat.le_of_ble_eq_true rfl) hn)
  have i52 := iz52 (Nat.le_trans (Nat.le_of_ble_eq_true rfl) hn)
  have i83 := iz83 (Nat.le_trans (Nat.le_of_ble_eq_true rfl) hn)
  refine k_of (by decide) rfl rfl rfl (ls := [(2, 83), (0, a1), (0, a2)]) rfl ?_
  refine x_aload_n 0 dX19_address_0 rfl rfl rfl rfl rfl ?_
  refine y_getF 82 7 (c := 18) (z := 39) dX19_address_1 i83 rfl in_X19 q1299 rfl rfl rfl fn_83_7 (Nat.le_trans (Nat.le_of_ble_eq_true rfl) hn) rfl ?_
  refine x_aload_n 0 dX19_address_4 rfl rfl rfl rfl rfl ?_
  refine y_getF 54 0 (c := 18) (z := 27) dX19_address_5 i83 rfl in_X19 q1292 rfl rfl rfl fn_83_0 (Nat.le_trans (Nat.le_of_ble_eq_true rfl) hn) rfl ?_
  refine x_iload_n 1 dX19_address_8 rfl rfl rfl ?_
  refine x_aload_n 0 dX19_address_9 rfl rfl rfl rfl rfl ?_
  refine y_getF 66 3 (c := 18) (z := 50) dX19_address_10 i83 rfl in_X19 q1295 rfl rfl rfl fn_83_3 (Nat.le_trans (Nat.le_of_ble_eq_true rfl) hn) rfl ?_
  refine y_getF 470 0 (c := 13) (z := 51) dX19_address_13 i50 rfl in_X14 q1001 rfl rfl rfl fn_50_0 (Nat.le_trans (Nat.le_of_ble_eq_true rfl) hn) rfl ?_
  refine x_aload_n 0 dX19_address_16 rfl rfl rfl rfl rfl ?_
  refine y_getF 66 3 (c := 18) (z := 50) dX19_address_17 i83 rfl in_X19 q1295 rfl rfl rfl fn_83_3 (Nat.le_trans (Nat.le_of_ble_eq_true rfl) hn) rfl ?_
  refine y_getF 472 1 (c := 13) (z := 52) dX19_address_20 i50 rfl in_X14 q1003 rfl rfl rfl fn_50_1 (Nat.le_trans (Nat.le_of_ble_eq_true rfl) hn) rfl ?_
  refine x_iload_n 2 dX19_address_23 rfl rfl rfl ?_
  obtain ⟨e1, h⟩ := h
  refine y_iald (z := w 52 a2) dX19_address_24 ⟨12001, i52, e1⟩ rfl rfl ?_
  refine x_iload_n 2 dX19_address_25 rfl rfl rfl ?_
  refine x_if_ne (t := 33) 7 dX19_address_26 rfl rfl (b_ite h (fun hc h => ?_) (fun hc h => ?_))
  · refine x_aload_n 0 dX19_address_33 rfl rfl rfl rfl rfl ?_
    refine y_getF 66 3 (c := 18) (z := 50) dX19_address_34 i83 rfl in_X19 q1295 rfl rfl rfl fn_83_3 (Nat.le_trans (Nat.le_of_ble_eq_true rfl) hn) rfl ?_
    refine x_iload_n 2 dX19_address_37 rfl rfl rfl ?_
    refine y_Vi 475 (M := mX14_length) (As := [(0, a2)]) (st := [(0, w 52 a2), (2, 51), (0, a1), (2, 27), (2, 39)]) dX19_address_38 i50 rfl q2976 q1888 q1889 q381 q1890 rfl hmX14_length rfl rfl rfl rfl rfl rfl rfl rfl (k_mono h (fun r2 w3 h => ?_))
    refine y_Vi 476 (M := mX11_make) (As := [(2, 27), (0, a1), (2, 51), (0, w 52 a2), (0, r2)]) (st := []) dX19_address_41 i39 rfl q2977 q2978 q2979 q378 q2980 rfl hmX11_make rfl rfl rfl rfl rfl rfl rfl rfl (k_mono h (fun r4 w5 h => ?_))
    exact y_iret dX19_address_44 rfl h
  · refine x_iconst 0 (z := 0) dX19_address_29 rfl (by decide) rfl ?_
    refine x_goto 11 (q := 41) dX19_address_30 rfl ?_
    refine y_Vi 476 (M := mX11_make) (As := [(2, 27), (0, a1), (2, 51), (0, w 52 a2), (0, 0)]) (st := []) dX19_address_41 i39 rfl q2977 q2978 q2979 q378 q2980 rfl hmX11_make rfl rfl rfl rfl rfl rfl rfl rfl (k_mono h (fun r6 w7 h => ?_))
    exact y_iret dX19_address_44 rfl h
abbrev LX19_contract_45 (d n : Nat) (Q : Int → bW → Prop) (X : String → bW → Prop) (a1 : Int) (a2 : Int) (a3 : Int) (a4 : Int) (s0 : Int) (w : bW) : Prop := b_Y (d + 1) mX19_contract n Q X 45 [(2, 83), (0, a1), (0, a2), (0, a3), (0, a4), (9, 0), (9, 0), (9, 0)] [(0, s0)] w
abbrev LX19_contract_132 (d n : Nat) (Q : Int → bW → Prop) (X : String → bW → Prop) (a2 : Int) (a3 : Int) (a4 : Int) (a5 : Int) (s0 : Int) (w : bW) : Prop := b_Y (d + 1) mX19_contract n Q X 132 [(2, 83), (9, 0), (0, a2), (0, a3), (0, a4), (0, a5), (9, 0), (9, 0)] [(0, s0)] w
theorem rX19_contract {d n : Nat} {w : bW} {Q : Int → bW → Prop} {X : String → bW → Prop} (hn : 143 ≤ n) (a1 : Int) (a2 : Int) (a3 : Int) (h : b_K d mX11_read_2 [(2, 39), (2, 27), (0, a1)] n w (fun r1 w2 => (0 ≤ r1 ∧ r1 < 200) ∧ (if w2 72 r1 ≠ 0 then (if w2 39 0 ≤ 0 then (LX19_contract_45 d n Q X a1 a2 a3 r1 0 w2) else (LX19_contract_45 d n Q X a1 a2 a3 r1 1 w2)) else (Q 8 w2))) X) : b_K (d + 1) mX19_contract [(2, 83), (0, a1), (0, a2), (0, a3)] n w Q X := by
  have i39 := iz39 (Nat.le_trans (Nat.le_of_ble_eq_true rfl) hn)
  have i70 := iz70 (Nat.le_trans (Nat.le_of_ble_eq_true rfl) hn)
  have i72 := iz72 (Nat.le_trans (Nat.le_of_ble_eq_true rfl) hn)
  have i83 := iz83 (Nat.le_trans (Nat.le_of_ble_eq_true rfl) hn)
  refine k_of (by decide) rfl rfl rfl (ls := [(2, 83), (0, a1), (0, a2), (0, a3), (9, 0), (9, 0), (9, 0), (9, 0)]) rfl ?_
  refine x_aload_n 0 dX19_contract_0 rfl rfl rfl rfl rfl ?_
  refine y_getF 82 7 (c := 18) (z := 39) dX19_contract_1 i83 rfl in_X19 q1299 rfl rfl rfl fn_83_7 (Nat.le_trans (Nat.le_of_ble_eq_true rfl) hn) rfl ?_
  refine x_aload_n 0 dX19_contract_4 rfl rfl rfl rfl rfl ?_
  refine y_getF 54 0 (c := 18) (z := 27) dX19_contract_5 i83 rfl in_X19 q1292 rfl rfl rfl fn_83_0 (Nat.le_trans (Nat.le_of_ble_eq_true rfl) hn) rfl ?_
  refine x_iload_n 1 dX19_contract_8 rfl rfl rfl ?_
  refine y_Vi 482 (M := mX11_read_2) (As := [(2, 27), (0, a1)]) (st := []) dX19_contract_9 i39 rfl q2991 q2891 q2892 q378 q2893 rfl hmX11_read_2 rfl rfl rfl rfl rfl rfl rfl rfl (k_mono h (fun r1 w2 h => ?_))
  refine x_istore 4 (ls' := [(2, 83), (0, a1), (0, a2), (0, a3), (0, r1), (9, 0), (9, 0), (9, 0)]) dX19_contract_12 rfl rfl rfl ?_
  refine x_aload_n 0 dX19_contract_14 rfl rfl rfl rfl rfl ?_
  refine y_getF 86 8 (c := 18) (z := 70) dX19_contract_15 i83 rfl in_X19 q1300 rfl rfl rfl fn_83_8 (Nat.le_trans (Nat.le_of_ble_eq_true rfl) hn) rfl ?_
  refine y_getF 485 1 (c := 16) (z := 72) dX19_contract_18 i70 rfl in_X17 q1165 rfl rfl rfl fn_70_1 (Nat.le_trans (Nat.le_of_ble_eq_true rfl) hn) rfl ?_
  refine x_iload 4 dX19_contract_21 rfl rfl ?_
  obtain ⟨e3, h⟩ := h
  refine y_zald (z := w2 72 r1) dX19_contract_23 ⟨200, i72, e3⟩ rfl rfl ?_
  refine x_if_ne (t := 30) 6 dX19_contract_24 rfl rfl (b_ite h (fun hc h => ?_) (fun hc h => ?_))
  · refine x_aload_n 0 dX19_contract_30 rfl rfl rfl rfl rfl ?_
    refine y_getF 82 7 (c := 18) (z := 39) dX19_contract_31 i83 rfl in_X19 q1299 rfl rfl rfl fn_83_7 (Nat.le_trans (Nat.le_of_ble_eq_true rfl) hn) rfl ?_
    refine y_get 489 0 (c := 10) (z := w2 39 0) dX19_contract_34 i39 rfl in_X11 q872 rfl rfl rfl rfl rfl ?_
    refine x_if_le (t := 44) 7 dX19_contract_37 rfl rfl (b_ite h (fun hc h => ?_) (fun hc h => ?_))
    · refine x_iconst 0 (z := 0) dX19_contract_44 rfl (by decide) rfl ?_
      exact x_fg (fgk (fgk (fgk (fgk (fgk (fgk (fgk (fgk (fg0))))))))) h
    · refine x_iconst 1 (z := 1) dX19_contract_40 rfl (by decide) rfl ?_
      refine x_goto 4 (q := 45) dX19_contract_41 rfl ?_
      exact x_fg (fgk (fgk (fgk (fgk (fgk (fgk (fgk (fgk (fg0))))))))) h
  · refine x_bipush 8 (z := 8) dX19_contract_27 rfl (by decide) rfl ?_
    exact y_iret dX19_contract_29 rfl h
theorem sX19_contract_45 {d n : Nat} {w : bW} {Q : Int → bW → Prop} {X : String → bW → Prop} (hn : 143 ≤ n) (a1 : Int) (a2 : Int) (a3 : Int) (a4 : Int) (s0 : Int) (h : if 100 ≤ a4 then (if s0 = 0 then (if 0 ≤ a3 then (LX19_contract_132 d n Q X a2 a3 a4 s0 a3 w) else (LX19_contract_132 d n Q X a2 a3 a4 s0 0 w)) else (b_K d mX11_text [(2, 39)] n w (fun r1 w2 => b_K d mX8_count [(2, 27), (0, a1)] n w2 (fun r3 w4 => b_K d mX14_find [(2, 50), (2, r1), (0, w2 39 0), (0, r3)] n w4 (fun r5 w6 => LX19_contract_132 d n Q X a2 a3 a4 s0 r5 w6) X) X) X)) else (if 0 ≤ a3 then (Q 8 w) else (if a2 ≠ 0 then (Q 8 w) else (b_K d mX8_contract [(2, 27), (0, a4), (0, 0)] n w (fun r7 w8 => b_K d mX8_wrap [(2, 27), (0, 4), (0, r7)] n w8 (fun r9 w10 => Q r9 w10) X) X)))) : LX19_contract_45 d n Q X a1 a2 a3 a4 s0 w := by
  have i27 := iz27 (Nat.le_trans (Nat.le_of_ble_eq_true rfl) hn)
  have i39 := iz39 (Nat.le_trans (Nat.le_of_ble_eq_true rfl) hn)
  have i50 := iz50 (Nat.le_trans (Nat.le_of_ble_eq_true rfl) hn)
  have i83 := iz83 (Nat.le_trans (Nat.le_of_ble_eq_true rfl) hn)
  refine x_istore 5 (ls' := [(2, 83), (0, a1), (0, a2), (0, a3), (0, a4), (0, s0), (9, 0), (9, 0)]) dX19_contract_45 rfl rfl rfl ?_
  refine x_iload 4 dX19_contract_47 rfl rfl ?_
  refine x_bipush 100 (z := 100) dX19_contract_49 rfl (by decide) rfl ?_
  refine x_icmp_ge (t := 86) 35 dX19_contract_51 rfl rfl (b_ite h (fun hc h => ?_) (fun hc h => ?_))
  · refine x_iload 5 dX19_contract_86 rfl rfl ?_
    refine x_if_eq (t := 123) 35 dX19_contract_88 rfl rfl (b_ite h (fun hc h => ?_) (fun hc h => ?_))
    · refine x_iload_n 3 dX19_contract_123 rfl rfl rfl ?_
      refine x_if_ge (t := 131) 7 dX19_contract_124 rfl rfl (b_ite h (fun hc h => ?_) (fun hc h => ?_))
      · refine x_iload_n 3 dX19_contract_131 rfl rfl rfl ?_
        exact x_fg (fgk (fgd (fgk (fgk (fgk (fgk (fgk (fgk (fg0))))))))) h
      · refine x_iconst 0 (z := 0) dX19_contract_127 rfl (by decide) rfl ?_
        refine x_goto 4 (q := 132) dX19_contract_128 rfl ?_
        exact x_fg (fgk (fgd (fgk (fgk (fgk (fgk (fgk (fgk (fg0))))))))) h
    · refine x_aload_n 0 dX19_contract_91 rfl rfl rfl rfl rfl ?_
      refine y_getF 66 3 (c := 18) (z := 50) dX19_contract_92 i83 rfl in_X19 q1295 rfl rfl rfl fn_83_3 (Nat.le_trans (Nat.le_of_ble_eq_true rfl) hn) rfl ?_
      refine x_aload_n 0 dX19_contract_95 rfl rfl rfl rfl rfl ?_
      refine y_getF 82 7 (c := 18) (z := 39) dX19_contract_96 i83 rfl in_X19 q1299 rfl rfl rfl fn_83_7 (Nat.le_trans (Nat.le_of_ble_eq_true rfl) hn) rfl ?_
      refine y_Vr 492 (M := mX11_text) (As := []) (st := [(2, 50)]) dX19_contract_99 i39 rfl q2992 q2993 q2994 q378 q2995 rfl hmX11_text rfl rfl rfl rfl rfl rfl rfl rfl (k_mono h (fun r1 w2 h => ?_))
      refine x_aload_n 0 dX19_contract_102 rfl rfl rfl rfl rfl ?_
      refine y_getF 82 7 (c := 18) (z := 39) dX19_contract_103 i83 rfl in_X19 q1299 rfl rfl rfl fn_83_7 (Nat.le_trans (Nat.le_of_ble_eq_true rfl) hn) rfl ?_
      refine y_get 489 0 (c := 10) (z := w2 39 0) dX19_contract_106 i39 rfl in_X11 q872 rfl rfl rfl rfl rfl ?_
      refine x_aload_n 0 dX19_contract_109 rfl rfl rfl rfl rfl ?_
      refine y_getF 54 0 (c := 18) (z := 27) dX19_contract_110 i83 rfl in_X19 q1292 rfl rfl rfl fn_83_0 (Nat.le_trans (Nat.le_of_ble_eq_true rfl) hn) rfl ?_
      refine x_iload_n 1 dX19_contract_113 rfl rfl rfl ?_
      refine y_Vi 388 (M := mX8_count) (As := [(0, a1)]) (st := [(0, w2 39 0), (2, r1), (2, 50)]) dX19_contract_114 i27 rfl q2839 q2087 q2088 q375 q2089 rfl hmX8_count rfl rfl rfl rfl rfl rfl rfl rfl (k_mono h (fun r3 w4 h => ?_))
      refine y_Vi 496 (M := mX14_find) (As := [(2, r1), (0, w2 39 0), (0, r3)]) (st := []) dX19_contract_117 i50 rfl q2996 q1880 q1881 q381 q1882 rfl hmX14_find rfl rfl rfl rfl rfl rfl rfl rfl (k_mono h (fun r5 w6 h => ?_))
      refine x_goto 12 (q := 132) dX19_contract_120 rfl ?_
      exact x_fg (fgk (fgd (fgk (fgk (fgk (fgk (fgk (fgk (fg0))))))))) h
  · refine x_iload_n 3 dX19_contract_54 rfl rfl rfl ?_
    refine x_if_ge (t := 83) 28 dX19_contract_55 rfl rfl (b_ite h (fun hc h => ?_) (fun hc h => ?_))
    · refine x_bipush 8 (z := 8) dX19_contract_83 rfl (by decide) rfl ?_
      exact y_iret dX19_contract_85 rfl h
    · refine x_iload_n 2 dX19_contract_58 rfl rfl rfl ?_
      refine x_if_ne (t := 83) 24 dX19_contract_59 rfl rfl (b_ite h (fun hc h => ?_) (fun hc h => ?_))
      · refine x_bipush 8 (z := 8) dX19_contract_83 rfl (by decide) rfl ?_
        exact y_iret dX19_contract_85 rfl h
      · refine x_aload_n 0 dX19_contract_62 rfl rfl rfl rfl rfl ?_
        refine y_getF 54 0 (c := 18) (z := 27) dX19_contract_63 i83 rfl in_X19 q1292 rfl rfl rfl fn_83_0 (Nat.le_trans (Nat.le_of_ble_eq_true rfl) hn) rfl ?_
        refine x_iconst 4 (z := 4) dX19_contract_66 rfl (by decide) rfl ?_
        refine x_aload_n 0 dX19_contract_67 rfl rfl rfl rfl rfl ?_
        refine y_getF 54 0 (c := 18) (z := 27) dX19_contract_68 i83 rfl in_X19 q1292 rfl rfl rfl fn_83_0 (Nat.le_trans (Nat.le_of_ble_eq_true rfl) hn) rfl ?_
        refine x_iload 4 dX19_contract_71 rfl rfl ?_
        refine x_iconst 0 (z := 0) dX19_contract_73 rfl (by decide) rfl ?_
        refine y_Vi 459 (M := mX8_contract) (As := [(0, a4), (0, 0)]) (st := [(0, 4), (2, 27)]) dX19_contract_74 i27 rfl q2983 q2984 q2985 q375 q2986 rfl hmX8_contract rfl rfl rfl rfl rfl rfl rfl rfl (k_mono h (fun r7 w8 h => ?_))
        refine y_Vi 156 (M := mX8_wrap) (As := [(0, 4), (0, r7)]) (st := []) dX19_contract_77 i27 rfl q2641 q2024 q2025 q375 q2026 rfl hmX8_wrap rfl rfl rfl rfl rfl rfl rfl rfl (k_mono h (fun r9 w10 h => ?_))
        refine x_goto 5 (q := 85) dX19_contract_80 rfl ?_
        exact y_iret dX19_contract_85 rfl h
theorem sX19_contract_132 {d n : Nat} {w : bW} {Q : Int → bW → Prop} {X : String → bW → Prop} (hn : 143 ≤ n) (a2 : Int) (a3 : Int) (a4 : Int) (a5 : Int) (s0 : Int) (h : if s0 < 0 then (Q 8 w) else (if a5 = 0 then ((0 ≤ a4 ∧ a4 < 200) ∧ (b_K d mX15_entry [(2, 53), (0, w 73 a4), (0, s0)] n w (fun r2 w3 => if r2 < 0 then (Q 8 w3) else ((0 ≤ r2 ∧ r2 < 12000) ∧ (if w3 61 r2 ≠ a2 then (Q 8 w3) else (b_K d mX8_contract [(2, 27), (0, a4), (0, s0)] n w3 (fun r5 w6 => b_K d mX8_wrap [(2, 27), (0, 4), (0, r5)] n w6 (fun r7 w8 => Q r7 w8) X) X)))) X)) else (if a3 < 0 then ((0 ≤ a4 ∧ a4 < 200) ∧ (b_K d mX15_entry [(2, 53), (0, w 73 a4), (0, s0)] n w (fun r10 w11 => if r10 < 0 then (Q 8 w11) else ((0 ≤ r10 ∧ r10 < 12000) ∧ (if w11 61 r10 ≠ a2 then (Q 8 w11) else (b_K d mX8_contract [(2, 27), (0, a4), (0, s0)] n w11 (fun r13 w14 => b_K d mX8_wrap [(2, 27), (0, 4), (0, r13)] n w14 (fun r15 w16 => Q r15 w16) X) X)))) X)) else (Q 8 w)))) : LX19_contract_132 d n Q X a2 a3 a4 a5 s0 w := by
  have i27 := iz27 (Nat.le_trans (Nat.le_of_ble_eq_true rfl) hn)
  have i53 := iz53 (Nat.le_trans (Nat.le_of_ble_eq_true rfl) hn)
  have i61 := iz61 (Nat.le_trans (Nat.le_of_ble_eq_true rfl) hn)
  have i70 := iz70 (Nat.le_trans (Nat.le_of_ble_eq_true rfl) hn)
  have i73 := iz73 (Nat.le_trans (Nat.le_of_ble_eq_true rfl) hn)
  have i83 := iz83 (Nat.le_trans (Nat.le_of_ble_eq_true rfl) hn)
  refine x_istore 6 (ls' := [(2, 83), (9, 0), (0, a2), (0, a3), (0, a4), (0, a5), (0, s0), (9, 0)]) dX19_contract_132 rfl rfl rfl ?_
  refine x_iload 6 dX19_contract_134 rfl rfl ?_
  refine x_if_lt (t := 148) 12 dX19_contract_136 rfl rfl (b_ite h (fun hc h => ?_) (fun hc h => ?_))
  · refine x_iconst (-1) (z := (-1)) dX19_contract_148 rfl (by decide) rfl ?_
    refine x_goto 22 (q := 171) dX19_contract_149 rfl ?_
    refine x_istore 7 (ls' := [(2, 83), (9, 0), (0, a2), (0, a3), (0, a4), (0, a5), (0, s0), (0, (-1))]) dX19_contract_171 rfl rfl rfl ?_
    refine x_iload 7 dX19_contract_173 rfl rfl ?_
    refine x_if_lt (t := 214) 39 dX19_contract_175 rfl rfl (b_ifT (by decide) ?_)
    refine x_bipush 8 (z := 8) dX19_contract_214 rfl (by decide) rfl ?_
    exact y_iret dX19_contract_216 rfl h
  · refine x_iload 5 dX19_contract_139 rfl rfl ?_
    refine x_if_eq (t := 152) 11 dX19_contract_141 rfl rfl (b_ite h (fun hc h => ?_) (fun hc h => ?_))
    · refine x_aload_n 0 dX19_contract_152 rfl rfl rfl rfl rfl ?_
      refine y_getF 62 2 (c := 18) (z := 53) dX19_contract_153 i83 rfl in_X19 q1294 rfl rfl rfl fn_83_2 (Nat.le_trans (Nat.le_of_ble_eq_true rfl) hn) rfl ?_
      refine x_aload_n 0 dX19_contract_156 rfl rfl rfl rfl rfl ?_
      refine y_getF 86 8 (c := 18) (z := 70) dX19_contract_157 i83 rfl in_X19 q1300 rfl rfl rfl fn_83_8 (Nat.le_trans (Nat.le_of_ble_eq_true rfl) hn) rfl ?_
      refine y_getF 498 2 (c := 16) (z := 73) dX19_contract_160 i70 rfl in_X17 q1169 rfl rfl rfl fn_70_2 (Nat.le_trans (Nat.le_of_ble_eq_true rfl) hn) rfl ?_
      refine x_iload 4 dX19_contract_163 rfl rfl ?_
      obtain ⟨e1, h⟩ := h
      refine y_iald (z := w 73 a4) dX19_contract_165 ⟨200, i73, e1⟩ rfl rfl ?_
      refine x_iload 6 dX19_contract_166 rfl rfl ?_
      refine y_Vi 500 (M := mX15_entry) (As := [(0, w 73 a4), (0, s0)]) (st := []) dX19_contract_168 i53 rfl q2997 q1895 q1896 q382 q1897 rfl hmX15_entry rfl rfl rfl rfl rfl rfl rfl rfl (k_mono h (fun r2 w3 h => ?_))
      refine x_istore 7 (ls' := [(2, 83), (9, 0), (0, a2), (0, a3), (0, a4), (0, a5), (0, s0), (0, r2)]) dX19_contract_171 rfl rfl rfl ?_
      refine x_iload 7 dX19_contract_173 rfl rfl ?_
      refine x_if_lt (t := 214) 39 dX19_contract_175 rfl rfl (b_ite h (fun hc h => ?_) (fun hc h => ?_))
      · refine x_bipush 8 (z := 8) dX19_contract_214 rfl (by decide) rfl ?_
        exact y_iret dX19_contract_216 rfl h
      · refine x_aload_n 0 dX19_contract_178 rfl rfl rfl rfl rfl ?_
        refine y_getF 62 2 (c := 18) (z := 53) dX19_contract_179 i83 rfl in_X19 q1294 rfl rfl rfl fn_83_2 (Nat.le_trans (Nat.le_of_ble_eq_true rfl) hn) rfl ?_
        refine y_getF 503 8 (c := 14) (z := 61) dX19_contract_182 i53 rfl in_X15 q1045 rfl rfl rfl fn_53_8 (Nat.le_trans (Nat.le_of_ble_eq_true rfl) hn) rfl ?_
        refine x_iload 7 dX19_contract_185 rfl rfl ?_
        obtain ⟨e4, h⟩ := h
        refine y_iald (z := w3 61 r2) dX19_contract_187 ⟨12000, i61, e4⟩ rfl rfl ?_
        refine x_iload_n 2 dX19_contract_188 rfl rfl rfl ?_
        refine x_icmp_ne (t := 214) 25 dX19_contract_189 rfl rfl (b_ite h (fun hc h => ?_) (fun hc h => ?_))
        · refine x_bipush 8 (z := 8) dX19_contract_214 rfl (by decide) rfl ?_
          exact y_iret dX19_contract_216 rfl h
        · refine x_aload_n 0 dX19_contract_192 rfl rfl rfl rfl rfl ?_
          refine y_getF 54 0 (c := 18) (z := 27) dX19_contract_193 i83 rfl in_X19 q1292 rfl rfl rfl fn_83_0 (Nat.le_trans (Nat.le_of_ble_eq_true rfl) hn) rfl ?_
          refine x_iconst 4 (z := 4) dX19_contract_196 rfl (by decide) rfl ?_
          refine x_aload_n 0 dX19_contract_197 rfl rfl rfl rfl rfl ?_
          refine y_getF 54 0 (c := 18) (z := 27) dX19_contract_198 i83 rfl in_X19 q1292 rfl rfl rfl fn_83_0 (Nat.le_trans (Nat.le_of_ble_eq_true rfl) hn) rfl ?_
          refine x_iload 4 dX19_contract_201 rfl rfl ?_
          refine x_iload 6 dX19_contract_203 rfl rfl ?_
          refine y_Vi 459 (M := mX8_contract) (As := [(0, a4), (0, s0)]) (st := [(0, 4), (2, 27)]) dX19_contract_205 i27 rfl q2983 q2984 q2985 q375 q2986 rfl hmX8_contract rfl rfl rfl rfl rfl rfl rfl rfl (k_mono h (fun r5 w6 h => ?_))
          refine y_Vi 156 (M := mX8_wrap) (As := [(0, 4), (0, r5)]) (st := []) dX19_contract_208 i27 rfl q2641 q2024 q2025 q375 q2026 rfl hmX8_wrap rfl rfl rfl rfl rfl rfl rfl rfl (k_mono h (fun r7 w8 h => ?_))
          refine x_goto 5 (q := 216) dX19_contract_211 rfl ?_
          exact y_iret dX19_contract_216 rfl h
    · refine x_iload_n 3 dX19_contract_144 rfl rfl rfl ?_
      refine x_if_lt (t := 152) 7 dX19_contract_145 rfl rfl (b_ite h (fun hc h => ?_) (fun hc h => ?_))
      · refine x_aload_n 0 dX19_contract_152 rfl rfl rfl rfl rfl ?_
        refine y_getF 62 2 (c := 18) (z := 53) dX19_contract_153 i83 rfl in_X19 q1294 rfl rfl rfl fn_83_2 (Nat.le_trans (Nat.le_of_ble_eq_true rfl) hn) rfl ?_
        refine x_aload_n 0 dX19_contract_156 rfl rfl rfl rfl rfl ?_
        refine y_getF 86 8 (c := 18) (z := 70) dX19_contract_157 i83 rfl in_X19 q1300 rfl rfl rfl fn_83_8 (Nat.le_trans (Nat.le_of_ble_eq_true rfl) hn) rfl ?_
        refine y_getF 498 2 (c := 16) (z := 73) dX19_contract_160 i70 rfl in_X17 q1169 rfl rfl rfl fn_70_2 (Nat.le_trans (Nat.le_of_ble_eq_true rfl) hn) rfl ?_
        refine x_iload 4 dX19_contract_163 rfl rfl ?_
        obtain ⟨e9, h⟩ := h
        refine y_iald (z := w 73 a4) dX19_contract_165 ⟨200, i73, e9⟩ rfl rfl ?_
        refine x_iload 6 dX19_contract_166 rfl rfl ?_
        refine y_Vi 500 (M := mX15_entry) (As := [(0, w 73 a4), (0, s0)]) (st := []) dX19_contract_168 i53 rfl q2997 q1895 q1896 q382 q1897 rfl hmX15_entry rfl rfl rfl rfl rfl rfl rfl rfl (k_mono h (fun r10 w11 h => ?_))
        refine x_istore 7 (ls' := [(2, 83), (9, 0), (0, a2), (0, a3), (0, a4), (0, a5), (0, s0), (0, r10)]) dX19_contract_171 rfl rfl rfl ?_
        refine x_iload 7 dX19_contract_173 rfl rfl ?_
        refine x_if_lt (t := 214) 39 dX19_contract_175 rfl rfl (b_ite h (fun hc h => ?_) (fun hc h => ?_))
        · refine x_bipush 8 (z := 8) dX19_contract_214 rfl (by decide) rfl ?_
          exact y_iret dX19_contract_216 rfl h
        · refine x_aload_n 0 dX19_contract_178 rfl rfl rfl rfl rfl ?_
          refine y_getF 62 2 (c := 18) (z := 53) dX19_contract_179 i83 rfl in_X19 q1294 rfl rfl rfl fn_83_2 (Nat.le_trans (Nat.le_of_ble_eq_true rfl) hn) rfl ?_
          refine y_getF 503 8 (c := 14) (z := 61) dX19_contract_182 i53 rfl in_X15 q1045 rfl rfl rfl fn_53_8 (Nat.le_trans (Nat.le_of_ble_eq_true rfl) hn) rfl ?_
          refine x_iload 7 dX19_contract_185 rfl rfl ?_
          obtain ⟨e12, h⟩ := h
          refine y_iald (z := w11 61 r10) dX19_contract_187 ⟨12000, i61, e12⟩ rfl rfl ?_
          refine x_iload_n 2 dX19_contract_188 rfl rfl rfl ?_
          refine x_icmp_ne (t := 214) 25 dX19_contract_189 rfl rfl (b_ite h (fun hc h => ?_) (fun hc h => ?_))
          · refine x_bipush 8 (z := 8) dX19_contract_214 rfl (by decide) rfl ?_
            exact y_iret dX19_contract_216 rfl h
          · refine x_aload_n 0 dX19_contract_192 rfl rfl rfl rfl rfl ?_
            refine y_getF 54 0 (c := 18) (z := 27) dX19_contract_193 i83 rfl in_X19 q1292 rfl rfl rfl fn_83_0 (Nat.le_trans (Nat.le_of_ble_eq_true rfl) hn) rfl ?_
            refine x_iconst 4 (z := 4) dX19_contract_196 rfl (by decide) rfl ?_
            refine x_aload_n 0 dX19_contract_197 rfl rfl rfl rfl rfl ?_
            refine y_getF 54 0 (c := 18) (z := 27) dX19_contract_198 i83 rfl in_X19 q1292 rfl rfl rfl fn_83_0 (Nat.le_trans (Nat.le_of_ble_eq_true rfl) hn) rfl ?_
            refine x_iload 4 dX19_contract_201 rfl rfl ?_
            refine x_iload 6 dX19_contract_203 rfl rfl ?_
            refine y_Vi 459 (M := mX8_contract) (As := [(0, a4), (0, s0)]) (st := [(0, 4), (2, 27)]) dX19_contract_205 i27 rfl q2983 q2984 q2985 q375 q2986 rfl hmX8_contract rfl rfl rfl rfl rfl rfl rfl rfl (k_mono h (fun r13 w14 h => ?_))
            refine y_Vi 156 (M := mX8_wrap) (As := [(0, 4), (0, r13)]) (st := []) dX19_contract_208 i27 rfl q2641 q2024 q2025 q375 q2026 rfl hmX8_wrap rfl rfl rfl rfl rfl rfl rfl rfl (k_mono h (fun r15 w16 h => ?_))
            refine x_goto 5 (q := 216) dX19_contract_211 rfl ?_
            exact y_iret dX19_contract_216 rfl h
      · refine x_iconst (-1) (z := (-1)) dX19_contract_148 rfl (by decide) rfl ?_
        refine x_goto 22 (q := 171) dX19_contract_149 rfl ?_
        refine x_istore 7 (ls' := [(2, 83), (9, 0), (0, a2), (0, a3), (0, a4), (0, a5), (0, s0), (0, (-1))]) dX19_contract_171 rfl rfl rfl ?_
        refine x_iload 7 dX19_contract_173 rfl rfl ?_
        refine x_if_lt (t := 214) 39 dX19_contract_175 rfl rfl (b_ifT (by decide) ?_)
        refine x_bipush 8 (z := 8) dX19_contract_214 rfl (by decide) rfl ?_
        exact y_iret dX19_contract_216 rfl h
end RulesX19
