section RulesX22
set_option maxRecDepth 100000
theorem rX22_mark {d n : Nat} {w : bW} {Q : Int → bW → Prop} {X : String → bW → Prop} (hn : 143 ≤ n) (h : b_K d mX8_fixedTop [(2, 27)] n (b_up (b_up (b_up (b_up (b_up w 102 22 (w 19 7)) 102 23 (w 50 2)) 102 24 (w 53 6)) 102 25 (w 53 11)) 102 26 (w 53 13)) (fun r1 w2 => Q 0 (b_up w2 102 27 r1)) X) : b_K (d + 1) mX22_mark [(2, 102)] n w Q X := by
  have i19 := iz19 (Nat.le_trans (Nat.le_of_ble_eq_true rfl) hn)
  have i27 := iz27 (Nat.le_trans (Nat.le_of_ble_eq_true rfl) hn)
  have i50 := iz50 (Nat.le_trans (Nat.le_of_ble_eq_true rfl) hn)
  have i53 := iz53 (Nat.le_trans (Nat.le_of_ble_eq_true rfl) hn)
  have i102 := iz102 (Nat.le_trans (Nat.le_of_ble_eq_true rfl) hn)
  refine k_of (by decide) rfl rfl rfl (ls := [(2, 102)]) rfl ?_
  refine x_aload_n 0 dX22_mark_0 rfl rfl rfl rfl rfl ?_
  refine x_aload_n 0 dX22_mark_1 rfl rfl rfl rfl rfl ?_
  refine y_getF 36 1 (c := 20) (z := 19) dX22_mark_2 i102 rfl in_X22 q1406 rfl rfl rfl fn_102_1 (Nat.le_trans (Nat.le_of_ble_eq_true rfl) hn) rfl ?_
  refine y_get 86 7 (c := 6) (z := w 19 7) dX22_mark_5 i19 rfl in_X7 q774 rfl rfl rfl rfl rfl ?_
  refine x_put 91 22 (c := 20) dX22_mark_8 i102 rfl in_X22 tyX22_ok nmX22 q1430 rfl rfl rfl (Or.inl rfl) (Or.inl ⟨rfl, rfl⟩) rfl ?_
  refine x_aload_n 0 dX22_mark_11 rfl rfl rfl rfl rfl ?_
  refine x_aload_n 0 dX22_mark_12 rfl rfl rfl rfl rfl ?_
  refine y_getF 40 2 (c := 20) (z := 50) dX22_mark_13 i102 rfl in_X22 q1407 rfl rfl rfl fn_102_2 (Nat.le_trans (Nat.le_of_ble_eq_true rfl) hn) rfl ?_
  refine y_get 94 2 (c := 13) (z := w 50 2) dX22_mark_16 i50 rfl in_X14 q1005 rfl rfl rfl rfl rfl ?_
  refine x_put 97 23 (c := 20) dX22_mark_19 i102 rfl in_X22 tyX22_ok nmX22 q1431 rfl rfl rfl (Or.inl rfl) (Or.inl ⟨rfl, rfl⟩) rfl ?_
  refine x_aload_n 0 dX22_mark_22 rfl rfl rfl rfl rfl ?_
  refine x_aload_n 0 dX22_mark_23 rfl rfl rfl rfl rfl ?_
  refine y_getF 44 3 (c := 20) (z := 53) dX22_mark_24 i102 rfl in_X22 q1408 rfl rfl rfl fn_102_3 (Nat.le_trans (Nat.le_of_ble_eq_true rfl) hn) rfl ?_
  refine y_get 100 6 (c := 14) (z := w 53 6) dX22_mark_27 i53 rfl in_X15 q1038 rfl rfl rfl rfl rfl ?_
  refine x_put 103 24 (c := 20) dX22_mark_30 i102 rfl in_X22 tyX22_ok nmX22 q1432 rfl rfl rfl (Or.inl rfl) (Or.inl ⟨rfl, rfl⟩) rfl ?_
  refine x_aload_n 0 dX22_mark_33 rfl rfl rfl rfl rfl ?_
  refine x_aload_n 0 dX22_mark_34 rfl rfl rfl rfl rfl ?_
  refine y_getF 44 3 (c := 20) (z := 53) dX22_mark_35 i102 rfl in_X22 q1408 rfl rfl rfl fn_102_3 (Nat.le_trans (Nat.le_of_ble_eq_true rfl) hn) rfl ?_
  refine y_get 106 11 (c := 14) (z := w 53 11) dX22_mark_38 i53 rfl in_X15 q1053 rfl rfl rfl rfl rfl ?_
  refine x_put 109 25 (c := 20) dX22_mark_41 i102 rfl in_X22 tyX22_ok nmX22 q1433 rfl rfl rfl (Or.inl rfl) (Or.inl ⟨rfl, rfl⟩) rfl ?_
  refine x_aload_n 0 dX22_mark_44 rfl rfl rfl rfl rfl ?_
  refine x_aload_n 0 dX22_mark_45 rfl rfl rfl rfl rfl ?_
  refine y_getF 44 3 (c := 20) (z := 53) dX22_mark_46 i102 rfl in_X22 q1408 rfl rfl rfl fn_102_3 (Nat.le_trans (Nat.le_of_ble_eq_true rfl) hn) rfl ?_
  refine y_get 112 13 (c := 14) (z := w 53 13) dX22_mark_49 i53 rfl in_X15 q1059 rfl rfl rfl rfl rfl ?_
  refine x_put 115 26 (c := 20) dX22_mark_52 i102 rfl in_X22 tyX22_ok nmX22 q1434 rfl rfl rfl (Or.inl rfl) (Or.inl ⟨rfl, rfl⟩) rfl ?_
  refine x_aload_n 0 dX22_mark_55 rfl rfl rfl rfl rfl ?_
  refine x_aload_n 0 dX22_mark_56 rfl rfl rfl rfl rfl ?_
  refine y_getF 56 6 (c := 20) (z := 27) dX22_mark_57 i102 rfl in_X22 q1411 rfl rfl rfl fn_102_6 (Nat.le_trans (Nat.le_of_ble_eq_true rfl) hn) rfl ?_
  refine y_Vi 118 (M := mX8_fixedTop) (As := []) (st := [(2, 102)]) dX22_mark_60 i27 rfl q1813 q1814 q1815 q375 q1816 rfl hmX8_fixedTop rfl rfl rfl rfl rfl rfl rfl rfl (k_mono h (fun r1 w2 h => ?_))
  refine x_put 124 27 (c := 20) dX22_mark_63 i102 rfl in_X22 tyX22_ok nmX22 q1435 rfl rfl rfl (Or.inl rfl) (Or.inl ⟨rfl, rfl⟩) rfl ?_
  exact y_vret dX22_mark_66 rfl h
theorem rX22_drop {d n : Nat} {w : bW} {Q : Int → bW → Prop} {X : String → bW → Prop} (hn : 143 ≤ n) (h : b_K d mX7_drop [(2, 19), (0, w 102 22)] n w (fun r1 w2 => b_K d mX15_drop [(2, 53), (0, w2 102 24), (0, w2 102 25), (0, w2 102 26)] n (b_up w2 50 2 (w2 102 23)) (fun r3 w4 => b_K d mX8_dropFixed [(2, 27), (0, w4 102 27)] n w4 (fun r5 w6 => Q 0 (b_up w6 27 5 0)) X) X) X) : b_K (d + 1) mX22_drop [(2, 102)] n w Q X := by
  have i19 := iz19 (Nat.le_trans (Nat.le_of_ble_eq_true rfl) hn)
  have i27 := iz27 (Nat.le_trans (Nat.le_of_ble_eq_true rfl) hn)
  have i50 := iz50 (Nat.le_trans (Nat.le_of_ble_eq_true rfl) hn)
  have i53 := iz53 (Nat.le_trans (Nat.le_of_ble_eq_true rfl) hn)
  have i102 := iz102 (Nat.le_trans (Nat.le_of_ble_eq_true rfl) hn)
  refine k_of (by decide) rfl rfl rfl (ls := [(2, 102)]) rfl ?_
  refine x_aload_n 0 dX22_drop_0 rfl rfl rfl rfl rfl ?_
  refine y_getF 36 1 (c := 20) (z := 19) dX22_drop_1 i102 rfl in_X22 q1406 rfl rfl rfl fn_102_1 (Nat.le_trans (Nat.le_of_ble_eq_true rfl) hn) rfl ?_
  refine x_aload_n 0 dX22_drop_4 rfl rfl rfl rfl rfl ?_
  refine y_get 91 22 (c := 20) (z := w 102 22) dX22_drop_5 i102 rfl in_X22 q1430 rfl rfl rfl rfl rfl ?_
  refine y_Vv 127 (M := mX7_drop) (As := [(0, w 102 22)]) (st := []) dX22_drop_8 i19 rfl q2314 q2315 q2316 q374 q2317 rfl hmX7_drop rfl rfl rfl rfl rfl rfl rfl (k_mono h (fun r1 w2 h => ?_))
  refine x_aload_n 0 dX22_drop_11 rfl rfl rfl rfl rfl ?_
  refine y_getF 40 2 (c := 20) (z := 50) dX22_drop_12 i102 rfl in_X22 q1407 rfl rfl rfl fn_102_2 (Nat.le_trans (Nat.le_of_ble_eq_true rfl) hn) rfl ?_
  refine x_aload_n 0 dX22_drop_15 rfl rfl rfl rfl rfl ?_
  refine y_get 97 23 (c := 20) (z := w2 102 23) dX22_drop_16 i102 rfl in_X22 q1431 rfl rfl rfl rfl rfl ?_
  refine x_put 94 2 (c := 13) dX22_drop_19 i50 rfl in_X14 tyX14_ok nmX14 q1005 rfl rfl rfl (Or.inl rfl) (Or.inl ⟨rfl, rfl⟩) rfl ?_
  refine x_aload_n 0 dX22_drop_22 rfl rfl rfl rfl rfl ?_
  refine y_getF 44 3 (c := 20) (z := 53) dX22_drop_23 i102 rfl in_X22 q1408 rfl rfl rfl fn_102_3 (Nat.le_trans (Nat.le_of_ble_eq_true rfl) hn) rfl ?_
  refine x_aload_n 0 dX22_drop_26 rfl rfl rfl rfl rfl ?_
  refine y_get 103 24 (c := 20) (z := w2 102 24) dX22_drop_27 i102 rfl in_X22 q1432 rfl rfl rfl rfl rfl ?_
  refine x_aload_n 0 dX22_drop_30 rfl rfl rfl rfl rfl ?_
  refine y_get 109 25 (c := 20) (z := w2 102 25) dX22_drop_31 i102 rfl in_X22 q1433 rfl rfl rfl rfl rfl ?_
  refine x_aload_n 0 dX22_drop_34 rfl rfl rfl rfl rfl ?_
  refine y_get 115 26 (c := 20) (z := w2 102 26) dX22_drop_35 i102 rfl in_X22 q1434 rfl rfl rfl rfl rfl ?_
  refine y_Vv 131 (M := mX15_drop) (As := [(0, w2 102 24), (0, w2 102 25), (0, w2 102 26)]) (st := []) dX22_drop_38 i53 rfl q2318 q2319 q2320 q382 q2321 rfl hmX15_drop rfl rfl rfl rfl rfl rfl rfl (k_mono h (fun r3 w4 h => ?_))
  refine x_aload_n 0 dX22_drop_41 rfl rfl rfl rfl rfl ?_
  refine y_getF 56 6 (c := 20) (z := 27) dX22_drop_42 i102 rfl in_X22 q1411 rfl rfl rfl fn_102_6 (Nat.le_trans (Nat.le_of_ble_eq_true rfl) hn) rfl ?_
  refine x_aload_n 0 dX22_drop_45 rfl rfl rfl rfl rfl ?_
  refine y_get 124 27 (c := 20) (z := w4 102 27) dX22_drop_46 i102 rfl in_X22 q1435 rfl rfl rfl rfl rfl ?_
  refine y_Vv 134 (M := mX8_dropFixed) (As := [(0, w4 102 27)]) (st := []) dX22_drop_49 i27 rfl q2322 q2323 q2324 q375 q2325 rfl hmX8_dropFixed rfl rfl rfl rfl rfl rfl rfl (k_mono h (fun r5 w6 h => ?_))
  refine x_aload_n 0 dX22_drop_52 rfl rfl rfl rfl rfl ?_
  refine y_getF 56 6 (c := 20) (z := 27) dX22_drop_53 i102 rfl in_X22 q1411 rfl rfl rfl fn_102_6 (Nat.le_trans (Nat.le_of_ble_eq_true rfl) hn) rfl ?_
  refine x_iconst 0 (z := 0) dX22_drop_56 rfl (by decide) rfl ?_
  refine x_put 137 5 (c := 7) dX22_drop_57 i27 rfl in_X8 tyX8_ok nmX8 q808 rfl rfl rfl (Or.inl rfl) (Or.inr (Or.inl ⟨rfl, rfl, by decide⟩)) rfl ?_
  exact y_vret dX22_drop_60 rfl h
theorem rX22_tidy {d n : Nat} {w : bW} {Q : Int → bW → Prop} {X : String → bW → Prop} (hn : 143 ≤ n) (h : b_K d mX8_tidy [(2, 27), (0, 300000), (2, 102)] n w (fun r1 w2 => Q 0 w2) X) : b_K (d + 1) mX22_tidy [(2, 102)] n w Q X := by
  have i27 := iz27 (Nat.le_trans (Nat.le_of_ble_eq_true rfl) hn)
  have i102 := iz102 (Nat.le_trans (Nat.le_of_ble_eq_true rfl) hn)
  refine k_of (by decide) rfl rfl rfl (ls := [(2, 102)]) rfl ?_
  refine x_aload_n 0 dX22_tidy_0 rfl rfl rfl rfl rfl ?_
  refine y_getF 56 6 (c := 20) (z := 27) dX22_tidy_1 i102 rfl in_X22 q1411 rfl rfl rfl fn_102_6 (Nat.le_trans (Nat.le_of_ble_eq_true rfl) hn) rfl ?_
  refine x_ldc 141 (x := 300000) dX22_tidy_4 q2339 rfl (by decide) rfl ?_
  refine x_aload_n 0 dX22_tidy_6 rfl rfl rfl rfl rfl ?_
  refine y_Vv 142 (M := mX8_tidy) (As := [(0, 300000), (2, 102)]) (st := []) dX22_tidy_7 i27 rfl q2340 q2341 q2342 q375 q2343 rfl hmX8_tidy rfl rfl rfl rfl rfl rfl rfl (k_mono h (fun r1 w2 h => ?_))
  exact y_vret dX22_tidy_10 rfl h
theorem rX22_keep {d n : Nat} {w : bW} {Q : Int → bW → Prop} {X : String → bW → Prop} (hn : 143 ≤ n) (h : b_K d mX17_keep [(2, 70), (2, 27)] n w (fun r1 w2 => Q 0 w2) X) : b_K (d + 1) mX22_keep [(2, 102), (2, 27)] n w Q X := by
  have i70 := iz70 (Nat.le_trans (Nat.le_of_ble_eq_true rfl) hn)
  have i102 := iz102 (Nat.le_trans (Nat.le_of_ble_eq_true rfl) hn)
  refine k_of (by decide) rfl rfl rfl (ls := [(2, 102), (2, 27)]) rfl ?_
  refine x_aload_n 0 dX22_keep_0 rfl rfl rfl rfl rfl ?_
  refine y_getF 64 8 (c := 20) (z := 70) dX22_keep_1 i102 rfl in_X22 q1413 rfl rfl rfl fn_102_8 (Nat.le_trans (Nat.le_of_ble_eq_true rfl) hn) rfl ?_
  refine x_aload_n 1 dX22_keep_4 rfl rfl rfl rfl rfl ?_
  refine y_Vv 80 (M := mX17_keep) (As := [(2, 27)]) (st := []) dX22_keep_5 i70 rfl q2350 q2351 q2352 q384 q2353 rfl hmX17_keep rfl rfl rfl rfl rfl rfl rfl (k_mono h (fun r1 w2 h => ?_))
  exact y_vret dX22_keep_8 rfl h
abbrev LX22_run_90 (d n : Nat) (Q : Int → bW → Prop) (X : String → bW → Prop) (a4 : Int) (w : bW) : Prop := b_Y (d + 1) mX22_run n Q X 90 [(2, 102), (9, 0), (9, 0), (9, 0), (2, a4), (9, 0)] [] w
theorem rX22_run {d n : Nat} {w : bW} {Q : Int → bW → Prop} {X : String → bW → Prop} (hn : 143 ≤ n) (a1 : Int) (a2 : Int) (a3 : Int) (a4 : Int) (ha2 : b_is n a2 0 21 7) (ha4 : b_is n a4 0 22 6) (h : ∃ N1 : Nat, b_is n a3 1 1 N1 ∧ ((a3 ≠ 103 ∧ (0 : Int) ≤ (b_up (b_up (b_up w 102 16 a1) 102 17 a2) 102 18 a4) a2 5 ∧ (0 : Int) ≤ 0 ∧ (0 : Int) ≤ b_i (((b_up (b_up (b_up w 102 16 a1) 102 17 a2) 102 18 a4) a2 6) - ((b_up (b_up (b_up w 102 16 a1) 102 17 a2) 102 18 a4) a2 5)) ∧ ((b_up (b_up (b_up w 102 16 a1) 102 17 a2) 102 18 a4) a2 5 : Int) + b_i (((b_up (b_up (b_up w 102 16 a1) 102 17 a2) 102 18 a4) a2 6) - ((b_up (b_up (b_up w 102 16 a1) 102 17 a2) 102 18 a4) a2 5)) ≤ N1 ∧ (0 : Int) + b_i (((b_up (b_up (b_up w 102 16 a1) 102 17 a2) 102 18 a4) a2 6) - ((b_up (b_up (b_up w 102 16 a1) 102 17 a2) 102 18 a4) a2 5)) ≤ 16384) ∧ (b_K d mX22_tidy [(2, 102)] n (b_cp (b_up (b_up (b_up w 102 16 a1) 102 17 a2) 102 18 a4) a3 ((b_up (b_up (b_up w 102 16 a1) 102 17 a2) 102 18 a4) a2 5) 103 0 (b_i (((b_up (b_up (b_up w 102 16 a1) 102 17 a2) 102 18 a4) a2 6) - ((b_up (b_up (b_up w 102 16 a1) 102 17 a2) 102 18 a4) a2 5)))) (fun r4 w5 => b_K d mX18_begin [(2, 82), (0, w5 a2 2)] n w5 (fun r6 w7 => b_K d mX24_clear [(2, a4)] n (b_up (b_up w7 2 0 0) 102 21 0) (fun r8 w9 => b_K d mX22_begin [(2, 102), (0, b_i (((b_up w9 a4 0 0) a2 6) - ((b_up w9 a4 0 0) a2 5)))] n (b_up w9 a4 0 0) (fun r10 w11 => LX22_run_90 d n Q X a4 w11) (fun C9 w11 => C9 = "java/lang/IllegalStateException" ∧ ∀ b9 : Int, b_K d mX22_noteFailure [(2, 102)] n (b_up (b_up w11 a4 0 1) a4 1 ((b_up w11 a4 0 1) 2 0)) (fun r12 w13 => b_K d mX18_used [(2, 82)] n w13 (fun r14 w15 => Q 0 (b_up w15 a4 2 r14)) X) X)) X) X) X))) : b_K (d + 1) mX22_run [(2, 102), (0, a1), (2, a2), (2, a3), (2, a4)] n w Q X := by
  have i2 := iz2 (Nat.le_trans (Nat.le_of_ble_eq_true rfl) hn)
  have i82 := iz82 (Nat.le_trans (Nat.le_of_ble_eq_true rfl) hn)
  have i102 := iz102 (Nat.le_trans (Nat.le_of_ble_eq_true rfl) hn)
  have i103 := iz103 (Nat.le_trans (Nat.le_of_ble_eq_true rfl) hn)
  refine k_ofH (by decide) rfl rfl rfl (ls := [(2, 102), (0, a1), (2, a2), (2, a3), (2, a4), (9, 0)]) rfl ?_
  refine x_aload_n 0 dX22_run_0 rfl rfl rfl rfl rfl ?_
  refine x_iload_n 1 dX22_run_1 rfl rfl rfl ?_
  refine x_put 146 16 (c := 20) dX22_run_2 i102 rfl in_X22 tyX22_ok nmX22 q1424 rfl rfl rfl (Or.inl rfl) (Or.inl ⟨rfl, rfl⟩) rfl ?_
  refine x_aload_n 0 dX22_run_5 rfl rfl rfl rfl rfl ?_
  refine x_aload_n 2 dX22_run_6 rfl rfl rfl rfl rfl ?_
  refine x_put 149 17 (c := 20) dX22_run_7 i102 rfl in_X22 tyX22_ok nmX22 q1425 rfl rfl rfl (Or.inl rfl) (Or.inr (Or.inr (Or.inr ⟨rfl, Or.inl ⟨_, rfl⟩⟩))) rfl ?_
  refine x_aload_n 0 dX22_run_10 rfl rfl rfl rfl rfl ?_
  refine x_aload 4 dX22_run_11 rfl rfl rfl rfl ?_
  refine x_put 153 18 (c := 20) dX22_run_13 i102 rfl in_X22 tyX22_ok nmX22 q1426 rfl rfl rfl (Or.inl rfl) (Or.inr (Or.inr (Or.inr ⟨rfl, Or.inl ⟨_, rfl⟩⟩))) rfl ?_
  refine x_aload_n 3 dX22_run_16 rfl rfl rfl rfl rfl ?_
  refine x_aload_n 2 dX22_run_17 rfl rfl rfl rfl rfl ?_
  refine y_get 157 5 (c := 21) (z := (b_up (b_up (b_up w 102 16 a1) 102 17 a2) 102 18 a4) a2 5) dX22_run_18 ha2 rfl in_X23 q1512 rfl rfl rfl rfl rfl ?_
  refine x_aload_n 0 dX22_run_21 rfl rfl rfl rfl rfl ?_
  refine y_getF 9 12 (c := 20) (z := 103) dX22_run_22 i102 rfl in_X22 q1417 rfl rfl rfl fn_102_12 (Nat.le_trans (Nat.le_of_ble_eq_true rfl) hn) rfl ?_
  refine x_iconst 0 (z := 0) dX22_run_25 rfl (by decide) rfl ?_
  refine x_aload_n 2 dX22_run_26 rfl rfl rfl rfl rfl ?_
  refine y_get 162 6 (c := 21) (z := (b_up (b_up (b_up w 102 16 a1) 102 17 a2) 102 18 a4) a2 6) dX22_run_27 ha2 rfl in_X23 q1514 rfl rfl rfl rfl rfl ?_
  refine x_aload_n 2 dX22_run_30 rfl rfl rfl rfl rfl ?_
  refine y_get 157 5 (c := 21) (z := (b_up (b_up (b_up w 102 16 a1) 102 17 a2) 102 18 a4) a2 5) dX22_run_31 ha2 rfl in_X23 q1512 rfl rfl rfl rfl rfl ?_
  refine x_isub dX22_run_34 rfl ?_
  obtain ⟨N1, e2, h⟩ := h
  obtain ⟨e3, h⟩ := h
  refine x_copyi 165 dX22_run_35 q2487 q1893 q1892 q400 e2 i103 e3.1 (by decide) e3.2.1 e3.2.2.1 e3.2.2.2.1 e3.2.2.2.2.1 e3.2.2.2.2.2 (Nat.le_add_left 1 d) rfl rfl ?_
  refine x_aload_n 0 dX22_run_38 rfl rfl rfl rfl rfl ?_
  refine y_VvO 171 (M := mX22_tidy) (As := []) (st := []) dX22_run_39 i102 rfl q2488 q2336 q2337 q389 q2338 rfl hmX22_tidy rfl (by decide) rfl rfl rfl rfl rfl (k_mono h (fun r4 w5 h => ?_))
  refine x_aload_n 0 dX22_run_42 rfl rfl rfl rfl rfl ?_
  refine y_getF 72 10 (c := 20) (z := 82) dX22_run_43 i102 rfl in_X22 q1415 rfl rfl rfl fn_102_10 (Nat.le_trans (Nat.le_of_ble_eq_true rfl) hn) rfl ?_
  refine x_aload_n 2 dX22_run_46 rfl rfl rfl rfl rfl ?_
  refine y_get 173 2 (c := 21) (z := w5 a2 2) dX22_run_47 ha2 rfl in_X23 q1506 rfl rfl rfl rfl rfl ?_
  refine y_VvO 175 (M := mX18_begin) (As := [(0, w5 a2 2)]) (st := []) dX22_run_50 i82 rfl q2489 q2490 q2491 q385 q2492 rfl hmX18_begin rfl (by decide) rfl rfl rfl rfl rfl (k_mono h (fun r6 w7 h => ?_))
  refine x_aload_n 0 dX22_run_53 rfl rfl rfl rfl rfl ?_
  refine y_getF 68 9 (c := 20) (z := 2) dX22_run_54 i102 rfl in_X22 q1414 rfl rfl rfl fn_102_9 (Nat.le_trans (Nat.le_of_ble_eq_true rfl) hn) rfl ?_
  refine x_iconst 0 (z := 0) dX22_run_57 rfl (by decide) rfl ?_
  refine x_put 180 0 (c := 1) dX22_run_58 i2 rfl in_X2 tyX2_ok nmX2 q483 rfl rfl rfl (Or.inl rfl) (Or.inl ⟨rfl, rfl⟩) rfl ?_
  refine x_aload_n 0 dX22_run_61 rfl rfl rfl rfl rfl ?_
  refine x_iconst 0 (z := 0) dX22_run_62 rfl (by decide) rfl ?_
  refine x_put 185 21 (c := 20) dX22_run_63 i102 rfl in_X22 tyX22_ok nmX22 q1429 rfl rfl rfl (Or.inl rfl) (Or.inl ⟨rfl, rfl⟩) rfl ?_
  refine x_aload 4 dX22_run_66 rfl rfl rfl rfl ?_
  refine y_VvO 188 (M := mX24_clear) (As := []) (st := []) dX22_run_68 ha4 rfl q2493 q2479 q2480 q391 q2481 rfl hmX24_clear rfl (by decide) rfl rfl rfl rfl rfl (k_mono h (fun r8 w9 h => ?_))
  refine x_aload 4 dX22_run_71 rfl rfl rfl rfl ?_
  refine x_iconst 0 (z := 0) dX22_run_73 rfl (by decide) rfl ?_
  refine x_put 193 0 (c := 22) dX22_run_74 ha4 rfl in_X24 tyX24_ok nmX24 q1537 rfl rfl rfl (Or.inl rfl) (Or.inl ⟨rfl, rfl⟩) rfl ?_
  refine x_aload_n 0 dX22_run_77 rfl rfl rfl rfl rfl ?_
  refine x_aload_n 2 dX22_run_78 rfl rfl rfl rfl rfl ?_
  refine y_get 162 6 (c := 21) (z := (b_up w9 a4 0 0) a2 6) dX22_run_79 ha2 rfl in_X23 q1514 rfl rfl rfl rfl rfl ?_
  refine x_aload_n 2 dX22_run_82 rfl rfl rfl rfl rfl ?_
  refine y_get 157 5 (c := 21) (z := (b_up w9 a4 0 0) a2 5) dX22_run_83 ha2 rfl in_X23 q1512 rfl rfl rfl rfl rfl ?_
  refine x_isub dX22_run_86 rfl ?_
  refine y_VvC 196 (M := mX22_begin) (As := [(0, b_i (((b_up w9 a4 0 0) a2 6) - ((b_up w9 a4 0 0) a2 5)))]) (st := []) dX22_run_87 i102 rfl q2494 q2496 qs99 q389 q2497 rfl hmX22_begin rfl rfl rfl q2486 (by decide) rfl rfl rfl rfl rfl (k_monoX h (fun r10 w11 h => ?_) (fun C9 w11 h => ⟨h.1, fun b9 => ?_⟩))
  · exact x_fg (fgk (fgd (fgd (fgd (fgk (fgk (fg0))))))) h
  · replace h := h.2 b9
    refine x_astore 5 (ls' := [(2, 102), (0, a1), (2, a2), (2, a3), (2, a4), (7, b9)]) dX22_run_107 rfl rfl rfl rfl ?_
    refine x_aload 4 dX22_run_109 rfl rfl rfl rfl ?_
    refine x_iconst 1 (z := 1) dX22_run_111 rfl (by decide) rfl ?_
    refine x_put 193 0 (c := 22) dX22_run_112 ha4 rfl in_X24 tyX24_ok nmX24 q1537 rfl rfl rfl (Or.inl rfl) (Or.inl ⟨rfl, rfl⟩) rfl ?_
    refine x_aload 4 dX22_run_115 rfl rfl rfl rfl ?_
    refine x_aload_n 0 dX22_run_117 rfl rfl rfl rfl rfl ?_
    refine y_getF 68 9 (c := 20) (z := 2) dX22_run_118 i102 rfl in_X22 q1414 rfl rfl rfl fn_102_9 (Nat.le_trans (Nat.le_of_ble_eq_true rfl) hn) rfl ?_
    refine y_get 180 0 (c := 1) (z := (b_up w11 a4 0 1) 2 0) dX22_run_121 i2 rfl in_X2 q483 rfl rfl rfl rfl rfl ?_
    refine x_put 202 1 (c := 22) dX22_run_124 ha4 rfl in_X24 tyX24_ok nmX24 q1540 rfl rfl rfl (Or.inl rfl) (Or.inl ⟨rfl, rfl⟩) rfl ?_
    refine x_aload_n 0 dX22_run_127 rfl rfl rfl rfl rfl ?_
    refine y_VvO 203 (M := mX22_noteFailure) (As := []) (st := []) dX22_run_128 i102 rfl q3015 q3017 qs172 q389 q3018 rfl hmX22_noteFailure rfl (by decide) rfl rfl rfl rfl rfl (k_mono h (fun r12 w13 h => ?_))
    refine x_aload 4 dX22_run_131 rfl rfl rfl rfl ?_
    refine x_aload_n 0 dX22_run_133 rfl rfl rfl rfl rfl ?_
    refine y_getF 72 10 (c := 20) (z := 82) dX22_run_134 i102 rfl in_X22 q1415 rfl rfl rfl fn_102_10 (Nat.le_trans (Nat.le_of_ble_eq_true rfl) hn) rfl ?_
    refine y_ViO 206 (M := mX18_used) (As := []) (st := [(2, a4)]) dX22_run_137 i82 rfl q3020 q3021 q3022 q385 q3023 rfl hmX18_used rfl (by decide) rfl rfl rfl rfl rfl rfl (k_mono h (fun r14 w15 h => ?_))
    refine x_put 209 2 (c := 22) dX22_run_140 ha4 rfl in_X24 tyX24_ok nmX24 q1543 rfl rfl rfl (Or.inl rfl) (Or.inl ⟨rfl, rfl⟩) rfl ?_
    exact y_vret dX22_run_143 rfl h
theorem sX22_run_90 {d n : Nat} {w : bW} {Q : Int → bW → Prop} {X : String → bW → Prop} (hn : 143 ≤ n) (a4 : Int) (ha4 : b_is n a4 0 22 6) (h : if w 102 21 ≤ 0 then (b_K d mX18_used [(2, 82)] n w (fun r1 w2 => Q 0 (b_up w2 a4 2 r1)) X) else (b_K d mX22_next [(2, 102)] n w (fun r3 w4 => LX22_run_90 d n Q X a4 w4) (fun C9 w4 => C9 = "java/lang/IllegalStateException" ∧ ∀ b9 : Int, b_K d mX22_noteFailure [(2, 102)] n (b_up (b_up w4 a4 0 1) a4 1 ((b_up w4 a4 0 1) 2 0)) (fun r5 w6 => b_K d mX18_used [(2, 82)] n w6 (fun r7 w8 => Q 0 (b_up w8 a4 2 r7)) X) X))) : LX22_run_90 d n Q X a4 w := by
  have i2 := iz2 (Nat.le_trans (Nat.le_of_ble_eq_true rfl) hn)
  have i82 := iz82 (Nat.le_trans (Nat.le_of_ble_eq_true rfl) hn)
  have i102 := iz102 (Nat.le_trans (Nat.le_of_ble_eq_true rfl) hn)
  refine x_aload_n 0 dX22_run_90 rfl rfl rfl rfl rfl ?_
  refine y_get 185 21 (c := 20) (z := w 102 21) dX22_run_91 i102 rfl in_X22 q1429 rfl rfl rfl rfl rfl ?_
  refine x_if_le (t := 104) 10 dX22_run_94 rfl rfl (b_ite h (fun hc h => ?_) (fun hc h => ?_))
  · refine x_goto 27 (q := 131) dX22_run_104 rfl ?_
    refine x_aload 4 dX22_run_131 rfl rfl rfl rfl ?_
    refine x_aload_n 0 dX22_run_133 rfl rfl rfl rfl rfl ?_
    refine y_getF 72 10 (c := 20) (z := 82) dX22_run_134 i102 rfl in_X22 q1415 rfl rfl rfl fn_102_10 (Nat.le_trans (Nat.le_of_ble_eq_true rfl) hn) rfl ?_
    refine y_ViO 206 (M := mX18_used) (As := []) (st := [(2, a4)]) dX22_run_137 i82 rfl q3020 q3021 q3022 q385 q3023 rfl hmX18_used rfl (by decide) rfl rfl rfl rfl rfl rfl (k_mono h (fun r1 w2 h => ?_))
    refine x_put 209 2 (c := 22) dX22_run_140 ha4 rfl in_X24 tyX24_ok nmX24 q1543 rfl rfl rfl (Or.inl rfl) (Or.inl ⟨rfl, rfl⟩) rfl ?_
    exact y_vret dX22_run_143 rfl h
  · refine x_aload_n 0 dX22_run_97 rfl rfl rfl rfl rfl ?_
    refine y_VvC 197 (M := mX22_next) (As := []) (st := []) dX22_run_98 i102 rfl q3002 q3004 qs171 q389 q3005 rfl hmX22_next rfl rfl rfl q2486 (by decide) rfl rfl rfl rfl rfl (k_monoX h (fun r3 w4 h => ?_) (fun C9 w4 h => ⟨h.1, fun b9 => ?_⟩))
    · refine x_goto (-11) (q := 90) dX22_run_101 rfl ?_
      exact x_fg (fgk (fgk (fgk (fgk (fgk (fgk (fg0))))))) h
    · replace h := h.2 b9
      refine x_astore 5 (ls' := [(2, 102), (9, 0), (9, 0), (9, 0), (2, a4), (7, b9)]) dX22_run_107 rfl rfl rfl rfl ?_
      refine x_aload 4 dX22_run_109 rfl rfl rfl rfl ?_
      refine x_iconst 1 (z := 1) dX22_run_111 rfl (by decide) rfl ?_
      refine x_put 193 0 (c := 22) dX22_run_112 ha4 rfl in_X24 tyX24_ok nmX24 q1537 rfl rfl rfl (Or.inl rfl) (Or.inl ⟨rfl, rfl⟩) rfl ?_
      refine x_aload 4 dX22_run_115 rfl rfl rfl rfl ?_
      refine x_aload_n 0 dX22_run_117 rfl rfl rfl rfl rfl ?_
      refine y_getF 68 9 (c := 20) (z := 2) dX22_run_118 i102 rfl in_X22 q1414 rfl rfl rfl fn_102_9 (Nat.le_trans (Nat.le_of_ble_eq_true rfl) hn) rfl ?_
      refine y_get 180 0 (c := 1) (z := (b_up w4 a4 0 1) 2 0) dX22_run_121 i2 rfl in_X2 q483 rfl rfl rfl rfl rfl ?_
      refine x_put 202 1 (c := 22) dX22_run_124 ha4 rfl in_X24 tyX24_ok nmX24 q1540 rfl rfl rfl (Or.inl rfl) (Or.inl ⟨rfl, rfl⟩) rfl ?_
      refine x_aload_n 0 dX22_run_127 rfl rfl rfl rfl rfl ?_
      refine y_VvO 203 (M := mX22_noteFailure) (As := []) (st := []) dX22_run_128 i102 rfl q3015 q3017 qs172 q389 q3018 rfl hmX22_noteFailure rfl (by decide) rfl rfl rfl rfl rfl (k_mono h (fun r5 w6 h => ?_))
      refine x_aload 4 dX22_run_131 rfl rfl rfl rfl ?_
      refine x_aload_n 0 dX22_run_133 rfl rfl rfl rfl rfl ?_
      refine y_getF 72 10 (c := 20) (z := 82) dX22_run_134 i102 rfl in_X22 q1415 rfl rfl rfl fn_102_10 (Nat.le_trans (Nat.le_of_ble_eq_true rfl) hn) rfl ?_
      refine y_ViO 206 (M := mX18_used) (As := []) (st := [(2, a4)]) dX22_run_137 i82 rfl q3020 q3021 q3022 q385 q3023 rfl hmX18_used rfl (by decide) rfl rfl rfl rfl rfl rfl (k_mono h (fun r7 w8 h => ?_))
      refine x_put 209 2 (c := 22) dX22_run_140 ha4 rfl in_X24 tyX24_ok nmX24 q1543 rfl rfl rfl (Or.inl rfl) (Or.inl ⟨rfl, rfl⟩) rfl ?_
      exact y_vret dX22_run_143 rfl h
abbrev LX22_begin_95 (d n : Nat) (Q : Int → bW → Prop) (X : String → bW → Prop) (s0 : Int) (w : bW) : Prop := b_Y (d + 1) mX22_begin n Q X 95 [(2, 102), (9, 0), (9, 0), (9, 0), (9, 0), (9, 0), (9, 0), (9, 0)] [(0, s0), (2, 2)] w
abbrev LX22_begin_228 (d n : Nat) (Q : Int → bW → Prop) (X : String → bW → Prop) (a3 : Int) (a4 : Int) (a5 : Int) (s0 : Int) (w : bW) : Prop := b_Y (d + 1) mX22_begin n Q X 228 [(2, 102), (9, 0), (9, 0), (0, a3), (0, a4), (0, a5), (9, 0), (9, 0)] [(0, s0), (2, 2)] w
theorem rX22_begin {d n : Nat} {w : bW} {Q : Int → bW → Prop} {X : String → bW → Prop} (hn : 143 ≤ n) (a1 : Int) (h : b_K d mX18_use [(2, 82), (1, 100)] n w (fun r1 w2 => b_K d mX4_read [(2, 6), (2, 103), (0, a1)] n w2 (fun r3 w4 => if r3 ≠ 0 then (b_K d mX18_use [(2, 82), (1, b_i (2 * (w4 6 12)))] n w4 (fun r5 w6 => b_K d mX4_isSequence [(2, 6), (0, 0)] n w6 (fun r7 w8 => if r7 = 0 then (LX22_begin_95 d n Q X 0 w8) else (if w8 18 0 ≠ 2 then (LX22_begin_95 d n Q X 0 w8) else (LX22_begin_95 d n Q X 1 w8))) X) X) else (b_K d mX2_fail [(2, 2), (0, 7)] n (b_up w4 102 15 (w4 6 13)) (fun r9 w10 => b_K d mX18_use [(2, 82), (1, b_i (2 * (w10 6 12)))] n w10 (fun r11 w12 => b_K d mX4_isSequence [(2, 6), (0, 0)] n w12 (fun r13 w14 => if r13 = 0 then (LX22_begin_95 d n Q X 0 w14) else (if w14 18 0 ≠ 2 then (LX22_begin_95 d n Q X 0 w14) else (LX22_begin_95 d n Q X 1 w14))) X) X) X)) X) X) : b_K (d + 1) mX22_begin [(2, 102), (0, a1)] n w Q X := by
  have i2 := iz2 (Nat.le_trans (Nat.le_of_ble_eq_true rfl) hn)
  have i6 := iz6 (Nat.le_trans (Nat.le_of_ble_eq_true rfl) hn)
  have i18 := iz18 (Nat.le_trans (Nat.le_of_ble_eq_true rfl) hn)
  have i82 := iz82 (Nat.le_trans (Nat.le_of_ble_eq_true rfl) hn)
  have i102 := iz102 (Nat.le_trans (Nat.le_of_ble_eq_true rfl) hn)
  refine k_of (by decide) rfl rfl rfl (ls := [(2, 102), (0, a1), (9, 0), (9, 0), (9, 0), (9, 0), (9, 0), (9, 0)]) rfl ?_
  refine x_aload_n 0 dX22_begin_0 rfl rfl rfl rfl rfl ?_
  refine y_getF 72 10 (c := 20) (z := 82) dX22_begin_1 i102 rfl in_X22 q1415 rfl rfl rfl fn_102_10 (Nat.le_trans (Nat.le_of_ble_eq_true rfl) hn) rfl ?_
  refine x_ldc2 230 (x := 100) dX22_begin_4 q2498 rfl (by decide) rfl ?_
  refine y_Vv 232 (M := mX18_use) (As := [(1, 100)]) (st := []) dX22_begin_7 i82 rfl q2499 q2500 q2501 q385 q2502 rfl hmX18_use rfl rfl rfl rfl rfl rfl rfl (k_mono h (fun r1 w2 h => ?_))
  refine x_aload_n 0 dX22_begin_10 rfl rfl rfl rfl rfl ?_
  refine y_getF 32 0 (c := 20) (z := 6) dX22_begin_11 i102 rfl in_X22 q1405 rfl rfl rfl fn_102_0 (Nat.le_trans (Nat.le_of_ble_eq_true rfl) hn) rfl ?_
  refine x_aload_n 0 dX22_begin_14 rfl rfl rfl rfl rfl ?_
  refine y_getF 9 12 (c := 20) (z := 103) dX22_begin_15 i102 rfl in_X22 q1417 rfl rfl rfl fn_102_12 (Nat.le_trans (Nat.le_of_ble_eq_true rfl) hn) rfl ?_
  refine x_iload_n 1 dX22_begin_18 rfl rfl rfl ?_
  refine y_Vi 236 (M := mX4_read) (As := [(2, 103), (0, a1)]) (st := []) dX22_begin_19 i6 rfl q2504 q1676 q1677 q371 q1678 rfl hmX4_read rfl rfl rfl rfl rfl rfl rfl rfl (k_mono h (fun r3 w4 h => ?_))
  refine x_if_ne (t := 45) 23 dX22_begin_22 rfl rfl (b_ite h (fun hc h => ?_) (fun hc h => ?_))
  · refine x_aload_n 0 dX22_begin_45 rfl rfl rfl rfl rfl ?_
    refine y_getF 72 10 (c := 20) (z := 82) dX22_begin_46 i102 rfl in_X22 q1415 rfl rfl rfl fn_102_10 (Nat.le_trans (Nat.le_of_ble_eq_true rfl) hn) rfl ?_
    refine x_iconst 2 (z := 2) dX22_begin_49 rfl (by decide) rfl ?_
    refine x_aload_n 0 dX22_begin_50 rfl rfl rfl rfl rfl ?_
    refine y_getF 32 0 (c := 20) (z := 6) dX22_begin_51 i102 rfl in_X22 q1405 rfl rfl rfl fn_102_0 (Nat.le_trans (Nat.le_of_ble_eq_true rfl) hn) rfl ?_
    refine y_get 248 12 (c := 3) (z := w4 6 12) dX22_begin_54 i6 rfl in_X4 q687 rfl rfl rfl rfl rfl ?_
    refine x_imul dX22_begin_57 rfl ?_
    refine x_i2l dX22_begin_58 rfl ?_
    refine y_Vv 232 (M := mX18_use) (As := [(1, b_i (2 * (w4 6 12)))]) (st := []) dX22_begin_59 i82 rfl q2499 q2500 q2501 q385 q2502 rfl hmX18_use rfl rfl rfl rfl rfl rfl rfl (k_mono h (fun r5 w6 h => ?_))
    refine x_aload_n 0 dX22_begin_62 rfl rfl rfl rfl rfl ?_
    refine y_getF 68 9 (c := 20) (z := 2) dX22_begin_63 i102 rfl in_X22 q1414 rfl rfl rfl fn_102_9 (Nat.le_trans (Nat.le_of_ble_eq_true rfl) hn) rfl ?_
    refine x_aload_n 0 dX22_begin_66 rfl rfl rfl rfl rfl ?_
    refine y_getF 32 0 (c := 20) (z := 6) dX22_begin_67 i102 rfl in_X22 q1405 rfl rfl rfl fn_102_0 (Nat.le_trans (Nat.le_of_ble_eq_true rfl) hn) rfl ?_
    refine x_iconst 0 (z := 0) dX22_begin_70 rfl (by decide) rfl ?_
    refine y_Vi 249 (M := mX4_isSequence) (As := [(0, 0)]) (st := [(2, 2)]) dX22_begin_71 i6 rfl q2506 q1826 q1827 q371 q1828 rfl hmX4_isSequence rfl rfl rfl rfl rfl rfl rfl rfl (k_mono h (fun r7 w8 h => ?_))
    refine x_if_eq (t := 94) 20 dX22_begin_74 rfl rfl (b_ite h (fun hc h => ?_) (fun hc h => ?_))
    · refine x_iconst 0 (z := 0) dX22_begin_94 rfl (by decide) rfl ?_
      exact x_fg (fgk (fgd (fgk (fgk (fgk (fgk (fgk (fgk (fg0))))))))) h
    · refine x_aload_n 0 dX22_begin_77 rfl rfl rfl rfl rfl ?_
      refine y_getF 32 0 (c := 20) (z := 6) dX22_begin_78 i102 rfl in_X22 q1405 rfl rfl rfl fn_102_0 (Nat.le_trans (Nat.le_of_ble_eq_true rfl) hn) rfl ?_
      refine y_getF 253 11 (c := 3) (z := 18) dX22_begin_81 i6 rfl in_X4 q684 rfl rfl rfl fn_6_11 (Nat.le_trans (Nat.le_of_ble_eq_true rfl) hn) rfl ?_
      refine x_iconst 0 (z := 0) dX22_begin_84 rfl (by decide) rfl ?_
      refine y_iald (z := w8 18 0) dX22_begin_85 ⟨4096, i18, by decide⟩ rfl rfl ?_
      refine x_iconst 2 (z := 2) dX22_begin_86 rfl (by decide) rfl ?_
      refine x_icmp_ne (t := 94) 7 dX22_begin_87 rfl rfl (b_ite h (fun hc h => ?_) (fun hc h => ?_))
      · refine x_iconst 0 (z := 0) dX22_begin_94 rfl (by decide) rfl ?_
        exact x_fg (fgk (fgd (fgk (fgk (fgk (fgk (fgk (fgk (fg0))))))))) h
      · refine x_iconst 1 (z := 1) dX22_begin_90 rfl (by decide) rfl ?_
        refine x_goto 4 (q := 95) dX22_begin_91 rfl ?_
        exact x_fg (fgk (fgd (fgk (fgk (fgk (fgk (fgk (fgk (fg0))))))))) h
  · refine x_aload_n 0 dX22_begin_25 rfl rfl rfl rfl rfl ?_
    refine x_aload_n 0 dX22_begin_26 rfl rfl rfl rfl rfl ?_
    refine y_getF 32 0 (c := 20) (z := 6) dX22_begin_27 i102 rfl in_X22 q1405 rfl rfl rfl fn_102_0 (Nat.le_trans (Nat.le_of_ble_eq_true rfl) hn) rfl ?_
    refine y_get 242 13 (c := 3) (z := w4 6 13) dX22_begin_30 i6 rfl in_X4 q690 rfl rfl rfl rfl rfl ?_
    refine x_put 22 15 (c := 20) dX22_begin_33 i102 rfl in_X22 tyX22_ok nmX22 q1422 rfl rfl rfl (Or.inl rfl) (Or.inl ⟨rfl, rfl⟩) rfl ?_
    refine x_aload_n 0 dX22_begin_36 rfl rfl rfl rfl rfl ?_
    refine y_getF 68 9 (c := 20) (z := 2) dX22_begin_37 i102 rfl in_X22 q1414 rfl rfl rfl fn_102_9 (Nat.le_trans (Nat.le_of_ble_eq_true rfl) hn) rfl ?_
    refine x_bipush 7 (z := 7) dX22_begin_40 rfl (by decide) rfl ?_
    refine y_Vv 245 (M := mX2_fail) (As := [(0, 7)]) (st := []) dX22_begin_42 i2 rfl q2505 q1958 q1959 q359 q1960 rfl hmX2_fail rfl rfl rfl rfl rfl rfl rfl (k_mono h (fun r9 w10 h => ?_))
    refine x_aload_n 0 dX22_begin_45 rfl rfl rfl rfl rfl ?_
    refine y_getF 72 10 (c := 20) (z := 82) dX22_begin_46 i102 rfl in_X22 q1415 rfl rfl rfl fn_102_10 (Nat.le_trans (Nat.le_of_ble_eq_true rfl) hn) rfl ?_
    refine x_iconst 2 (z := 2) dX22_begin_49 rfl (by decide) rfl ?_
    refine x_aload_n 0 dX22_begin_50 rfl rfl rfl rfl rfl ?_
    refine y_getF 32 0 (c := 20) (z := 6) dX22_begin_51 i102 rfl in_X22 q1405 rfl rfl rfl fn_102_0 (Nat.le_trans (Nat.le_of_ble_eq_true rfl) hn) rfl ?_
    refine y_get 248 12 (c := 3) (z := w10 6 12) dX22_begin_54 i6 rfl in_X4 q687 rfl rfl rfl rfl rfl ?_
    refine x_imul dX22_begin_57 rfl ?_
    refine x_i2l dX22_begin_58 rfl ?_
    refine y_Vv 232 (M := mX18_use) (As := [(1, b_i (2 * (w10 6 12)))]) (st := []) dX22_begin_59 i82 rfl q2499 q2500 q2501 q385 q2502 rfl hmX18_use rfl rfl rfl rfl rfl rfl rfl (k_mono h (fun r11 w12 h => ?_))
    refine x_aload_n 0 dX22_begin_62 rfl rfl rfl rfl rfl ?_
    refine y_getF 68 9 (c := 20) (z := 2) dX22_begin_63 i102 rfl in_X22 q1414 rfl rfl rfl fn_102_9 (Nat.le_trans (Nat.le_of_ble_eq_true rfl) hn) rfl ?_
    refine x_aload_n 0 dX22_begin_66 rfl rfl rfl rfl rfl ?_
    refine y_getF 32 0 (c := 20) (z := 6) dX22_begin_67 i102 rfl in_X22 q1405 rfl rfl rfl fn_102_0 (Nat.le_trans (Nat.le_of_ble_eq_true rfl) hn) rfl ?_
    refine x_iconst 0 (z := 0) dX22_begin_70 rfl (by decide) rfl ?_
    refine y_Vi 249 (M := mX4_isSequence) (As := [(0, 0)]) (st := [(2, 2)]) dX22_begin_71 i6 rfl q2506 q1826 q1827 q371 q1828 rfl hmX4_isSequence rfl rfl rfl rfl rfl rfl rfl rfl (k_mono h (fun r13 w14 h => ?_))
    refine x_if_eq (t := 94) 20 dX22_begin_74 rfl rfl (b_ite h (fun hc h => ?_) (fun hc h => ?_))
    · refine x_iconst 0 (z := 0) dX22_begin_94 rfl (by decide) rfl ?_
      exact x_fg (fgk (fgd (fgk (fgk (fgk (fgk (fgk (fgk (fg0))))))))) h
    · refine x_aload_n 0 dX22_begin_77 rfl rfl rfl rfl rfl ?_
      refine y_getF 32 0 (c := 20) (z := 6) dX22_begin_78 i102 rfl in_X22 q1405 rfl rfl rfl fn_102_0 (Nat.le_trans (Nat.le_of_ble_eq_true rfl) hn) rfl ?_
      refine y_getF 253 11 (c := 3) (z := 18) dX22_begin_81 i6 rfl in_X4 q684 rfl rfl rfl fn_6_11 (Nat.le_trans (Nat.le_of_ble_eq_true rfl) hn) rfl ?_
      refine x_iconst 0 (z := 0) dX22_begin_84 rfl (by decide) rfl ?_
      refine y_iald (z := w14 18 0) dX22_begin_85 ⟨4096, i18, by decide⟩ rfl rfl ?_
      refine x_iconst 2 (z := 2) dX22_begin_86 rfl (by decide) rfl ?_
      refine x_icmp_ne (t := 94) 7 dX22_begin_87 rfl rfl (b_ite h (fun hc h => ?_) (fun hc h => ?_))
      · refine x_iconst 0 (z := 0) dX22_begin_94 rfl (by decide) rfl ?_
        exact x_fg (fgk (fgd (fgk (fgk (fgk (fgk (fgk (fgk (fg0))))))))) h
      · refine x_iconst 1 (z := 1) dX22_begin_90 rfl (by decide) rfl ?_
        refine x_goto 4 (q := 95) dX22_begin_91 rfl ?_
        exact x_fg (fgk (fgd (fgk (fgk (fgk (fgk (fgk (fgk (fg0))))))))) h
theorem sX22_begin_95 {d n : Nat} {w : bW} {Q : Int → bW → Prop} {X : String → bW → Prop} (hn : 143 ≤ n) (s0 : Int) (h : b_K d mX2_want [(2, 2), (0, s0), (0, 7)] n w (fun r1 w2 => b_K d mX4_child [(2, 6), (0, 0), (0, 0)] n w2 (fun r3 w4 => b_K d mX4_child [(2, 6), (0, 0), (0, 1)] n w4 (fun r5 w6 => b_is n (w6 102 17) 0 21 7 ∧ (if w6 (w6 102 17) 0 = 0 then (b_K d mX12_address [(2, 41), (0, r3)] n w6 (fun r8 w9 => if r8 < 0 then (b_K d mX2_want [(2, 2), (0, 0), (0, 7)] n w9 (fun r10 w11 => b_K d mX12_entry [(2, 41), (2, 50)] n w11 (fun r12 w13 => (0 ≤ w13 102 16 ∧ w13 102 16 < 200) ∧ (b_is n (w13 102 17) 0 21 7 ∧ (if w13 71 (w13 102 16) < w13 (w13 102 17) 4 then (LX22_begin_228 d n Q X r5 r8 r12 0 w13) else (LX22_begin_228 d n Q X r5 r8 r12 1 w13)))) X) X) else (b_K d mX2_want [(2, 2), (0, 1), (0, 7)] n w9 (fun r16 w17 => b_K d mX12_entry [(2, 41), (2, 50)] n w17 (fun r18 w19 => (0 ≤ w19 102 16 ∧ w19 102 16 < 200) ∧ (b_is n (w19 102 17) 0 21 7 ∧ (if w19 71 (w19 102 16) < w19 (w19 102 17) 4 then (LX22_begin_228 d n Q X r5 r8 r18 0 w19) else (LX22_begin_228 d n Q X r5 r8 r18 1 w19)))) X) X)) X) else (b_K d mX4_isSequence [(2, 6), (0, r3)] n w6 (fun r22 w23 => b_K d mX2_want [(2, 2), (0, r22), (0, 7)] n w23 (fun r24 w25 => b_K d mX22_originate [(2, 102), (0, r3), (0, r5)] n w25 (fun r26 w27 => Q 0 w27) X) X) X))) X) X) X) : LX22_begin_95 d n Q X s0 w := by
  have i2 := iz2 (Nat.le_trans (Nat.le_of_ble_eq_true rfl) hn)
  have i6 := iz6 (Nat.le_trans (Nat.le_of_ble_eq_true rfl) hn)
  have i41 := iz41 (Nat.le_trans (Nat.le_of_ble_eq_true rfl) hn)
  have i70 := iz70 (Nat.le_trans (Nat.le_of_ble_eq_true rfl) hn)
  have i71 := iz71 (Nat.le_trans (Nat.le_of_ble_eq_true rfl) hn)
  have i102 := iz102 (Nat.le_trans (Nat.le_of_ble_eq_true rfl) hn)
  refine x_bipush 7 (z := 7) dX22_begin_95 rfl (by decide) rfl ?_
  refine y_Vv 256 (M := mX2_want) (As := [(0, s0), (0, 7)]) (st := []) dX22_begin_97 i2 rfl q2507 q1954 q1955 q359 q1956 rfl hmX2_want rfl rfl rfl rfl rfl rfl rfl (k_mono h (fun r1 w2 h => ?_))
  refine x_aload_n 0 dX22_begin_100 rfl rfl rfl rfl rfl ?_
  refine y_getF 32 0 (c := 20) (z := 6) dX22_begin_101 i102 rfl in_X22 q1405 rfl rfl rfl fn_102_0 (Nat.le_trans (Nat.le_of_ble_eq_true rfl) hn) rfl ?_
  refine x_iconst 0 (z := 0) dX22_begin_104 rfl (by decide) rfl ?_
  refine x_iconst 0 (z := 0) dX22_begin_105 rfl (by decide) rfl ?_
  refine y_Vi 260 (M := mX4_child) (As := [(0, 0), (0, 0)]) (st := []) dX22_begin_106 i6 rfl q2508 q1830 q1831 q371 q1832 rfl hmX4_child rfl rfl rfl rfl rfl rfl rfl rfl (k_mono h (fun r3 w4 h => ?_))
  refine x_istore_n 2 (ls' := [(2, 102), (9, 0), (0, r3), (9, 0), (9, 0), (9, 0), (9, 0), (9, 0)]) dX22_begin_109 rfl rfl rfl rfl ?_
  refine x_aload_n 0 dX22_begin_110 rfl rfl rfl rfl rfl ?_
  refine y_getF 32 0 (c := 20) (z := 6) dX22_begin_111 i102 rfl in_X22 q1405 rfl rfl rfl fn_102_0 (Nat.le_trans (Nat.le_of_ble_eq_true rfl) hn) rfl ?_
  refine x_iconst 0 (z := 0) dX22_begin_114 rfl (by decide) rfl ?_
  refine x_iconst 1 (z := 1) dX22_begin_115 rfl (by decide) rfl ?_
  refine y_Vi 260 (M := mX4_child) (As := [(0, 0), (0, 1)]) (st := []) dX22_begin_116 i6 rfl q2508 q1830 q1831 q371 q1832 rfl hmX4_child rfl rfl rfl rfl rfl rfl rfl rfl (k_mono h (fun r5 w6 h => ?_))
  refine x_istore_n 3 (ls' := [(2, 102), (9, 0), (0, r3), (0, r5), (9, 0), (9, 0), (9, 0), (9, 0)]) dX22_begin_119 rfl rfl rfl rfl ?_
  refine x_aload_n 0 dX22_begin_120 rfl rfl rfl rfl rfl ?_
  refine y_get 149 17 (c := 20) (z := w6 102 17) dX22_begin_121 i102 rfl in_X22 q1425 rfl rfl rfl rfl rfl ?_
  obtain ⟨e7, h⟩ := h
  refine y_get 264 0 (c := 21) (z := w6 (w6 102 17) 0) dX22_begin_124 e7 rfl in_X23 q1503 rfl rfl rfl rfl rfl ?_
  refine x_if_eq (t := 154) 27 dX22_begin_127 rfl rfl (b_ite h (fun hc h => ?_) (fun hc h => ?_))
  · refine x_aload_n 0 dX22_begin_154 rfl rfl rfl rfl rfl ?_
    refine y_getF 52 5 (c := 20) (z := 41) dX22_begin_155 i102 rfl in_X22 q1410 rfl rfl rfl fn_102_5 (Nat.le_trans (Nat.le_of_ble_eq_true rfl) hn) rfl ?_
    refine x_iload_n 2 dX22_begin_158 rfl rfl rfl ?_
    refine y_Vi 271 (M := mX12_address) (As := [(0, r3)]) (st := []) dX22_begin_159 i41 rfl q2534 q2535 q2536 q379 q2537 rfl hmX12_address rfl rfl rfl rfl rfl rfl rfl rfl (k_mono h (fun r8 w9 h => ?_))
    refine x_istore 4 (ls' := [(2, 102), (9, 0), (0, r3), (0, r5), (0, r8), (9, 0), (9, 0), (9, 0)]) dX22_begin_162 rfl rfl rfl ?_
    refine x_aload_n 0 dX22_begin_164 rfl rfl rfl rfl rfl ?_
    refine y_getF 68 9 (c := 20) (z := 2) dX22_begin_165 i102 rfl in_X22 q1414 rfl rfl rfl fn_102_9 (Nat.le_trans (Nat.le_of_ble_eq_true rfl) hn) rfl ?_
    refine x_iload 4 dX22_begin_168 rfl rfl ?_
    refine x_if_lt (t := 177) 7 dX22_begin_170 rfl rfl (b_ite h (fun hc h => ?_) (fun hc h => ?_))
    · refine x_iconst 0 (z := 0) dX22_begin_177 rfl (by decide) rfl ?_
      refine x_bipush 7 (z := 7) dX22_begin_178 rfl (by decide) rfl ?_
      refine y_Vv 256 (M := mX2_want) (As := [(0, 0), (0, 7)]) (st := []) dX22_begin_180 i2 rfl q2507 q1954 q1955 q359 q1956 rfl hmX2_want rfl rfl rfl rfl rfl rfl rfl (k_mono h (fun r10 w11 h => ?_))
      refine x_aload_n 0 dX22_begin_183 rfl rfl rfl rfl rfl ?_
      refine y_getF 52 5 (c := 20) (z := 41) dX22_begin_184 i102 rfl in_X22 q1410 rfl rfl rfl fn_102_5 (Nat.le_trans (Nat.le_of_ble_eq_true rfl) hn) rfl ?_
      refine x_aload_n 0 dX22_begin_187 rfl rfl rfl rfl rfl ?_
      refine y_getF 40 2 (c := 20) (z := 50) dX22_begin_188 i102 rfl in_X22 q1407 rfl rfl rfl fn_102_2 (Nat.le_trans (Nat.le_of_ble_eq_true rfl) hn) rfl ?_
      refine y_Vi 276 (M := mX12_entry) (As := [(2, 50)]) (st := []) dX22_begin_191 i41 rfl q2538 q2539 q2540 q379 q2541 rfl hmX12_entry rfl rfl rfl rfl rfl rfl rfl rfl (k_mono h (fun r12 w13 h => ?_))
      refine x_istore 5 (ls' := [(2, 102), (9, 0), (0, r3), (0, r5), (0, r8), (0, r12), (9, 0), (9, 0)]) dX22_begin_194 rfl rfl rfl ?_
      refine x_aload_n 0 dX22_begin_196 rfl rfl rfl rfl rfl ?_
      refine y_getF 68 9 (c := 20) (z := 2) dX22_begin_197 i102 rfl in_X22 q1414 rfl rfl rfl fn_102_9 (Nat.le_trans (Nat.le_of_ble_eq_true rfl) hn) rfl ?_
      refine x_aload_n 0 dX22_begin_200 rfl rfl rfl rfl rfl ?_
      refine y_getF 64 8 (c := 20) (z := 70) dX22_begin_201 i102 rfl in_X22 q1413 rfl rfl rfl fn_102_8 (Nat.le_trans (Nat.le_of_ble_eq_true rfl) hn) rfl ?_
      refine y_getF 280 0 (c := 16) (z := 71) dX22_begin_204 i70 rfl in_X17 q1160 rfl rfl rfl fn_70_0 (Nat.le_trans (Nat.le_of_ble_eq_true rfl) hn) rfl ?_
      refine x_aload_n 0 dX22_begin_207 rfl rfl rfl rfl rfl ?_
      refine y_get 146 16 (c := 20) (z := w13 102 16) dX22_begin_208 i102 rfl in_X22 q1424 rfl rfl rfl rfl rfl ?_
      obtain ⟨e14, h⟩ := h
      refine y_lald (z := w13 71 (w13 102 16)) dX22_begin_211 ⟨200, i71, e14⟩ rfl rfl ?_
      refine x_aload_n 0 dX22_begin_212 rfl rfl rfl rfl rfl ?_
      refine y_get 149 17 (c := 20) (z := w13 102 17) dX22_begin_213 i102 rfl in_X22 q1425 rfl rfl rfl rfl rfl ?_
      obtain ⟨e15, h⟩ := h
      refine y_get 284 4 (c := 21) (z := w13 (w13 102 17) 4) dX22_begin_216 e15 rfl in_X23 q1510 rfl rfl rfl rfl rfl ?_
      refine x_lc_lt (q := 223) (t := 227) 7 dX22_begin_219 dX22_begin_220 rfl rfl (b_ite h (fun hc h => ?_) (fun hc h => ?_))
      · refine x_iconst 0 (z := 0) dX22_begin_227 rfl (by decide) rfl ?_
        exact x_fg (fgk (fgk (fgd (fgk (fgk (fgk (fgk (fgk (fg0))))))))) h
      · refine x_iconst 1 (z := 1) dX22_begin_223 rfl (by decide) rfl ?_
        refine x_goto 4 (q := 228) dX22_begin_224 rfl ?_
        exact x_fg (fgk (fgk (fgd (fgk (fgk (fgk (fgk (fgk (fg0))))))))) h
    · refine x_iconst 1 (z := 1) dX22_begin_173 rfl (by decide) rfl ?_
      refine x_goto 4 (q := 178) dX22_begin_174 rfl ?_
      refine x_bipush 7 (z := 7) dX22_begin_178 rfl (by decide) rfl ?_
      refine y_Vv 256 (M := mX2_want) (As := [(0, 1), (0, 7)]) (st := []) dX22_begin_180 i2 rfl q2507 q1954 q1955 q359 q1956 rfl hmX2_want rfl rfl rfl rfl rfl rfl rfl (k_mono h (fun r16 w17 h => ?_))
      refine x_aload_n 0 dX22_begin_183 rfl rfl rfl rfl rfl ?_
      refine y_getF 52 5 (c := 20) (z := 41) dX22_begin_184 i102 rfl in_X22 q1410 rfl rfl rfl fn_102_5 (Nat.le_trans (Nat.le_of_ble_eq_true rfl) hn) rfl ?_
      refine x_aload_n 0 dX22_begin_187 rfl rfl rfl rfl rfl ?_
      refine y_getF 40 2 (c := 20) (z := 50) dX22_begin_188 i102 rfl in_X22 q1407 rfl rfl rfl fn_102_2 (Nat.le_trans (Nat.le_of_ble_eq_true rfl) hn) rfl ?_
      refine y_Vi 276 (M := mX12_entry) (As := [(2, 50)]) (st := []) dX22_begin_191 i41 rfl q2538 q2539 q2540 q379 q2541 rfl hmX12_entry rfl rfl rfl rfl rfl rfl rfl rfl (k_mono h (fun r18 w19 h => ?_))
      refine x_istore 5 (ls' := [(2, 102), (9, 0), (0, r3), (0, r5), (0, r8), (0, r18), (9, 0), (9, 0)]) dX22_begin_194 rfl rfl rfl ?_
      refine x_aload_n 0 dX22_begin_196 rfl rfl rfl rfl rfl ?_
      refine y_getF 68 9 (c := 20) (z := 2) dX22_begin_197 i102 rfl in_X22 q1414 rfl rfl rfl fn_102_9 (Nat.le_trans (Nat.le_of_ble_eq_true rfl) hn) rfl ?_
      refine x_aload_n 0 dX22_begin_200 rfl rfl rfl rfl rfl ?_
      refine y_getF 64 8 (c := 20) (z := 70) dX22_begin_201 i102 rfl in_X22 q1413 rfl rfl rfl fn_102_8 (Nat.le_trans (Nat.le_of_ble_eq_true rfl) hn) rfl ?_
      refine y_getF 280 0 (c := 16) (z := 71) dX22_begin_204 i70 rfl in_X17 q1160 rfl rfl rfl fn_70_0 (Nat.le_trans (Nat.le_of_ble_eq_true rfl) hn) rfl ?_
      refine x_aload_n 0 dX22_begin_207 rfl rfl rfl rfl rfl ?_
      refine y_get 146 16 (c := 20) (z := w19 102 16) dX22_begin_208 i102 rfl in_X22 q1424 rfl rfl rfl rfl rfl ?_
      obtain ⟨e20, h⟩ := h
      refine y_lald (z := w19 71 (w19 102 16)) dX22_begin_211 ⟨200, i71, e20⟩ rfl rfl ?_
      refine x_aload_n 0 dX22_begin_212 rfl rfl rfl rfl rfl ?_
      refine y_get 149 17 (c := 20) (z := w19 102 17) dX22_begin_213 i102 rfl in_X22 q1425 rfl rfl rfl rfl rfl ?_
      obtain ⟨e21, h⟩ := h
      refine y_get 284 4 (c := 21) (z := w19 (w19 102 17) 4) dX22_begin_216 e21 rfl in_X23 q1510 rfl rfl rfl rfl rfl ?_
      refine x_lc_lt (q := 223) (t := 227) 7 dX22_begin_219 dX22_begin_220 rfl rfl (b_ite h (fun hc h => ?_) (fun hc h => ?_))
      · refine x_iconst 0 (z := 0) dX22_begin_227 rfl (by decide) rfl ?_
        exact x_fg (fgk (fgk (fgd (fgk (fgk (fgk (fgk (fgk (fg0))))))))) h
      · refine x_iconst 1 (z := 1) dX22_begin_223 rfl (by decide) rfl ?_
        refine x_goto 4 (q := 228) dX22_begin_224 rfl ?_
        exact x_fg (fgk (fgk (fgd (fgk (fgk (fgk (fgk (fgk (fg0))))))))) h
  · refine x_aload_n 0 dX22_begin_130 rfl rfl rfl rfl rfl ?_
    refine y_getF 68 9 (c := 20) (z := 2) dX22_begin_131 i102 rfl in_X22 q1414 rfl rfl rfl fn_102_9 (Nat.le_trans (Nat.le_of_ble_eq_true rfl) hn) rfl ?_
    refine x_aload_n 0 dX22_begin_134 rfl rfl rfl rfl rfl ?_
    refine y_getF 32 0 (c := 20) (z := 6) dX22_begin_135 i102 rfl in_X22 q1405 rfl rfl rfl fn_102_0 (Nat.le_trans (Nat.le_of_ble_eq_true rfl) hn) rfl ?_
    refine x_iload_n 2 dX22_begin_138 rfl rfl rfl ?_
    refine y_Vi 249 (M := mX4_isSequence) (As := [(0, r3)]) (st := [(2, 2)]) dX22_begin_139 i6 rfl q2506 q1826 q1827 q371 q1828 rfl hmX4_isSequence rfl rfl rfl rfl rfl rfl rfl rfl (k_mono h (fun r22 w23 h => ?_))
    refine x_bipush 7 (z := 7) dX22_begin_142 rfl (by decide) rfl ?_
    refine y_Vv 256 (M := mX2_want) (As := [(0, r22), (0, 7)]) (st := []) dX22_begin_144 i2 rfl q2507 q1954 q1955 q359 q1956 rfl hmX2_want rfl rfl rfl rfl rfl rfl rfl (k_mono h (fun r24 w25 h => ?_))
    refine x_aload_n 0 dX22_begin_147 rfl rfl rfl rfl rfl ?_
    refine x_iload_n 2 dX22_begin_148 rfl rfl rfl ?_
    refine x_iload_n 3 dX22_begin_149 rfl rfl rfl ?_
    refine y_Vv 267 (M := mX22_originate) (As := [(0, r3), (0, r5)]) (st := []) dX22_begin_150 i102 rfl q2509 q2511 qs100 q389 q2512 rfl hmX22_originate rfl rfl rfl rfl rfl rfl rfl (k_mono h (fun r26 w27 h => ?_))
    exact y_vret dX22_begin_153 rfl h
theorem sX22_begin_228 {d n : Nat} {w : bW} {Q : Int → bW → Prop} {X : String → bW → Prop} (hn : 143 ≤ n) (a3 : Int) (a4 : Int) (a5 : Int) (s0 : Int) (h : b_K d mX2_want [(2, 2), (0, s0), (0, 5)] n w (fun r1 w2 => b_K d mX22_entryOf [(2, 102), (0, a4), (0, a5)] n w2 (fun r3 w4 => if 100 ≤ a4 then ((0 ≤ r3 ∧ r3 < 12000) ∧ (b_K d mX12_read [(2, 41), (0, a3), (0, w4 61 r3)] n w4 (fun r6 w7 => if r6 = 0 then (b_K d mX2_want [(2, 2), (0, 0), (0, 7)] n w7 (fun r8 w9 => b_is n (w9 102 17) 0 21 7 ∧ (b_K d mX22_transfer [(2, 102), (0, w9 102 16), (0, a4), (0, r3), (1, w9 (w9 102 17) 4), (0, r6)] n w9 (fun r11 w12 => Q 0 w12) X)) X) else (b_K d mX2_want [(2, 2), (0, 1), (0, 7)] n w7 (fun r13 w14 => b_is n (w14 102 17) 0 21 7 ∧ (b_K d mX22_transfer [(2, 102), (0, w14 102 16), (0, a4), (0, r3), (1, w14 (w14 102 17) 4), (0, r6)] n w14 (fun r16 w17 => Q 0 w17) X)) X)) X)) else (b_K d mX12_read [(2, 41), (0, a3), (0, 0)] n w4 (fun r18 w19 => if r18 = 0 then (b_K d mX2_want [(2, 2), (0, 0), (0, 7)] n w19 (fun r20 w21 => b_is n (w21 102 17) 0 21 7 ∧ (b_K d mX22_transfer [(2, 102), (0, w21 102 16), (0, a4), (0, r3), (1, w21 (w21 102 17) 4), (0, r18)] n w21 (fun r23 w24 => Q 0 w24) X)) X) else (b_K d mX2_want [(2, 2), (0, 1), (0, 7)] n w19 (fun r25 w26 => b_is n (w26 102 17) 0 21 7 ∧ (b_K d mX22_transfer [(2, 102), (0, w26 102 16), (0, a4), (0, r3), (1, w26 (w26 102 17) 4), (0, r18)] n w26 (fun r28 w29 => Q 0 w29) X)) X)) X)) X) X) : LX22_begin_228 d n Q X a3 a4 a5 s0 w := by
  have i2 := iz2 (Nat.le_trans (Nat.le_of_ble_eq_true rfl) hn)
  have i41 := iz41 (Nat.le_trans (Nat.le_of_ble_eq_true rfl) hn)
  have i53 := iz53 (Nat.le_trans (Nat.le_of_ble_eq_true rfl) hn)
  have i61 := iz61 (Nat.le_trans (Nat.le_of_ble_eq_true rfl) hn)
  have i102 := iz102 (Nat.le_trans (Nat.le_of_ble_eq_true rfl) hn)
  refine x_iconst 5 (z := 5) dX22_begin_228 rfl (by decide) rfl ?_
  refine y_Vv 256 (M := mX2_want) (As := [(0, s0), (0, 5)]) (st := []) dX22_begin_229 i2 rfl q2507 q1954 q1955 q359 q1956 rfl hmX2_want rfl rfl rfl rfl rfl rfl rfl (k_mono h (fun r1 w2 h => ?_))
  refine x_aload_n 0 dX22_begin_232 rfl rfl rfl rfl rfl ?_
  refine x_iload 4 dX22_begin_233 rfl rfl ?_
  refine x_iload 5 dX22_begin_235 rfl rfl ?_
  refine y_Vi 288 (M := mX22_entryOf) (As := [(0, a4), (0, a5)]) (st := []) dX22_begin_237 i102 rfl q2543 q2545 qs105 q389 q2546 rfl hmX22_entryOf rfl rfl rfl rfl rfl rfl rfl rfl (k_mono h (fun r3 w4 h => ?_))
  refine x_istore 6 (ls' := [(2, 102), (9, 0), (9, 0), (0, a3), (0, a4), (0, a5), (0, r3), (9, 0)]) dX22_begin_240 rfl rfl rfl ?_
  refine x_aload_n 0 dX22_begin_242 rfl rfl rfl rfl rfl ?_
  refine y_getF 52 5 (c := 20) (z := 41) dX22_begin_243 i102 rfl in_X22 q1410 rfl rfl rfl fn_102_5 (Nat.le_trans (Nat.le_of_ble_eq_true rfl) hn) rfl ?_
  refine x_iload_n 3 dX22_begin_246 rfl rfl rfl ?_
  refine x_iload 4 dX22_begin_247 rfl rfl ?_
  refine x_bipush 100 (z := 100) dX22_begin_249 rfl (by decide) rfl ?_
  refine x_icmp_ge (t := 258) 7 dX22_begin_251 rfl rfl (b_ite h (fun hc h => ?_) (fun hc h => ?_))
  · refine x_aload_n 0 dX22_begin_258 rfl rfl rfl rfl rfl ?_
    refine y_getF 44 3 (c := 20) (z := 53) dX22_begin_259 i102 rfl in_X22 q1408 rfl rfl rfl fn_102_3 (Nat.le_trans (Nat.le_of_ble_eq_true rfl) hn) rfl ?_
    refine y_getF 293 8 (c := 14) (z := 61) dX22_begin_262 i53 rfl in_X15 q1044 rfl rfl rfl fn_53_8 (Nat.le_trans (Nat.le_of_ble_eq_true rfl) hn) rfl ?_
    refine x_iload 6 dX22_begin_265 rfl rfl ?_
    obtain ⟨e5, h⟩ := h
    refine y_iald (z := w4 61 r3) dX22_begin_267 ⟨12000, i61, e5⟩ rfl rfl ?_
    refine y_Vi 295 (M := mX12_read) (As := [(0, a3), (0, w4 61 r3)]) (st := []) dX22_begin_268 i41 rfl q2514 q1937 q1938 q379 q1939 rfl hmX12_read rfl rfl rfl rfl rfl rfl rfl rfl (k_mono h (fun r6 w7 h => ?_))
    refine x_istore 7 (ls' := [(2, 102), (9, 0), (9, 0), (0, a3), (0, a4), (0, a5), (0, r3), (0, r6)]) dX22_begin_271 rfl rfl rfl ?_
    refine x_aload_n 0 dX22_begin_273 rfl rfl rfl rfl rfl ?_
    refine y_getF 68 9 (c := 20) (z := 2) dX22_begin_274 i102 rfl in_X22 q1414 rfl rfl rfl fn_102_9 (Nat.le_trans (Nat.le_of_ble_eq_true rfl) hn) rfl ?_
    refine x_iload 7 dX22_begin_277 rfl rfl ?_
    refine x_if_eq (t := 286) 7 dX22_begin_279 rfl rfl (b_ite h (fun hc h => ?_) (fun hc h => ?_))
    · refine x_iconst 0 (z := 0) dX22_begin_286 rfl (by decide) rfl ?_
      refine x_bipush 7 (z := 7) dX22_begin_287 rfl (by decide) rfl ?_
      refine y_Vv 256 (M := mX2_want) (As := [(0, 0), (0, 7)]) (st := []) dX22_begin_289 i2 rfl q2507 q1954 q1955 q359 q1956 rfl hmX2_want rfl rfl rfl rfl rfl rfl rfl (k_mono h (fun r8 w9 h => ?_))
      refine x_aload_n 0 dX22_begin_292 rfl rfl rfl rfl rfl ?_
      refine x_aload_n 0 dX22_begin_293 rfl rfl rfl rfl rfl ?_
      refine y_get 146 16 (c := 20) (z := w9 102 16) dX22_begin_294 i102 rfl in_X22 q1424 rfl rfl rfl rfl rfl ?_
      refine x_iload 4 dX22_begin_297 rfl rfl ?_
      refine x_iload 6 dX22_begin_299 rfl rfl ?_
      refine x_aload_n 0 dX22_begin_301 rfl rfl rfl rfl rfl ?_
      refine y_get 149 17 (c := 20) (z := w9 102 17) dX22_begin_302 i102 rfl in_X22 q1425 rfl rfl rfl rfl rfl ?_
      obtain ⟨e10, h⟩ := h
      refine y_get 284 4 (c := 21) (z := w9 (w9 102 17) 4) dX22_begin_305 e10 rfl in_X23 q1510 rfl rfl rfl rfl rfl ?_
      refine x_iload 7 dX22_begin_308 rfl rfl ?_
      refine y_Vv 297 (M := mX22_transfer) (As := [(0, w9 102 16), (0, a4), (0, r3), (1, w9 (w9 102 17) 4), (0, r6)]) (st := []) dX22_begin_310 i102 rfl q2548 q2550 qs106 q389 q2551 rfl hmX22_transfer rfl rfl rfl rfl rfl rfl rfl (k_mono h (fun r11 w12 h => ?_))
      exact y_vret dX22_begin_313 rfl h
    · refine x_iconst 1 (z := 1) dX22_begin_282 rfl (by decide) rfl ?_
      refine x_goto 4 (q := 287) dX22_begin_283 rfl ?_
      refine x_bipush 7 (z := 7) dX22_begin_287 rfl (by decide) rfl ?_
      refine y_Vv 256 (M := mX2_want) (As := [(0, 1), (0, 7)]) (st := []) dX22_begin_289 i2 rfl q2507 q1954 q1955 q359 q1956 rfl hmX2_want rfl rfl rfl rfl rfl rfl rfl (k_mono h (fun r13 w14 h => ?_))
      refine x_aload_n 0 dX22_begin_292 rfl rfl rfl rfl rfl ?_
      refine x_aload_n 0 dX22_begin_293 rfl rfl rfl rfl rfl ?_
      refine y_get 146 16 (c := 20) (z := w14 102 16) dX22_begin_294 i102 rfl in_X22 q1424 rfl rfl rfl rfl rfl ?_
      refine x_iload 4 dX22_begin_297 rfl rfl ?_
      refine x_iload 6 dX22_begin_299 rfl rfl ?_
      refine x_aload_n 0 dX22_begin_301 rfl rfl rfl rfl rfl ?_
      refine y_get 149 17 (c := 20) (z := w14 102 17) dX22_begin_302 i102 rfl in_X22 q1425 rfl rfl rfl rfl rfl ?_
      obtain ⟨e15, h⟩ := h
      refine y_get 284 4 (c := 21) (z := w14 (w14 102 17) 4) dX22_begin_305 e15 rfl in_X23 q1510 rfl rfl rfl rfl rfl ?_
      refine x_iload 7 dX22_begin_308 rfl rfl ?_
      refine y_Vv 297 (M := mX22_transfer) (As := [(0, w14 102 16), (0, a4), (0, r3), (1, w14 (w14 102 17) 4), (0, r6)]) (st := []) dX22_begin_310 i102 rfl q2548 q2550 qs106 q389 q2551 rfl hmX22_transfer rfl rfl rfl rfl rfl rfl rfl (k_mono h (fun r16 w17 h => ?_))
      exact y_vret dX22_begin_313 rfl h
  · refine x_iconst 0 (z := 0) dX22_begin_254 rfl (by decide) rfl ?_
    refine x_goto 13 (q := 268) dX22_begin_255 rfl ?_
    refine y_Vi 295 (M := mX12_read) (As := [(0, a3), (0, 0)]) (st := []) dX22_begin_268 i41 rfl q2514 q1937 q1938 q379 q1939 rfl hmX12_read rfl rfl rfl rfl rfl rfl rfl rfl (k_mono h (fun r18 w19 h => ?_))
    refine x_istore 7 (ls' := [(2, 102), (9, 0), (9, 0), (0, a3), (0, a4), (0, a5), (0, r3), (0, r18)]) dX22_begin_271 rfl rfl rfl ?_
    refine x_aload_n 0 dX22_begin_273 rfl rfl rfl rfl rfl ?_
    refine y_getF 68 9 (c := 20) (z := 2) dX22_begin_274 i102 rfl in_X22 q1414 rfl rfl rfl fn_102_9 (Nat.le_trans (Nat.le_of_ble_eq_true rfl) hn) rfl ?_
    refine x_iload 7 dX22_begin_277 rfl rfl ?_
    refine x_if_eq (t := 286) 7 dX22_begin_279 rfl rfl (b_ite h (fun hc h => ?_) (fun hc h => ?_))
    · refine x_iconst 0 (z := 0) dX22_begin_286 rfl (by decide) rfl ?_
      refine x_bipush 7 (z := 7) dX22_begin_287 rfl (by decide) rfl ?_
      refine y_Vv 256 (M := mX2_want) (As := [(0, 0), (0, 7)]) (st := []) dX22_begin_289 i2 rfl q2507 q1954 q1955 q359 q1956 rfl hmX2_want rfl rfl rfl rfl rfl rfl rfl (k_mono h (fun r20 w21 h => ?_))
      refine x_aload_n 0 dX22_begin_292 rfl rfl rfl rfl rfl ?_
      refine x_aload_n 0 dX22_begin_293 rfl rfl rfl rfl rfl ?_
      refine y_get 146 16 (c := 20) (z := w21 102 16) dX22_begin_294 i102 rfl in_X22 q1424 rfl rfl rfl rfl rfl ?_
      refine x_iload 4 dX22_begin_297 rfl rfl ?_
      refine x_iload 6 dX22_begin_299 rfl rfl ?_
      refine x_aload_n 0 dX22_begin_301 rfl rfl rfl rfl rfl ?_
      refine y_get 149 17 (c := 20) (z := w21 102 17) dX22_begin_302 i102 rfl in_X22 q1425 rfl rfl rfl rfl rfl ?_
      obtain ⟨e22, h⟩ := h
      refine y_get 284 4 (c := 21) (z := w21 (w21 102 17) 4) dX22_begin_305 e22 rfl in_X23 q1510 rfl rfl rfl rfl rfl ?_
      refine x_iload 7 dX22_begin_308 rfl rfl ?_
      refine y_Vv 297 (M := mX22_transfer) (As := [(0, w21 102 16), (0, a4), (0, r3), (1, w21 (w21 102 17) 4), (0, r18)]) (st := []) dX22_begin_310 i102 rfl q2548 q2550 qs106 q389 q2551 rfl hmX22_transfer rfl rfl rfl rfl rfl rfl rfl (k_mono h (fun r23 w24 h => ?_))
      exact y_vret dX22_begin_313 rfl h
    · refine x_iconst 1 (z := 1) dX22_begin_282 rfl (by decide) rfl ?_
      refine x_goto 4 (q := 287) dX22_begin_283 rfl ?_
      refine x_bipush 7 (z := 7) dX22_begin_287 rfl (by decide) rfl ?_
      refine y_Vv 256 (M := mX2_want) (As := [(0, 1), (0, 7)]) (st := []) dX22_begin_289 i2 rfl q2507 q1954 q1955 q359 q1956 rfl hmX2_want rfl rfl rfl rfl rfl rfl rfl (k_mono h (fun r25 w26 h => ?_))
      refine x_aload_n 0 dX22_begin_292 rfl rfl rfl rfl rfl ?_
      refine x_aload_n 0 dX22_begin_293 rfl rfl rfl rfl rfl ?_
      refine y_get 146 16 (c := 20) (z := w26 102 16) dX22_begin_294 i102 rfl in_X22 q1424 rfl rfl rfl rfl rfl ?_
      refine x_iload 4 dX22_begin_297 rfl rfl ?_
      refine x_iload 6 dX22_begin_299 rfl rfl ?_
      refine x_aload_n 0 dX22_begin_301 rfl rfl rfl rfl rfl ?_
      refine y_get 149 17 (c := 20) (z := w26 102 17) dX22_begin_302 i102 rfl in_X22 q1425 rfl rfl rfl rfl rfl ?_
      obtain ⟨e27, h⟩ := h
      refine y_get 284 4 (c := 21) (z := w26 (w26 102 17) 4) dX22_begin_305 e27 rfl in_X23 q1510 rfl rfl rfl rfl rfl ?_
      refine x_iload 7 dX22_begin_308 rfl rfl ?_
      refine y_Vv 297 (M := mX22_transfer) (As := [(0, w26 102 16), (0, a4), (0, r3), (1, w26 (w26 102 17) 4), (0, r18)]) (st := []) dX22_begin_310 i102 rfl q2548 q2550 qs106 q389 q2551 rfl hmX22_transfer rfl rfl rfl rfl rfl rfl rfl (k_mono h (fun r28 w29 h => ?_))
      exact y_vret dX22_begin_313 rfl h
abbrev LX22_originate_66 (d n : Nat) (Q : Int → bW → Prop) (X : String → bW → Prop) (a3 : Int) (a4 : Int) (s0 : Int) (w : bW) : Prop := b_Y (d + 1) mX22_originate n Q X 66 [(2, 102), (9, 0), (9, 0), (0, a3), (0, a4), (9, 0)] [(0, s0), (2, 2)] w
theorem rX22_originate {d n : Nat} {w : bW} {Q : Int → bW → Prop} {X : String → bW → Prop} (hn : 143 ≤ n) (a1 : Int) (a2 : Int) (h : b_K d mX16_type [(2, 65), (0, a1)] n w (fun r1 w2 => if 0 ≤ r1 then ((0 ≤ r1 ∧ r1 < 2000) ∧ (b_K d mX12_read [(2, 41), (0, a2), (0, w2 55 r1)] n w2 (fun r4 w5 => if r4 = 0 then (LX22_originate_66 d n Q X r1 r4 0 w5) else (LX22_originate_66 d n Q X r1 r4 1 w5)) X)) else (b_K d mX2_fail [(2, 2), (0, 11)] n (b_up w2 102 15 (w2 65 15)) (fun r6 w7 => (0 ≤ r1 ∧ r1 < 2000) ∧ (b_K d mX12_read [(2, 41), (0, a2), (0, w7 55 r1)] n w7 (fun r9 w10 => if r9 = 0 then (LX22_originate_66 d n Q X r1 r9 0 w10) else (LX22_originate_66 d n Q X r1 r9 1 w10)) X)) X)) X) : b_K (d + 1) mX22_originate [(2, 102), (0, a1), (0, a2)] n w Q X := by
  have i2 := iz2 (Nat.le_trans (Nat.le_of_ble_eq_true rfl) hn)
  have i41 := iz41 (Nat.le_trans (Nat.le_of_ble_eq_true rfl) hn)
  have i53 := iz53 (Nat.le_trans (Nat.le_of_ble_eq_true rfl) hn)
  have i55 := iz55 (Nat.le_trans (Nat.le_of_ble_eq_true rfl) hn)
  have i65 := iz65 (Nat.le_trans (Nat.le_of_ble_eq_true rfl) hn)
  have i102 := iz102 (Nat.le_trans (Nat.le_of_ble_eq_true rfl) hn)
  refine k_of (by decide) rfl rfl rfl (ls := [(2, 102), (0, a1), (0, a2), (9, 0), (9, 0), (9, 0)]) rfl ?_
  refine x_aload_n 0 dX22_originate_0 rfl rfl rfl rfl rfl ?_
  refine y_getF 48 4 (c := 20) (z := 65) dX22_originate_1 i102 rfl in_X22 q1409 rfl rfl rfl fn_102_4 (Nat.le_trans (Nat.le_of_ble_eq_true rfl) hn) rfl ?_
  refine x_iload_n 1 dX22_originate_4 rfl rfl rfl ?_
  refine y_Vi 301 (M := mX16_type) (As := [(0, a1)]) (st := []) dX22_originate_5 i65 rfl q2513 q1818 q1819 q383 q1820 rfl hmX16_type rfl rfl rfl rfl rfl rfl rfl rfl (k_mono h (fun r1 w2 h => ?_))
  refine x_istore_n 3 (ls' := [(2, 102), (0, a1), (0, a2), (0, r1), (9, 0), (9, 0)]) dX22_originate_8 rfl rfl rfl rfl ?_
  refine x_iload_n 3 dX22_originate_9 rfl rfl rfl ?_
  refine x_if_ge (t := 33) 23 dX22_originate_10 rfl rfl (b_ite h (fun hc h => ?_) (fun hc h => ?_))
  · refine x_aload_n 0 dX22_originate_33 rfl rfl rfl rfl rfl ?_
    refine y_getF 52 5 (c := 20) (z := 41) dX22_originate_34 i102 rfl in_X22 q1410 rfl rfl rfl fn_102_5 (Nat.le_trans (Nat.le_of_ble_eq_true rfl) hn) rfl ?_
    refine x_iload_n 2 dX22_originate_37 rfl rfl rfl ?_
    refine x_aload_n 0 dX22_originate_38 rfl rfl rfl rfl rfl ?_
    refine y_getF 44 3 (c := 20) (z := 53) dX22_originate_39 i102 rfl in_X22 q1408 rfl rfl rfl fn_102_3 (Nat.le_trans (Nat.le_of_ble_eq_true rfl) hn) rfl ?_
    refine y_getF 307 1 (c := 14) (z := 55) dX22_originate_42 i53 rfl in_X15 q1024 rfl rfl rfl fn_53_1 (Nat.le_trans (Nat.le_of_ble_eq_true rfl) hn) rfl ?_
    refine x_iload_n 3 dX22_originate_45 rfl rfl rfl ?_
    obtain ⟨e3, h⟩ := h
    refine y_iald (z := w2 55 r1) dX22_originate_46 ⟨2000, i55, e3⟩ rfl rfl ?_
    refine y_Vi 295 (M := mX12_read) (As := [(0, a2), (0, w2 55 r1)]) (st := []) dX22_originate_47 i41 rfl q2514 q1937 q1938 q379 q1939 rfl hmX12_read rfl rfl rfl rfl rfl rfl rfl rfl (k_mono h (fun r4 w5 h => ?_))
    refine x_istore 4 (ls' := [(2, 102), (0, a1), (0, a2), (0, r1), (0, r4), (9, 0)]) dX22_originate_50 rfl rfl rfl ?_
    refine x_aload_n 0 dX22_originate_52 rfl rfl rfl rfl rfl ?_
    refine y_getF 68 9 (c := 20) (z := 2) dX22_originate_53 i102 rfl in_X22 q1414 rfl rfl rfl fn_102_9 (Nat.le_trans (Nat.le_of_ble_eq_true rfl) hn) rfl ?_
    refine x_iload 4 dX22_originate_56 rfl rfl ?_
    refine x_if_eq (t := 65) 7 dX22_originate_58 rfl rfl (b_ite h (fun hc h => ?_) (fun hc h => ?_))
    · refine x_iconst 0 (z := 0) dX22_originate_65 rfl (by decide) rfl ?_
      exact x_fg (fgk (fgd (fgd (fgk (fgk (fgk (fg0))))))) h
    · refine x_iconst 1 (z := 1) dX22_originate_61 rfl (by decide) rfl ?_
      refine x_goto 4 (q := 66) dX22_originate_62 rfl ?_
      exact x_fg (fgk (fgd (fgd (fgk (fgk (fgk (fg0))))))) h
  · refine x_aload_n 0 dX22_originate_13 rfl rfl rfl rfl rfl ?_
    refine x_aload_n 0 dX22_originate_14 rfl rfl rfl rfl rfl ?_
    refine y_getF 48 4 (c := 20) (z := 65) dX22_originate_15 i102 rfl in_X22 q1409 rfl rfl rfl fn_102_4 (Nat.le_trans (Nat.le_of_ble_eq_true rfl) hn) rfl ?_
    refine y_get 306 15 (c := 15) (z := w2 65 15) dX22_originate_18 i65 rfl in_X16 q1116 rfl rfl rfl rfl rfl ?_
    refine x_put 22 15 (c := 20) dX22_originate_21 i102 rfl in_X22 tyX22_ok nmX22 q1422 rfl rfl rfl (Or.inl rfl) (Or.inl ⟨rfl, rfl⟩) rfl ?_
    refine x_aload_n 0 dX22_originate_24 rfl rfl rfl rfl rfl ?_
    refine y_getF 68 9 (c := 20) (z := 2) dX22_originate_25 i102 rfl in_X22 q1414 rfl rfl rfl fn_102_9 (Nat.le_trans (Nat.le_of_ble_eq_true rfl) hn) rfl ?_
    refine x_bipush 11 (z := 11) dX22_originate_28 rfl (by decide) rfl ?_
    refine y_Vv 245 (M := mX2_fail) (As := [(0, 11)]) (st := []) dX22_originate_30 i2 rfl q2505 q1958 q1959 q359 q1960 rfl hmX2_fail rfl rfl rfl rfl rfl rfl rfl (k_mono h (fun r6 w7 h => ?_))
    refine x_aload_n 0 dX22_originate_33 rfl rfl rfl rfl rfl ?_
    refine y_getF 52 5 (c := 20) (z := 41) dX22_originate_34 i102 rfl in_X22 q1410 rfl rfl rfl fn_102_5 (Nat.le_trans (Nat.le_of_ble_eq_true rfl) hn) rfl ?_
    refine x_iload_n 2 dX22_originate_37 rfl rfl rfl ?_
    refine x_aload_n 0 dX22_originate_38 rfl rfl rfl rfl rfl ?_
    refine y_getF 44 3 (c := 20) (z := 53) dX22_originate_39 i102 rfl in_X22 q1408 rfl rfl rfl fn_102_3 (Nat.le_trans (Nat.le_of_ble_eq_true rfl) hn) rfl ?_
    refine y_getF 307 1 (c := 14) (z := 55) dX22_originate_42 i53 rfl in_X15 q1024 rfl rfl rfl fn_53_1 (Nat.le_trans (Nat.le_of_ble_eq_true rfl) hn) rfl ?_
    refine x_iload_n 3 dX22_originate_45 rfl rfl rfl ?_
    obtain ⟨e8, h⟩ := h
    refine y_iald (z := w7 55 r1) dX22_originate_46 ⟨2000, i55, e8⟩ rfl rfl ?_
    refine y_Vi 295 (M := mX12_read) (As := [(0, a2), (0, w7 55 r1)]) (st := []) dX22_originate_47 i41 rfl q2514 q1937 q1938 q379 q1939 rfl hmX12_read rfl rfl rfl rfl rfl rfl rfl rfl (k_mono h (fun r9 w10 h => ?_))
    refine x_istore 4 (ls' := [(2, 102), (0, a1), (0, a2), (0, r1), (0, r9), (9, 0)]) dX22_originate_50 rfl rfl rfl ?_
    refine x_aload_n 0 dX22_originate_52 rfl rfl rfl rfl rfl ?_
    refine y_getF 68 9 (c := 20) (z := 2) dX22_originate_53 i102 rfl in_X22 q1414 rfl rfl rfl fn_102_9 (Nat.le_trans (Nat.le_of_ble_eq_true rfl) hn) rfl ?_
    refine x_iload 4 dX22_originate_56 rfl rfl ?_
    refine x_if_eq (t := 65) 7 dX22_originate_58 rfl rfl (b_ite h (fun hc h => ?_) (fun hc h => ?_))
    · refine x_iconst 0 (z := 0) dX22_originate_65 rfl (by decide) rfl ?_
      exact x_fg (fgk (fgd (fgd (fgk (fgk (fgk (fg0))))))) h
    · refine x_iconst 1 (z := 1) dX22_originate_61 rfl (by decide) rfl ?_
      refine x_goto 4 (q := 66) dX22_originate_62 rfl ?_
      exact x_fg (fgk (fgd (fgd (fgk (fgk (fgk (fg0))))))) h
theorem sX22_originate_66 {d n : Nat} {w : bW} {Q : Int → bW → Prop} {X : String → bW → Prop} (hn : 143 ≤ n) (a3 : Int) (a4 : Int) (s0 : Int) (h : b_K d mX2_want [(2, 2), (0, s0), (0, 7)] n w (fun r1 w2 => if 100 ≤ w2 70 7 then (b_K d mX2_want [(2, 2), (0, 0), (0, 8)] n w2 (fun r3 w4 => b_is n (w4 102 18) 0 22 6 ∧ (b_is n ((b_up (b_up w4 70 7 (b_i ((w4 70 7) + 1))) (w4 102 18) 5 (b_i ((b_i (100 + (w4 70 7))) - 100))) 102 17) 0 21 7 ∧ (b_K d mX22_make [(2, 102), (0, (b_up (b_up w4 70 7 (b_i ((w4 70 7) + 1))) (w4 102 18) 5 (b_i ((b_i (100 + (w4 70 7))) - 100))) 102 16), (0, b_i (100 + (w4 70 7))), (0, a3), (1, (b_up (b_up w4 70 7 (b_i ((w4 70 7) + 1))) (w4 102 18) 5 (b_i ((b_i (100 + (w4 70 7))) - 100))) ((b_up (b_up w4 70 7 (b_i ((w4 70 7) + 1))) (w4 102 18) 5 (b_i ((b_i (100 + (w4 70 7))) - 100))) 102 17) 4), (0, a4)] n (b_up (b_up w4 70 7 (b_i ((w4 70 7) + 1))) (w4 102 18) 5 (b_i ((b_i (100 + (w4 70 7))) - 100))) (fun r7 w8 => Q 0 w8) X))) X) else (b_K d mX2_want [(2, 2), (0, 1), (0, 8)] n w2 (fun r9 w10 => b_is n (w10 102 18) 0 22 6 ∧ (b_is n ((b_up (b_up w10 70 7 (b_i ((w10 70 7) + 1))) (w10 102 18) 5 (b_i ((b_i (100 + (w10 70 7))) - 100))) 102 17) 0 21 7 ∧ (b_K d mX22_make [(2, 102), (0, (b_up (b_up w10 70 7 (b_i ((w10 70 7) + 1))) (w10 102 18) 5 (b_i ((b_i (100 + (w10 70 7))) - 100))) 102 16), (0, b_i (100 + (w10 70 7))), (0, a3), (1, (b_up (b_up w10 70 7 (b_i ((w10 70 7) + 1))) (w10 102 18) 5 (b_i ((b_i (100 + (w10 70 7))) - 100))) ((b_up (b_up w10 70 7 (b_i ((w10 70 7) + 1))) (w10 102 18) 5 (b_i ((b_i (100 + (w10 70 7))) - 100))) 102 17) 4), (0, a4)] n (b_up (b_up w10 70 7 (b_i ((w10 70 7) + 1))) (w10 102 18) 5 (b_i ((b_i (100 + (w10 70 7))) - 100))) (fun r13 w14 => Q 0 w14) X))) X)) X) : LX22_originate_66 d n Q X a3 a4 s0 w := by
  have i2 := iz2 (Nat.le_trans (Nat.le_of_ble_eq_true rfl) hn)
  have i70 := iz70 (Nat.le_trans (Nat.le_of_ble_eq_true rfl) hn)
  have i102 := iz102 (Nat.le_trans (Nat.le_of_ble_eq_true rfl) hn)
  refine x_bipush 7 (z := 7) dX22_originate_66 rfl (by decide) rfl ?_
  refine y_Vv 256 (M := mX2_want) (As := [(0, s0), (0, 7)]) (st := []) dX22_originate_68 i2 rfl q2507 q1954 q1955 q359 q1956 rfl hmX2_want rfl rfl rfl rfl rfl rfl rfl (k_mono h (fun r1 w2 h => ?_))
  refine x_aload_n 0 dX22_originate_71 rfl rfl rfl rfl rfl ?_
  refine y_getF 68 9 (c := 20) (z := 2) dX22_originate_72 i102 rfl in_X22 q1414 rfl rfl rfl fn_102_9 (Nat.le_trans (Nat.le_of_ble_eq_true rfl) hn) rfl ?_
  refine x_aload_n 0 dX22_originate_75 rfl rfl rfl rfl rfl ?_
  refine y_getF 64 8 (c := 20) (z := 70) dX22_originate_76 i102 rfl in_X22 q1413 rfl rfl rfl fn_102_8 (Nat.le_trans (Nat.le_of_ble_eq_true rfl) hn) rfl ?_
  refine y_get 310 7 (c := 16) (z := w2 70 7) dX22_originate_79 i70 rfl in_X17 q1180 rfl rfl rfl rfl rfl ?_
  refine x_bipush 100 (z := 100) dX22_originate_82 rfl (by decide) rfl ?_
  refine x_icmp_ge (t := 91) 7 dX22_originate_84 rfl rfl (b_ite h (fun hc h => ?_) (fun hc h => ?_))
  · refine x_iconst 0 (z := 0) dX22_originate_91 rfl (by decide) rfl ?_
    refine x_bipush 8 (z := 8) dX22_originate_92 rfl (by decide) rfl ?_
    refine y_Vv 256 (M := mX2_want) (As := [(0, 0), (0, 8)]) (st := []) dX22_originate_94 i2 rfl q2507 q1954 q1955 q359 q1956 rfl hmX2_want rfl rfl rfl rfl rfl rfl rfl (k_mono h (fun r3 w4 h => ?_))
    refine x_bipush 100 (z := 100) dX22_originate_97 rfl (by decide) rfl ?_
    refine x_aload_n 0 dX22_originate_99 rfl rfl rfl rfl rfl ?_
    refine y_getF 64 8 (c := 20) (z := 70) dX22_originate_100 i102 rfl in_X22 q1413 rfl rfl rfl fn_102_8 (Nat.le_trans (Nat.le_of_ble_eq_true rfl) hn) rfl ?_
    refine x_dup dX22_originate_103 rfl rfl ?_
    refine y_get 310 7 (c := 16) (z := w4 70 7) dX22_originate_104 i70 rfl in_X17 q1180 rfl rfl rfl rfl rfl ?_
    refine x_dup_x1 dX22_originate_107 rfl rfl rfl ?_
    refine x_iconst 1 (z := 1) dX22_originate_108 rfl (by decide) rfl ?_
    refine x_iadd dX22_originate_109 rfl ?_
    refine x_put 310 7 (c := 16) dX22_originate_110 i70 rfl in_X17 tyX17_ok nmX17 q1180 rfl rfl rfl (Or.inl rfl) (Or.inl ⟨rfl, rfl⟩) rfl ?_
    refine x_iadd dX22_originate_113 rfl ?_
    refine x_istore 5 (ls' := [(2, 102), (9, 0), (9, 0), (0, a3), (0, a4), (0, b_i (100 + (w4 70 7)))]) dX22_originate_114 rfl rfl rfl ?_
    refine x_aload_n 0 dX22_originate_116 rfl rfl rfl rfl rfl ?_
    refine y_get 153 18 (c := 20) (z := w4 102 18) dX22_originate_117 i102 rfl in_X22 q1426 rfl rfl rfl rfl rfl ?_
    refine x_iload 5 dX22_originate_120 rfl rfl ?_
    refine x_bipush 100 (z := 100) dX22_originate_122 rfl (by decide) rfl ?_
    refine x_isub dX22_originate_124 rfl ?_
    obtain ⟨e5, h⟩ := h
    refine x_put 312 5 (c := 22) dX22_originate_125 e5 rfl in_X24 tyX24_ok nmX24 q1552 rfl rfl rfl (Or.inl rfl) (Or.inl ⟨rfl, rfl⟩) rfl ?_
    refine x_aload_n 0 dX22_originate_128 rfl rfl rfl rfl rfl ?_
    refine x_aload_n 0 dX22_originate_129 rfl rfl rfl rfl rfl ?_
    refine y_get 146 16 (c := 20) (z := (b_up (b_up w4 70 7 (b_i ((w4 70 7) + 1))) (w4 102 18) 5 (b_i ((b_i (100 + (w4 70 7))) - 100))) 102 16) dX22_originate_130 i102 rfl in_X22 q1424 rfl rfl rfl rfl rfl ?_
    refine x_iload 5 dX22_originate_133 rfl rfl ?_
    refine x_iload_n 3 dX22_originate_135 rfl rfl rfl ?_
    refine x_aload_n 0 dX22_originate_136 rfl rfl rfl rfl rfl ?_
    refine y_get 149 17 (c := 20) (z := (b_up (b_up w4 70 7 (b_i ((w4 70 7) + 1))) (w4 102 18) 5 (b_i ((b_i (100 + (w4 70 7))) - 100))) 102 17) dX22_originate_137 i102 rfl in_X22 q1425 rfl rfl rfl rfl rfl ?_
    obtain ⟨e6, h⟩ := h
    refine y_get 284 4 (c := 21) (z := (b_up (b_up w4 70 7 (b_i ((w4 70 7) + 1))) (w4 102 18) 5 (b_i ((b_i (100 + (w4 70 7))) - 100))) ((b_up (b_up w4 70 7 (b_i ((w4 70 7) + 1))) (w4 102 18) 5 (b_i ((b_i (100 + (w4 70 7))) - 100))) 102 17) 4) dX22_originate_140 e6 rfl in_X23 q1510 rfl rfl rfl rfl rfl ?_
    refine x_iload 4 dX22_originate_143 rfl rfl ?_
    refine y_Vv 315 (M := mX22_make) (As := [(0, (b_up (b_up w4 70 7 (b_i ((w4 70 7) + 1))) (w4 102 18) 5 (b_i ((b_i (100 + (w4 70 7))) - 100))) 102 16), (0, b_i (100 + (w4 70 7))), (0, a3), (1, (b_up (b_up w4 70 7 (b_i ((w4 70 7) + 1))) (w4 102 18) 5 (b_i ((b_i (100 + (w4 70 7))) - 100))) ((b_up (b_up w4 70 7 (b_i ((w4 70 7) + 1))) (w4 102 18) 5 (b_i ((b_i (100 + (w4 70 7))) - 100))) 102 17) 4), (0, a4)]) (st := []) dX22_originate_145 i102 rfl q2515 q2517 qs101 q389 q2518 rfl hmX22_make rfl rfl rfl rfl rfl rfl rfl (k_mono h (fun r7 w8 h => ?_))
    exact y_vret dX22_originate_148 rfl h
  · refine x_iconst 1 (z := 1) dX22_originate_87 rfl (by decide) rfl ?_
    refine x_goto 4 (q := 92) dX22_originate_88 rfl ?_
    refine x_bipush 8 (z := 8) dX22_originate_92 rfl (by decide) rfl ?_
    refine y_Vv 256 (M := mX2_want) (As := [(0, 1), (0, 8)]) (st := []) dX22_originate_94 i2 rfl q2507 q1954 q1955 q359 q1956 rfl hmX2_want rfl rfl rfl rfl rfl rfl rfl (k_mono h (fun r9 w10 h => ?_))
    refine x_bipush 100 (z := 100) dX22_originate_97 rfl (by decide) rfl ?_
    refine x_aload_n 0 dX22_originate_99 rfl rfl rfl rfl rfl ?_
    refine y_getF 64 8 (c := 20) (z := 70) dX22_originate_100 i102 rfl in_X22 q1413 rfl rfl rfl fn_102_8 (Nat.le_trans (Nat.le_of_ble_eq_true rfl) hn) rfl ?_
    refine x_dup dX22_originate_103 rfl rfl ?_
    refine y_get 310 7 (c := 16) (z := w10 70 7) dX22_originate_104 i70 rfl in_X17 q1180 rfl rfl rfl rfl rfl ?_
    refine x_dup_x1 dX22_originate_107 rfl rfl rfl ?_
    refine x_iconst 1 (z := 1) dX22_originate_108 rfl (by decide) rfl ?_
    refine x_iadd dX22_originate_109 rfl ?_
    refine x_put 310 7 (c := 16) dX22_originate_110 i70 rfl in_X17 tyX17_ok nmX17 q1180 rfl rfl rfl (Or.inl rfl) (Or.inl ⟨rfl, rfl⟩) rfl ?_
    refine x_iadd dX22_originate_113 rfl ?_
    refine x_istore 5 (ls' := [(2, 102), (9, 0), (9, 0), (0, a3), (0, a4), (0, b_i (100 + (w10 70 7)))]) dX22_originate_114 rfl rfl rfl ?_
    refine x_aload_n 0 dX22_originate_116 rfl rfl rfl rfl rfl ?_
    refine y_get 153 18 (c := 20) (z := w10 102 18) dX22_originate_117 i102 rfl in_X22 q1426 rfl rfl rfl rfl rfl ?_
    refine x_iload 5 dX22_originate_120 rfl rfl ?_
    refine x_bipush 100 (z := 100) dX22_originate_122 rfl (by decide) rfl ?_
    refine x_isub dX22_originate_124 rfl ?_
    obtain ⟨e11, h⟩ := h
    refine x_put 312 5 (c := 22) dX22_originate_125 e11 rfl in_X24 tyX24_ok nmX24 q1552 rfl rfl rfl (Or.inl rfl) (Or.inl ⟨rfl, rfl⟩) rfl ?_
    refine x_aload_n 0 dX22_originate_128 rfl rfl rfl rfl rfl ?_
    refine x_aload_n 0 dX22_originate_129 rfl rfl rfl rfl rfl ?_
    refine y_get 146 16 (c := 20) (z := (b_up (b_up w10 70 7 (b_i ((w10 70 7) + 1))) (w10 102 18) 5 (b_i ((b_i (100 + (w10 70 7))) - 100))) 102 16) dX22_originate_130 i102 rfl in_X22 q1424 rfl rfl rfl rfl rfl ?_
    refine x_iload 5 dX22_originate_133 rfl rfl ?_
    refine x_iload_n 3 dX22_originate_135 rfl rfl rfl ?_
    refine x_aload_n 0 dX22_originate_136 rfl rfl rfl rfl rfl ?_
    refine y_get 149 17 (c := 20) (z := (b_up (b_up w10 70 7 (b_i ((w10 70 7) + 1))) (w10 102 18) 5 (b_i ((b_i (100 + (w10 70 7))) - 100))) 102 17) dX22_originate_137 i102 rfl in_X22 q1425 rfl rfl rfl rfl rfl ?_
    obtain ⟨e12, h⟩ := h
    refine y_get 284 4 (c := 21) (z := (b_up (b_up w10 70 7 (b_i ((w10 70 7) + 1))) (w10 102 18) 5 (b_i ((b_i (100 + (w10 70 7))) - 100))) ((b_up (b_up w10 70 7 (b_i ((w10 70 7) + 1))) (w10 102 18) 5 (b_i ((b_i (100 + (w10 70 7))) - 100))) 102 17) 4) dX22_originate_140 e12 rfl in_X23 q1510 rfl rfl rfl rfl rfl ?_
    refine x_iload 4 dX22_originate_143 rfl rfl ?_
    refine y_Vv 315 (M := mX22_make) (As := [(0, (b_up (b_up w10 70 7 (b_i ((w10 70 7) + 1))) (w10 102 18) 5 (b_i ((b_i (100 + (w10 70 7))) - 100))) 102 16), (0, b_i (100 + (w10 70 7))), (0, a3), (1, (b_up (b_up w10 70 7 (b_i ((w10 70 7) + 1))) (w10 102 18) 5 (b_i ((b_i (100 + (w10 70 7))) - 100))) ((b_up (b_up w10 70 7 (b_i ((w10 70 7) + 1))) (w10 102 18) 5 (b_i ((b_i (100 + (w10 70 7))) - 100))) 102 17) 4), (0, a4)]) (st := []) dX22_originate_145 i102 rfl q2515 q2517 qs101 q389 q2518 rfl hmX22_make rfl rfl rfl rfl rfl rfl rfl (k_mono h (fun r13 w14 h => ?_))
    exact y_vret dX22_originate_148 rfl h
abbrev LX22_make_24 (d n : Nat) (Q : Int → bW → Prop) (X : String → bW → Prop) (a1 : Int) (a2 : Int) (a3 : Int) (a4 : Int) (a6 : Int) (s0 : Int) (w : bW) : Prop := b_Y (d + 1) mX22_make n Q X 24 [(2, 102), (0, a1), (0, a2), (0, a3), (1, a4), (9, 0), (0, a6)] [(0, s0), (2, 2)] w
theorem rX22_make {d n : Nat} {w : bW} {Q : Int → bW → Prop} {X : String → bW → Prop} (hn : 143 ≤ n) (a1 : Int) (a2 : Int) (a3 : Int) (a4 : Int) (a6 : Int) (h : (0 ≤ a1 ∧ a1 < 200) ∧ (if w 71 a1 < a4 then (LX22_make_24 d n Q X a1 a2 a3 a4 a6 0 w) else (LX22_make_24 d n Q X a1 a2 a3 a4 a6 1 w))) : b_K (d + 1) mX22_make [(2, 102), (0, a1), (0, a2), (0, a3), (1, a4), (0, a6)] n w Q X := by
  have i70 := iz70 (Nat.le_trans (Nat.le_of_ble_eq_true rfl) hn)
  have i71 := iz71 (Nat.le_trans (Nat.le_of_ble_eq_true rfl) hn)
  have i102 := iz102 (Nat.le_trans (Nat.le_of_ble_eq_true rfl) hn)
  refine k_of (by decide) rfl rfl rfl (ls := [(2, 102), (0, a1), (0, a2), (0, a3), (1, a4), (9, 0), (0, a6)]) rfl ?_
  refine x_aload_n 0 dX22_make_0 rfl rfl rfl rfl rfl ?_
  refine y_getF 68 9 (c := 20) (z := 2) dX22_make_1 i102 rfl in_X22 q1414 rfl rfl rfl fn_102_9 (Nat.le_trans (Nat.le_of_ble_eq_true rfl) hn) rfl ?_
  refine x_aload_n 0 dX22_make_4 rfl rfl rfl rfl rfl ?_
  refine y_getF 64 8 (c := 20) (z := 70) dX22_make_5 i102 rfl in_X22 q1413 rfl rfl rfl fn_102_8 (Nat.le_trans (Nat.le_of_ble_eq_true rfl) hn) rfl ?_
  refine y_getF 280 0 (c := 16) (z := 71) dX22_make_8 i70 rfl in_X17 q1160 rfl rfl rfl fn_70_0 (Nat.le_trans (Nat.le_of_ble_eq_true rfl) hn) rfl ?_
  refine x_iload_n 1 dX22_make_11 rfl rfl rfl ?_
  obtain ⟨e1, h⟩ := h
  refine y_lald (z := w 71 a1) dX22_make_12 ⟨200, i71, e1⟩ rfl rfl ?_
  refine x_lload 4 dX22_make_13 rfl rfl ?_
  refine x_lc_lt (q := 19) (t := 23) 7 dX22_make_15 dX22_make_16 rfl rfl (b_ite h (fun hc h => ?_) (fun hc h => ?_))
  · refine x_iconst 0 (z := 0) dX22_make_23 rfl (by decide) rfl ?_
    exact x_fg (fgk (fgk (fgk (fgk (fgk (fgk (fgk (fg0)))))))) h
  · refine x_iconst 1 (z := 1) dX22_make_19 rfl (by decide) rfl ?_
    refine x_goto 4 (q := 24) dX22_make_20 rfl ?_
    exact x_fg (fgk (fgk (fgk (fgk (fgk (fgk (fgk (fg0)))))))) h
theorem sX22_make_24 {d n : Nat} {w : bW} {Q : Int → bW → Prop} {X : String → bW → Prop} (hn : 143 ≤ n) (a1 : Int) (a2 : Int) (a3 : Int) (a4 : Int) (a6 : Int) (s0 : Int) (h : b_K d mX2_want [(2, 2), (0, s0), (0, 5)] n w (fun r1 w2 => (0 ≤ a2 ∧ a2 < 200) ∧ ((0 ≤ a2 ∧ a2 < 200) ∧ ((0 ≤ a2 ∧ a2 < 200) ∧ ((0 ≤ a2 ∧ a2 < 200) ∧ ((0 ≤ a2 ∧ a2 < 200) ∧ (b_K d mX22_move [(2, 102), (0, a1), (0, a2), (1, a4)] n (b_up (b_up (b_up (b_up (b_up w2 72 a2 1) 73 a2 a3) 74 a2 0) 75 a2 0) 71 a2 0) (fun r8 w9 => (0 ≤ a3 ∧ a3 < 2000) ∧ (b_K d mX22_pay [(2, 102), (0, b_i (257 + (w9 59 a3)))] n w9 (fun r11 w12 => b_K d mX22_store [(2, 102), (0, a2), (0, a6), (0, w12 59 a3)] n w12 (fun r13 w14 => Q 0 w14) X) X)) X)))))) X) : LX22_make_24 d n Q X a1 a2 a3 a4 a6 s0 w := by
  have i2 := iz2 (Nat.le_trans (Nat.le_of_ble_eq_true rfl) hn)
  have i53 := iz53 (Nat.le_trans (Nat.le_of_ble_eq_true rfl) hn)
  have i59 := iz59 (Nat.le_trans (Nat.le_of_ble_eq_true rfl) hn)
  have i70 := iz70 (Nat.le_trans (Nat.le_of_ble_eq_true rfl) hn)
  have i71 := iz71 (Nat.le_trans (Nat.le_of_ble_eq_true rfl) hn)
  have i72 := iz72 (Nat.le_trans (Nat.le_of_ble_eq_true rfl) hn)
  have i73 := iz73 (Nat.le_trans (Nat.le_of_ble_eq_true rfl) hn)
  have i74 := iz74 (Nat.le_trans (Nat.le_of_ble_eq_true rfl) hn)
  have i75 := iz75 (Nat.le_trans (Nat.le_of_ble_eq_true rfl) hn)
  have i102 := iz102 (Nat.le_trans (Nat.le_of_ble_eq_true rfl) hn)
  refine x_iconst 5 (z := 5) dX22_make_24 rfl (by decide) rfl ?_
  refine y_Vv 256 (M := mX2_want) (As := [(0, s0), (0, 5)]) (st := []) dX22_make_25 i2 rfl q2507 q1954 q1955 q359 q1956 rfl hmX2_want rfl rfl rfl rfl rfl rfl rfl (k_mono h (fun r1 w2 h => ?_))
  refine x_aload_n 0 dX22_make_28 rfl rfl rfl rfl rfl ?_
  refine y_getF 64 8 (c := 20) (z := 70) dX22_make_29 i102 rfl in_X22 q1413 rfl rfl rfl fn_102_8 (Nat.le_trans (Nat.le_of_ble_eq_true rfl) hn) rfl ?_
  refine y_getF 318 1 (c := 16) (z := 72) dX22_make_32 i70 rfl in_X17 q1163 rfl rfl rfl fn_70_1 (Nat.le_trans (Nat.le_of_ble_eq_true rfl) hn) rfl ?_
  refine x_iload_n 2 dX22_make_35 rfl rfl rfl ?_
  refine x_iconst 1 (z := 1) dX22_make_36 rfl (by decide) rfl ?_
  obtain ⟨e3, h⟩ := h
  refine y_zast (x' := 1) dX22_make_37 ⟨200, i72, e3⟩ (by decide) rfl ?_
  refine x_aload_n 0 dX22_make_38 rfl rfl rfl rfl rfl ?_
  refine y_getF 64 8 (c := 20) (z := 70) dX22_make_39 i102 rfl in_X22 q1413 rfl rfl rfl fn_102_8 (Nat.le_trans (Nat.le_of_ble_eq_true rfl) hn) rfl ?_
  refine y_getF 322 2 (c := 16) (z := 73) dX22_make_42 i70 rfl in_X17 q1167 rfl rfl rfl fn_70_2 (Nat.le_trans (Nat.le_of_ble_eq_true rfl) hn) rfl ?_
  refine x_iload_n 2 dX22_make_45 rfl rfl rfl ?_
  refine x_iload_n 3 dX22_make_46 rfl rfl rfl ?_
  obtain ⟨e4, h⟩ := h
  refine y_iast (x' := a3) dX22_make_47 ⟨200, i73, e4⟩ rfl rfl ?_
  refine x_aload_n 0 dX22_make_48 rfl rfl rfl rfl rfl ?_
  refine y_getF 64 8 (c := 20) (z := 70) dX22_make_49 i102 rfl in_X22 q1413 rfl rfl rfl fn_102_8 (Nat.le_trans (Nat.le_of_ble_eq_true rfl) hn) rfl ?_
  refine y_getF 332 3 (c := 16) (z := 74) dX22_make_52 i70 rfl in_X17 q1171 rfl rfl rfl fn_70_3 (Nat.le_trans (Nat.le_of_ble_eq_true rfl) hn) rfl ?_
  refine x_iload_n 2 dX22_make_55 rfl rfl rfl ?_
  refine x_iconst 0 (z := 0) dX22_make_56 rfl (by decide) rfl ?_
  obtain ⟨e5, h⟩ := h
  refine y_iast (x' := 0) dX22_make_57 ⟨200, i74, e5⟩ rfl rfl ?_
  refine x_aload_n 0 dX22_make_58 rfl rfl rfl rfl rfl ?_
  refine y_getF 64 8 (c := 20) (z := 70) dX22_make_59 i102 rfl in_X22 q1413 rfl rfl rfl fn_102_8 (Nat.le_trans (Nat.le_of_ble_eq_true rfl) hn) rfl ?_
  refine y_getF 398 4 (c := 16) (z := 75) dX22_make_62 i70 rfl in_X17 q1174 rfl rfl rfl fn_70_4 (Nat.le_trans (Nat.le_of_ble_eq_true rfl) hn) rfl ?_
  refine x_iload_n 2 dX22_make_65 rfl rfl rfl ?_
  refine x_iconst 0 (z := 0) dX22_make_66 rfl (by decide) rfl ?_
  obtain ⟨e6, h⟩ := h
  refine y_iast (x' := 0) dX22_make_67 ⟨200, i75, e6⟩ rfl rfl ?_
  refine x_aload_n 0 dX22_make_68 rfl rfl rfl rfl rfl ?_
  refine y_getF 64 8 (c := 20) (z := 70) dX22_make_69 i102 rfl in_X22 q1413 rfl rfl rfl fn_102_8 (Nat.le_trans (Nat.le_of_ble_eq_true rfl) hn) rfl ?_
  refine y_getF 280 0 (c := 16) (z := 71) dX22_make_72 i70 rfl in_X17 q1160 rfl rfl rfl fn_70_0 (Nat.le_trans (Nat.le_of_ble_eq_true rfl) hn) rfl ?_
  refine x_iload_n 2 dX22_make_75 rfl rfl rfl ?_
  refine x_lconst 0 (z := 0) dX22_make_76 rfl (by decide) rfl ?_
  obtain ⟨e7, h⟩ := h
  refine y_last (x' := 0) dX22_make_77 ⟨200, i71, e7⟩ rfl rfl ?_
  refine x_aload_n 0 dX22_make_78 rfl rfl rfl rfl rfl ?_
  refine x_iload_n 1 dX22_make_79 rfl rfl rfl ?_
  refine x_iload_n 2 dX22_make_80 rfl rfl rfl ?_
  refine x_lload 4 dX22_make_81 rfl rfl ?_
  refine y_Vv 326 (M := mX22_move) (As := [(0, a1), (0, a2), (1, a4)]) (st := []) dX22_make_83 i102 rfl q2519 q2521 qs102 q389 q2522 rfl hmX22_move rfl rfl rfl rfl rfl rfl rfl (k_mono h (fun r8 w9 h => ?_))
  refine x_aload_n 0 dX22_make_86 rfl rfl rfl rfl rfl ?_
  refine x_sipush 257 (z := 257) dX22_make_87 rfl (by decide) rfl ?_
  refine x_aload_n 0 dX22_make_90 rfl rfl rfl rfl rfl ?_
  refine y_getF 44 3 (c := 20) (z := 53) dX22_make_91 i102 rfl in_X22 q1408 rfl rfl rfl fn_102_3 (Nat.le_trans (Nat.le_of_ble_eq_true rfl) hn) rfl ?_
  refine y_getF 413 5 (c := 14) (z := 59) dX22_make_94 i53 rfl in_X15 q1036 rfl rfl rfl fn_53_5 (Nat.le_trans (Nat.le_of_ble_eq_true rfl) hn) rfl ?_
  refine x_iload_n 3 dX22_make_97 rfl rfl rfl ?_
  obtain ⟨e10, h⟩ := h
  refine y_iald (z := w9 59 a3) dX22_make_98 ⟨2000, i59, e10⟩ rfl rfl ?_
  refine x_iadd dX22_make_99 rfl ?_
  refine y_Vv 401 (M := mX22_pay) (As := [(0, b_i (257 + (w9 59 a3)))]) (st := []) dX22_make_100 i102 rfl q2523 q2525 qs103 q389 q2526 rfl hmX22_pay rfl rfl rfl rfl rfl rfl rfl (k_mono h (fun r11 w12 h => ?_))
  refine x_aload_n 0 dX22_make_103 rfl rfl rfl rfl rfl ?_
  refine x_iload_n 2 dX22_make_104 rfl rfl rfl ?_
  refine x_iload 6 dX22_make_105 rfl rfl ?_
  refine x_aload_n 0 dX22_make_107 rfl rfl rfl rfl rfl ?_
  refine y_getF 44 3 (c := 20) (z := 53) dX22_make_108 i102 rfl in_X22 q1408 rfl rfl rfl fn_102_3 (Nat.le_trans (Nat.le_of_ble_eq_true rfl) hn) rfl ?_
  refine y_getF 413 5 (c := 14) (z := 59) dX22_make_111 i53 rfl in_X15 q1036 rfl rfl rfl fn_53_5 (Nat.le_trans (Nat.le_of_ble_eq_true rfl) hn) rfl ?_
  refine x_iload_n 3 dX22_make_114 rfl rfl rfl ?_
  refine y_iald (z := w12 59 a3) dX22_make_115 ⟨2000, i59, e10⟩ rfl rfl ?_
  refine y_Vv 373 (M := mX22_store) (As := [(0, a2), (0, a6), (0, w12 59 a3)]) (st := []) dX22_make_116 i102 rfl q2528 q2530 qs104 q389 q2531 rfl hmX22_store rfl rfl rfl rfl rfl rfl rfl (k_mono h (fun r13 w14 h => ?_))
  exact y_vret dX22_make_119 rfl h
theorem rX22_move {d n : Nat} {w : bW} {Q : Int → bW → Prop} {X : String → bW → Prop} (hn : 143 ≤ n) (a1 : Int) (a2 : Int) (a3 : Int) (h : (0 ≤ a1 ∧ a1 < 200) ∧ ((0 ≤ a2 ∧ a2 < 200) ∧ (Q 0 (b_up (b_up w 71 a1 (b_l ((w 71 a1) - a3))) 71 a2 (b_l (((b_up w 71 a1 (b_l ((w 71 a1) - a3))) 71 a2) + a3)))))) : b_K (d + 1) mX22_move [(2, 102), (0, a1), (0, a2), (1, a3)] n w Q X := by
  have i70 := iz70 (Nat.le_trans (Nat.le_of_ble_eq_true rfl) hn)
  have i71 := iz71 (Nat.le_trans (Nat.le_of_ble_eq_true rfl) hn)
  have i102 := iz102 (Nat.le_trans (Nat.le_of_ble_eq_true rfl) hn)
  refine k_of (by decide) rfl rfl rfl (ls := [(2, 102), (0, a1), (0, a2), (1, a3), (9, 0)]) rfl ?_
  refine x_aload_n 0 dX22_move_0 rfl rfl rfl rfl rfl ?_
  refine y_getF 64 8 (c := 20) (z := 70) dX22_move_1 i102 rfl in_X22 q1413 rfl rfl rfl fn_102_8 (Nat.le_trans (Nat.le_of_ble_eq_true rfl) hn) rfl ?_
  refine y_getF 280 0 (c := 16) (z := 71) dX22_move_4 i70 rfl in_X17 q1160 rfl rfl rfl fn_70_0 (Nat.le_trans (Nat.le_of_ble_eq_true rfl) hn) rfl ?_
  refine x_iload_n 1 dX22_move_7 rfl rfl rfl ?_
  refine x_dup2 dX22_move_8 rfl rfl rfl ?_
  obtain ⟨e1, h⟩ := h
  refine y_lald (z := w 71 a1) dX22_move_9 ⟨200, i71, e1⟩ rfl rfl ?_
  refine x_lload_n 3 dX22_move_10 rfl rfl rfl ?_
  refine x_lsub dX22_move_11 rfl ?_
  refine y_last (x' := b_l ((w 71 a1) - a3)) dX22_move_12 ⟨200, i71, e1⟩ rfl rfl ?_
  refine x_aload_n 0 dX22_move_13 rfl rfl rfl rfl rfl ?_
  refine y_getF 64 8 (c := 20) (z := 70) dX22_move_14 i102 rfl in_X22 q1413 rfl rfl rfl fn_102_8 (Nat.le_trans (Nat.le_of_ble_eq_true rfl) hn) rfl ?_
  refine y_getF 280 0 (c := 16) (z := 71) dX22_move_17 i70 rfl in_X17 q1160 rfl rfl rfl fn_70_0 (Nat.le_trans (Nat.le_of_ble_eq_true rfl) hn) rfl ?_
  refine x_iload_n 2 dX22_move_20 rfl rfl rfl ?_
  refine x_dup2 dX22_move_21 rfl rfl rfl ?_
  obtain ⟨e2, h⟩ := h
  refine y_lald (z := (b_up w 71 a1 (b_l ((w 71 a1) - a3))) 71 a2) dX22_move_22 ⟨200, i71, e2⟩ rfl rfl ?_
  refine x_lload_n 3 dX22_move_23 rfl rfl rfl ?_
  refine x_ladd dX22_move_24 rfl ?_
  refine y_last (x' := b_l (((b_up w 71 a1 (b_l ((w 71 a1) - a3))) 71 a2) + a3)) dX22_move_25 ⟨200, i71, e2⟩ rfl rfl ?_
  exact y_vret dX22_move_26 rfl h
abbrev LX22_pay_28 (d n : Nat) (Q : Int → bW → Prop) (X : String → bW → Prop) (a1 : Int) (s0 : Int) (w : bW) : Prop := b_Y (d + 1) mX22_pay n Q X 28 [(2, 102), (0, a1), (9, 0), (9, 0)] [(0, s0), (2, 2)] w
theorem rX22_pay {d n : Nat} {w : bW} {Q : Int → bW → Prop} {X : String → bW → Prop} (hn : 143 ≤ n) (a1 : Int) (h : b_is n (w 102 18) 0 22 6 ∧ (b_is n (w 102 17) 0 21 7 ∧ (if w (w 102 17) 3 < b_i ((w (w 102 18) 4) + a1) then (LX22_pay_28 d n Q X a1 0 w) else (LX22_pay_28 d n Q X a1 1 w)))) : b_K (d + 1) mX22_pay [(2, 102), (0, a1)] n w Q X := by
  have i102 := iz102 (Nat.le_trans (Nat.le_of_ble_eq_true rfl) hn)
  refine k_of (by decide) rfl rfl rfl (ls := [(2, 102), (0, a1), (9, 0), (9, 0)]) rfl ?_
  refine x_aload_n 0 dX22_pay_0 rfl rfl rfl rfl rfl ?_
  refine y_getF 68 9 (c := 20) (z := 2) dX22_pay_1 i102 rfl in_X22 q1414 rfl rfl rfl fn_102_9 (Nat.le_trans (Nat.le_of_ble_eq_true rfl) hn) rfl ?_
  refine x_aload_n 0 dX22_pay_4 rfl rfl rfl rfl rfl ?_
  refine y_get 153 18 (c := 20) (z := w 102 18) dX22_pay_5 i102 rfl in_X22 q1426 rfl rfl rfl rfl rfl ?_
  obtain ⟨e1, h⟩ := h
  refine y_get 404 4 (c := 22) (z := w (w 102 18) 4) dX22_pay_8 e1 rfl in_X24 q1549 rfl rfl rfl rfl rfl ?_
  refine x_iload_n 1 dX22_pay_11 rfl rfl rfl ?_
  refine x_iadd dX22_pay_12 rfl ?_
  refine x_aload_n 0 dX22_pay_13 rfl rfl rfl rfl rfl ?_
  refine y_get 149 17 (c := 20) (z := w 102 17) dX22_pay_14 i102 rfl in_X22 q1425 rfl rfl rfl rfl rfl ?_
  obtain ⟨e2, h⟩ := h
  refine y_get 407 3 (c := 21) (z := w (w 102 17) 3) dX22_pay_17 e2 rfl in_X23 q1508 rfl rfl rfl rfl rfl ?_
  refine x_icmp_gt (t := 27) 7 dX22_pay_20 rfl rfl (b_ite h (fun hc h => ?_) (fun hc h => ?_))
  · refine x_iconst 0 (z := 0) dX22_pay_27 rfl (by decide) rfl ?_
    exact x_fg (fgk (fgk (fgk (fgk (fg0))))) h
  · refine x_iconst 1 (z := 1) dX22_pay_23 rfl (by decide) rfl ?_
    refine x_goto 4 (q := 28) dX22_pay_24 rfl ?_
    exact x_fg (fgk (fgk (fgk (fgk (fg0))))) h
theorem sX22_pay_28 {d n : Nat} {w : bW} {Q : Int → bW → Prop} {X : String → bW → Prop} (hn : 143 ≤ n) (a1 : Int) (s0 : Int) (h : b_K d mX2_want [(2, 2), (0, s0), (0, 9)] n w (fun r1 w2 => (0 ≤ w2 102 16 ∧ w2 102 16 < 200) ∧ (if w2 71 (w2 102 16) < b_l (250 * a1) then (b_K d mX2_want [(2, 2), (0, 0), (0, 5)] n w2 (fun r4 w5 => (0 ≤ w5 102 16 ∧ w5 102 16 < 200) ∧ (b_is n (w5 102 18) 0 22 6 ∧ (Q 0 (b_up (b_up (b_up w5 71 (w5 102 16) (b_l ((w5 71 (w5 102 16)) - (b_l (250 * a1))))) 70 10 (b_l ((w5 70 10) + (b_l (250 * a1))))) (w5 102 18) 4 (b_i (((b_up (b_up w5 71 (w5 102 16) (b_l ((w5 71 (w5 102 16)) - (b_l (250 * a1))))) 70 10 (b_l ((w5 70 10) + (b_l (250 * a1))))) (w5 102 18) 4) + a1)))))) X) else (b_K d mX2_want [(2, 2), (0, 1), (0, 5)] n w2 (fun r8 w9 => (0 ≤ w9 102 16 ∧ w9 102 16 < 200) ∧ (b_is n (w9 102 18) 0 22 6 ∧ (Q 0 (b_up (b_up (b_up w9 71 (w9 102 16) (b_l ((w9 71 (w9 102 16)) - (b_l (250 * a1))))) 70 10 (b_l ((w9 70 10) + (b_l (250 * a1))))) (w9 102 18) 4 (b_i (((b_up (b_up w9 71 (w9 102 16) (b_l ((w9 71 (w9 102 16)) - (b_l (250 * a1))))) 70 10 (b_l ((w9 70 10) + (b_l (250 * a1))))) (w9 102 18) 4) + a1)))))) X))) X) : LX22_pay_28 d n Q X a1 s0 w := by
  have i2 := iz2 (Nat.le_trans (Nat.le_of_ble_eq_true rfl) hn)
  have i70 := iz70 (Nat.le_trans (Nat.le_of_ble_eq_true rfl) hn)
  have i71 := iz71 (Nat.le_trans (Nat.le_of_ble_eq_true rfl) hn)
  have i102 := iz102 (Nat.le_trans (Nat.le_of_ble_eq_true rfl) hn)
  refine x_bipush 9 (z := 9) dX22_pay_28 rfl (by decide) rfl ?_
  refine y_Vv 256 (M := mX2_want) (As := [(0, s0), (0, 9)]) (st := []) dX22_pay_30 i2 rfl q2507 q1954 q1955 q359 q1956 rfl hmX2_want rfl rfl rfl rfl rfl rfl rfl (k_mono h (fun r1 w2 h => ?_))
  refine x_ldc2 408 (x := 250) dX22_pay_33 q2527 rfl (by decide) rfl ?_
  refine x_iload_n 1 dX22_pay_36 rfl rfl rfl ?_
  refine x_i2l dX22_pay_37 rfl ?_
  refine x_lmul dX22_pay_38 rfl ?_
  refine x_lstore_n 2 (ls' := [(2, 102), (0, a1), (1, b_l (250 * a1)), (9, 0)]) dX22_pay_39 rfl rfl rfl rfl ?_
  refine x_aload_n 0 dX22_pay_40 rfl rfl rfl rfl rfl ?_
  refine y_getF 68 9 (c := 20) (z := 2) dX22_pay_41 i102 rfl in_X22 q1414 rfl rfl rfl fn_102_9 (Nat.le_trans (Nat.le_of_ble_eq_true rfl) hn) rfl ?_
  refine x_aload_n 0 dX22_pay_44 rfl rfl rfl rfl rfl ?_
  refine y_getF 64 8 (c := 20) (z := 70) dX22_pay_45 i102 rfl in_X22 q1413 rfl rfl rfl fn_102_8 (Nat.le_trans (Nat.le_of_ble_eq_true rfl) hn) rfl ?_
  refine y_getF 280 0 (c := 16) (z := 71) dX22_pay_48 i70 rfl in_X17 q1160 rfl rfl rfl fn_70_0 (Nat.le_trans (Nat.le_of_ble_eq_true rfl) hn) rfl ?_
  refine x_aload_n 0 dX22_pay_51 rfl rfl rfl rfl rfl ?_
  refine y_get 146 16 (c := 20) (z := w2 102 16) dX22_pay_52 i102 rfl in_X22 q1424 rfl rfl rfl rfl rfl ?_
  obtain ⟨e3, h⟩ := h
  refine y_lald (z := w2 71 (w2 102 16)) dX22_pay_55 ⟨200, i71, e3⟩ rfl rfl ?_
  refine x_lload_n 2 dX22_pay_56 rfl rfl rfl ?_
  refine x_lc_lt (q := 61) (t := 65) 7 dX22_pay_57 dX22_pay_58 rfl rfl (b_ite h (fun hc h => ?_) (fun hc h => ?_))
  · refine x_iconst 0 (z := 0) dX22_pay_65 rfl (by decide) rfl ?_
    refine x_iconst 5 (z := 5) dX22_pay_66 rfl (by decide) rfl ?_
    refine y_Vv 256 (M := mX2_want) (As := [(0, 0), (0, 5)]) (st := []) dX22_pay_67 i2 rfl q2507 q1954 q1955 q359 q1956 rfl hmX2_want rfl rfl rfl rfl rfl rfl rfl (k_mono h (fun r4 w5 h => ?_))
    refine x_aload_n 0 dX22_pay_70 rfl rfl rfl rfl rfl ?_
    refine y_getF 64 8 (c := 20) (z := 70) dX22_pay_71 i102 rfl in_X22 q1413 rfl rfl rfl fn_102_8 (Nat.le_trans (Nat.le_of_ble_eq_true rfl) hn) rfl ?_
    refine y_getF 280 0 (c := 16) (z := 71) dX22_pay_74 i70 rfl in_X17 q1160 rfl rfl rfl fn_70_0 (Nat.le_trans (Nat.le_of_ble_eq_true rfl) hn) rfl ?_
    refine x_aload_n 0 dX22_pay_77 rfl rfl rfl rfl rfl ?_
    refine y_get 146 16 (c := 20) (z := w5 102 16) dX22_pay_78 i102 rfl in_X22 q1424 rfl rfl rfl rfl rfl ?_
    refine x_dup2 dX22_pay_81 rfl rfl rfl ?_
    obtain ⟨e6, h⟩ := h
    refine y_lald (z := w5 71 (w5 102 16)) dX22_pay_82 ⟨200, i71, e6⟩ rfl rfl ?_
    refine x_lload_n 2 dX22_pay_83 rfl rfl rfl ?_
    refine x_lsub dX22_pay_84 rfl ?_
    refine y_last (x' := b_l ((w5 71 (w5 102 16)) - (b_l (250 * a1)))) dX22_pay_85 ⟨200, i71, e6⟩ rfl rfl ?_
    refine x_aload_n 0 dX22_pay_86 rfl rfl rfl rfl rfl ?_
    refine y_getF 64 8 (c := 20) (z := 70) dX22_pay_87 i102 rfl in_X22 q1413 rfl rfl rfl fn_102_8 (Nat.le_trans (Nat.le_of_ble_eq_true rfl) hn) rfl ?_
    refine x_dup dX22_pay_90 rfl rfl ?_
    refine y_get 410 10 (c := 16) (z := w5 70 10) dX22_pay_91 i70 rfl in_X17 q1188 rfl rfl rfl rfl rfl ?_
    refine x_lload_n 2 dX22_pay_94 rfl rfl rfl ?_
    refine x_ladd dX22_pay_95 rfl ?_
    refine x_put 410 10 (c := 16) dX22_pay_96 i70 rfl in_X17 tyX17_ok nmX17 q1188 rfl rfl rfl (Or.inl rfl) (Or.inr (Or.inr (Or.inl ⟨rfl, rfl⟩))) rfl ?_
    refine x_aload_n 0 dX22_pay_99 rfl rfl rfl rfl rfl ?_
    refine y_get 153 18 (c := 20) (z := w5 102 18) dX22_pay_100 i102 rfl in_X22 q1426 rfl rfl rfl rfl rfl ?_
    refine x_dup dX22_pay_103 rfl rfl ?_
    obtain ⟨e7, h⟩ := h
    refine y_get 404 4 (c := 22) (z := (b_up (b_up w5 71 (w5 102 16) (b_l ((w5 71 (w5 102 16)) - (b_l (250 * a1))))) 70 10 (b_l ((w5 70 10) + (b_l (250 * a1))))) (w5 102 18) 4) dX22_pay_104 e7 rfl in_X24 q1549 rfl rfl rfl rfl rfl ?_
    refine x_iload_n 1 dX22_pay_107 rfl rfl rfl ?_
    refine x_iadd dX22_pay_108 rfl ?_
    refine x_put 404 4 (c := 22) dX22_pay_109 e7 rfl in_X24 tyX24_ok nmX24 q1549 rfl rfl rfl (Or.inl rfl) (Or.inl ⟨rfl, rfl⟩) rfl ?_
    exact y_vret dX22_pay_112 rfl h
  · refine x_iconst 1 (z := 1) dX22_pay_61 rfl (by decide) rfl ?_
    refine x_goto 4 (q := 66) dX22_pay_62 rfl ?_
    refine x_iconst 5 (z := 5) dX22_pay_66 rfl (by decide) rfl ?_
    refine y_Vv 256 (M := mX2_want) (As := [(0, 1), (0, 5)]) (st := []) dX22_pay_67 i2 rfl q2507 q1954 q1955 q359 q1956 rfl hmX2_want rfl rfl rfl rfl rfl rfl rfl (k_mono h (fun r8 w9 h => ?_))
    refine x_aload_n 0 dX22_pay_70 rfl rfl rfl rfl rfl ?_
    refine y_getF 64 8 (c := 20) (z := 70) dX22_pay_71 i102 rfl in_X22 q1413 rfl rfl rfl fn_102_8 (Nat.le_trans (Nat.le_of_ble_eq_true rfl) hn) rfl ?_
    refine y_getF 280 0 (c := 16) (z := 71) dX22_pay_74 i70 rfl in_X17 q1160 rfl rfl rfl fn_70_0 (Nat.le_trans (Nat.le_of_ble_eq_true rfl) hn) rfl ?_
    refine x_aload_n 0 dX22_pay_77 rfl rfl rfl rfl rfl ?_
    refine y_get 146 16 (c := 20) (z := w9 102 16) dX22_pay_78 i102 rfl in_X22 q1424 rfl rfl rfl rfl rfl ?_
    refine x_dup2 dX22_pay_81 rfl rfl rfl ?_
    obtain ⟨e10, h⟩ := h
    refine y_lald (z := w9 71 (w9 102 16)) dX22_pay_82 ⟨200, i71, e10⟩ rfl rfl ?_
    refine x_lload_n 2 dX22_pay_83 rfl rfl rfl ?_
    refine x_lsub dX22_pay_84 rfl ?_
    refine y_last (x' := b_l ((w9 71 (w9 102 16)) - (b_l (250 * a1)))) dX22_pay_85 ⟨200, i71, e10⟩ rfl rfl ?_
    refine x_aload_n 0 dX22_pay_86 rfl rfl rfl rfl rfl ?_
    refine y_getF 64 8 (c := 20) (z := 70) dX22_pay_87 i102 rfl in_X22 q1413 rfl rfl rfl fn_102_8 (Nat.le_trans (Nat.le_of_ble_eq_true rfl) hn) rfl ?_
    refine x_dup dX22_pay_90 rfl rfl ?_
    refine y_get 410 10 (c := 16) (z := w9 70 10) dX22_pay_91 i70 rfl in_X17 q1188 rfl rfl rfl rfl rfl ?_
    refine x_lload_n 2 dX22_pay_94 rfl rfl rfl ?_
    refine x_ladd dX22_pay_95 rfl ?_
    refine x_put 410 10 (c := 16) dX22_pay_96 i70 rfl in_X17 tyX17_ok nmX17 q1188 rfl rfl rfl (Or.inl rfl) (Or.inr (Or.inr (Or.inl ⟨rfl, rfl⟩))) rfl ?_
    refine x_aload_n 0 dX22_pay_99 rfl rfl rfl rfl rfl ?_
    refine y_get 153 18 (c := 20) (z := w9 102 18) dX22_pay_100 i102 rfl in_X22 q1426 rfl rfl rfl rfl rfl ?_
    refine x_dup dX22_pay_103 rfl rfl ?_
    obtain ⟨e11, h⟩ := h
    refine y_get 404 4 (c := 22) (z := (b_up (b_up w9 71 (w9 102 16) (b_l ((w9 71 (w9 102 16)) - (b_l (250 * a1))))) 70 10 (b_l ((w9 70 10) + (b_l (250 * a1))))) (w9 102 18) 4) dX22_pay_104 e11 rfl in_X24 q1549 rfl rfl rfl rfl rfl ?_
    refine x_iload_n 1 dX22_pay_107 rfl rfl rfl ?_
    refine x_iadd dX22_pay_108 rfl ?_
    refine x_put 404 4 (c := 22) dX22_pay_109 e11 rfl in_X24 tyX24_ok nmX24 q1549 rfl rfl rfl (Or.inl rfl) (Or.inl ⟨rfl, rfl⟩) rfl ?_
    exact y_vret dX22_pay_112 rfl h
abbrev LX22_store_72 (d n : Nat) (Q : Int → bW → Prop) (X : String → bW → Prop) (a1 : Int) (a2 : Int) (a5 : Int) (s0 : Int) (w : bW) : Prop := b_Y (d + 1) mX22_store n Q X 72 [(2, 102), (0, a1), (0, a2), (9, 0), (9, 0), (1, a5), (9, 0), (9, 0)] [(0, s0), (2, 2)] w
theorem rX22_store {d n : Nat} {w : bW} {Q : Int → bW → Prop} {X : String → bW → Prop} (hn : 143 ≤ n) (a1 : Int) (a2 : Int) (a3 : Int) (h : (0 ≤ a1 ∧ a1 < 200) ∧ (if w 74 a1 ≠ 0 then (b_K d mX8_length [(2, 27), (0, w 74 a1)] n w (fun r2 w3 => b_K d mX8_length [(2, 27), (0, a2)] n w3 (fun r4 w5 => if 60000 < b_l ((b_l ((b_l ((w 70 8) - r2)) + r4)) + a3) then (LX22_store_72 d n Q X a1 a2 (b_l ((b_l ((b_l ((w 70 8) - r2)) + r4)) + a3)) 0 w5) else (LX22_store_72 d n Q X a1 a2 (b_l ((b_l ((b_l ((w 70 8) - r2)) + r4)) + a3)) 1 w5)) X) X) else (b_K d mX8_length [(2, 27), (0, a2)] n w (fun r6 w7 => if 60000 < b_l ((b_l ((b_l ((w 70 8) - 0)) + r6)) + a3) then (LX22_store_72 d n Q X a1 a2 (b_l ((b_l ((b_l ((w 70 8) - 0)) + r6)) + a3)) 0 w7) else (LX22_store_72 d n Q X a1 a2 (b_l ((b_l ((b_l ((w 70 8) - 0)) + r6)) + a3)) 1 w7)) X))) : b_K (d + 1) mX22_store [(2, 102), (0, a1), (0, a2), (0, a3)] n w Q X := by
  have i27 := iz27 (Nat.le_trans (Nat.le_of_ble_eq_true rfl) hn)
  have i70 := iz70 (Nat.le_trans (Nat.le_of_ble_eq_true rfl) hn)
  have i74 := iz74 (Nat.le_trans (Nat.le_of_ble_eq_true rfl) hn)
  have i102 := iz102 (Nat.le_trans (Nat.le_of_ble_eq_true rfl) hn)
  refine k_of (by decide) rfl rfl rfl (ls := [(2, 102), (0, a1), (0, a2), (0, a3), (9, 0), (9, 0), (9, 0), (9, 0)]) rfl ?_
  refine x_aload_n 0 dX22_store_0 rfl rfl rfl rfl rfl ?_
  refine y_getF 64 8 (c := 20) (z := 70) dX22_store_1 i102 rfl in_X22 q1413 rfl rfl rfl fn_102_8 (Nat.le_trans (Nat.le_of_ble_eq_true rfl) hn) rfl ?_
  refine y_getF 332 3 (c := 16) (z := 74) dX22_store_4 i70 rfl in_X17 q1171 rfl rfl rfl fn_70_3 (Nat.le_trans (Nat.le_of_ble_eq_true rfl) hn) rfl ?_
  refine x_iload_n 1 dX22_store_7 rfl rfl rfl ?_
  obtain ⟨e1, h⟩ := h
  refine y_iald (z := w 74 a1) dX22_store_8 ⟨200, i74, e1⟩ rfl rfl ?_
  refine x_istore 4 (ls' := [(2, 102), (0, a1), (0, a2), (0, a3), (0, w 74 a1), (9, 0), (9, 0), (9, 0)]) dX22_store_9 rfl rfl rfl ?_
  refine x_aload_n 0 dX22_store_11 rfl rfl rfl rfl rfl ?_
  refine y_getF 64 8 (c := 20) (z := 70) dX22_store_12 i102 rfl in_X22 q1413 rfl rfl rfl fn_102_8 (Nat.le_trans (Nat.le_of_ble_eq_true rfl) hn) rfl ?_
  refine y_get 393 8 (c := 16) (z := w 70 8) dX22_store_15 i70 rfl in_X17 q1184 rfl rfl rfl rfl rfl ?_
  refine x_i2l dX22_store_18 rfl ?_
  refine x_iload 4 dX22_store_19 rfl rfl ?_
  refine x_if_ne (t := 28) 7 dX22_store_21 rfl rfl (b_ite h (fun hc h => ?_) (fun hc h => ?_))
  · refine x_aload_n 0 dX22_store_28 rfl rfl rfl rfl rfl ?_
    refine y_getF 56 6 (c := 20) (z := 27) dX22_store_29 i102 rfl in_X22 q1411 rfl rfl rfl fn_102_6 (Nat.le_trans (Nat.le_of_ble_eq_true rfl) hn) rfl ?_
    refine x_iload 4 dX22_store_32 rfl rfl ?_
    refine y_Vi 214 (M := mX8_length) (As := [(0, w 74 a1)]) (st := [(1, w 70 8)]) dX22_store_34 i27 rfl q2532 q2028 q2029 q375 q2030 rfl hmX8_length rfl rfl rfl rfl rfl rfl rfl rfl (k_mono h (fun r2 w3 h => ?_))
    refine x_i2l dX22_store_37 rfl ?_
    refine x_lsub dX22_store_38 rfl ?_
    refine x_aload_n 0 dX22_store_39 rfl rfl rfl rfl rfl ?_
    refine y_getF 56 6 (c := 20) (z := 27) dX22_store_40 i102 rfl in_X22 q1411 rfl rfl rfl fn_102_6 (Nat.le_trans (Nat.le_of_ble_eq_true rfl) hn) rfl ?_
    refine x_iload_n 2 dX22_store_43 rfl rfl rfl ?_
    refine y_Vi 214 (M := mX8_length) (As := [(0, a2)]) (st := [(1, b_l ((w 70 8) - r2))]) dX22_store_44 i27 rfl q2532 q2028 q2029 q375 q2030 rfl hmX8_length rfl rfl rfl rfl rfl rfl rfl rfl (k_mono h (fun r4 w5 h => ?_))
    refine x_i2l dX22_store_47 rfl ?_
    refine x_ladd dX22_store_48 rfl ?_
    refine x_iload_n 3 dX22_store_49 rfl rfl rfl ?_
    refine x_i2l dX22_store_50 rfl ?_
    refine x_ladd dX22_store_51 rfl ?_
    refine x_lstore 5 (ls' := [(2, 102), (0, a1), (0, a2), (0, a3), (0, w 74 a1), (1, b_l ((b_l ((b_l ((w 70 8) - r2)) + r4)) + a3)), (9, 0), (9, 0)]) dX22_store_52 rfl rfl rfl ?_
    refine x_aload_n 0 dX22_store_54 rfl rfl rfl rfl rfl ?_
    refine y_getF 68 9 (c := 20) (z := 2) dX22_store_55 i102 rfl in_X22 q1414 rfl rfl rfl fn_102_9 (Nat.le_trans (Nat.le_of_ble_eq_true rfl) hn) rfl ?_
    refine x_lload 5 dX22_store_58 rfl rfl ?_
    refine x_ldc2 396 (x := 60000) dX22_store_60 q2533 rfl (by decide) rfl ?_
    refine x_lc_gt (q := 67) (t := 71) 7 dX22_store_63 dX22_store_64 rfl rfl (b_ite h (fun hc h => ?_) (fun hc h => ?_))
    · refine x_iconst 0 (z := 0) dX22_store_71 rfl (by decide) rfl ?_
      exact x_fg (fgk (fgk (fgk (fgd (fgd (fgk (fgk (fgk (fg0))))))))) h
    · refine x_iconst 1 (z := 1) dX22_store_67 rfl (by decide) rfl ?_
      refine x_goto 4 (q := 72) dX22_store_68 rfl ?_
      exact x_fg (fgk (fgk (fgk (fgd (fgd (fgk (fgk (fgk (fg0))))))))) h
  · refine x_iconst 0 (z := 0) dX22_store_24 rfl (by decide) rfl ?_
    refine x_goto 12 (q := 37) dX22_store_25 rfl ?_
    refine x_i2l dX22_store_37 rfl ?_
    refine x_lsub dX22_store_38 rfl ?_
    refine x_aload_n 0 dX22_store_39 rfl rfl rfl rfl rfl ?_
    refine y_getF 56 6 (c := 20) (z := 27) dX22_store_40 i102 rfl in_X22 q1411 rfl rfl rfl fn_102_6 (Nat.le_trans (Nat.le_of_ble_eq_true rfl) hn) rfl ?_
    refine x_iload_n 2 dX22_store_43 rfl rfl rfl ?_
    refine y_Vi 214 (M := mX8_length) (As := [(0, a2)]) (st := [(1, b_l ((w 70 8) - 0))]) dX22_store_44 i27 rfl q2532 q2028 q2029 q375 q2030 rfl hmX8_length rfl rfl rfl rfl rfl rfl rfl rfl (k_mono h (fun r6 w7 h => ?_))
    refine x_i2l dX22_store_47 rfl ?_
    refine x_ladd dX22_store_48 rfl ?_
    refine x_iload_n 3 dX22_store_49 rfl rfl rfl ?_
    refine x_i2l dX22_store_50 rfl ?_
    refine x_ladd dX22_store_51 rfl ?_
    refine x_lstore 5 (ls' := [(2, 102), (0, a1), (0, a2), (0, a3), (0, w 74 a1), (1, b_l ((b_l ((b_l ((w 70 8) - 0)) + r6)) + a3)), (9, 0), (9, 0)]) dX22_store_52 rfl rfl rfl ?_
    refine x_aload_n 0 dX22_store_54 rfl rfl rfl rfl rfl ?_
    refine y_getF 68 9 (c := 20) (z := 2) dX22_store_55 i102 rfl in_X22 q1414 rfl rfl rfl fn_102_9 (Nat.le_trans (Nat.le_of_ble_eq_true rfl) hn) rfl ?_
    refine x_lload 5 dX22_store_58 rfl rfl ?_
    refine x_ldc2 396 (x := 60000) dX22_store_60 q2533 rfl (by decide) rfl ?_
    refine x_lc_gt (q := 67) (t := 71) 7 dX22_store_63 dX22_store_64 rfl rfl (b_ite h (fun hc h => ?_) (fun hc h => ?_))
    · refine x_iconst 0 (z := 0) dX22_store_71 rfl (by decide) rfl ?_
      exact x_fg (fgk (fgk (fgk (fgd (fgd (fgk (fgk (fgk (fg0))))))))) h
    · refine x_iconst 1 (z := 1) dX22_store_67 rfl (by decide) rfl ?_
      refine x_goto 4 (q := 72) dX22_store_68 rfl ?_
      exact x_fg (fgk (fgk (fgk (fgd (fgd (fgk (fgk (fgk (fg0))))))))) h
theorem sX22_store_72 {d n : Nat} {w : bW} {Q : Int → bW → Prop} {X : String → bW → Prop} (hn : 143 ≤ n) (a1 : Int) (a2 : Int) (a5 : Int) (s0 : Int) (h : b_K d mX2_want [(2, 2), (0, s0), (0, 8)] n w (fun r1 w2 => (0 ≤ a1 ∧ a1 < 200) ∧ (b_K d mX8_length [(2, 27), (0, a2)] n (b_up (b_up w2 70 8 (b_i a5)) 74 a1 a2) (fun r4 w5 => (0 ≤ a1 ∧ a1 < 200) ∧ (if r4 ≤ w5 75 a1 then (Q 0 w5) else (b_K d mX22_pay [(2, 102), (0, b_i (r4 - (w5 75 a1)))] n w5 (fun r7 w8 => Q 0 (b_up w8 75 a1 r4)) X))) X)) X) : LX22_store_72 d n Q X a1 a2 a5 s0 w := by
  have i2 := iz2 (Nat.le_trans (Nat.le_of_ble_eq_true rfl) hn)
  have i27 := iz27 (Nat.le_trans (Nat.le_of_ble_eq_true rfl) hn)
  have i70 := iz70 (Nat.le_trans (Nat.le_of_ble_eq_true rfl) hn)
  have i74 := iz74 (Nat.le_trans (Nat.le_of_ble_eq_true rfl) hn)
  have i75 := iz75 (Nat.le_trans (Nat.le_of_ble_eq_true rfl) hn)
  have i102 := iz102 (Nat.le_trans (Nat.le_of_ble_eq_true rfl) hn)
  refine x_bipush 8 (z := 8) dX22_store_72 rfl (by decide) rfl ?_
  refine y_Vv 256 (M := mX2_want) (As := [(0, s0), (0, 8)]) (st := []) dX22_store_74 i2 rfl q2507 q1954 q1955 q359 q1956 rfl hmX2_want rfl rfl rfl rfl rfl rfl rfl (k_mono h (fun r1 w2 h => ?_))
  refine x_aload_n 0 dX22_store_77 rfl rfl rfl rfl rfl ?_
  refine y_getF 64 8 (c := 20) (z := 70) dX22_store_78 i102 rfl in_X22 q1413 rfl rfl rfl fn_102_8 (Nat.le_trans (Nat.le_of_ble_eq_true rfl) hn) rfl ?_
  refine x_lload 5 dX22_store_81 rfl rfl ?_
  refine x_l2i dX22_store_83 rfl ?_
  refine x_put 393 8 (c := 16) dX22_store_84 i70 rfl in_X17 tyX17_ok nmX17 q1184 rfl rfl rfl (Or.inl rfl) (Or.inl ⟨rfl, rfl⟩) rfl ?_
  refine x_aload_n 0 dX22_store_87 rfl rfl rfl rfl rfl ?_
  refine y_getF 64 8 (c := 20) (z := 70) dX22_store_88 i102 rfl in_X22 q1413 rfl rfl rfl fn_102_8 (Nat.le_trans (Nat.le_of_ble_eq_true rfl) hn) rfl ?_
  refine y_getF 332 3 (c := 16) (z := 74) dX22_store_91 i70 rfl in_X17 q1171 rfl rfl rfl fn_70_3 (Nat.le_trans (Nat.le_of_ble_eq_true rfl) hn) rfl ?_
  refine x_iload_n 1 dX22_store_94 rfl rfl rfl ?_
  refine x_iload_n 2 dX22_store_95 rfl rfl rfl ?_
  obtain ⟨e3, h⟩ := h
  refine y_iast (x' := a2) dX22_store_96 ⟨200, i74, e3⟩ rfl rfl ?_
  refine x_aload_n 0 dX22_store_97 rfl rfl rfl rfl rfl ?_
  refine y_getF 56 6 (c := 20) (z := 27) dX22_store_98 i102 rfl in_X22 q1411 rfl rfl rfl fn_102_6 (Nat.le_trans (Nat.le_of_ble_eq_true rfl) hn) rfl ?_
  refine x_iload_n 2 dX22_store_101 rfl rfl rfl ?_
  refine y_Vi 214 (M := mX8_length) (As := [(0, a2)]) (st := []) dX22_store_102 i27 rfl q2532 q2028 q2029 q375 q2030 rfl hmX8_length rfl rfl rfl rfl rfl rfl rfl rfl (k_mono h (fun r4 w5 h => ?_))
  refine x_istore 7 (ls' := [(2, 102), (0, a1), (0, a2), (9, 0), (9, 0), (1, a5), (9, 0), (0, r4)]) dX22_store_105 rfl rfl rfl ?_
  refine x_iload 7 dX22_store_107 rfl rfl ?_
  refine x_aload_n 0 dX22_store_109 rfl rfl rfl rfl rfl ?_
  refine y_getF 64 8 (c := 20) (z := 70) dX22_store_110 i102 rfl in_X22 q1413 rfl rfl rfl fn_102_8 (Nat.le_trans (Nat.le_of_ble_eq_true rfl) hn) rfl ?_
  refine y_getF 398 4 (c := 16) (z := 75) dX22_store_113 i70 rfl in_X17 q1174 rfl rfl rfl fn_70_4 (Nat.le_trans (Nat.le_of_ble_eq_true rfl) hn) rfl ?_
  refine x_iload_n 1 dX22_store_116 rfl rfl rfl ?_
  obtain ⟨e6, h⟩ := h
  refine y_iald (z := w5 75 a1) dX22_store_117 ⟨200, i75, e6⟩ rfl rfl ?_
  refine x_icmp_le (t := 148) 30 dX22_store_118 rfl rfl (b_ite h (fun hc h => ?_) (fun hc h => ?_))
  · exact y_vret dX22_store_148 rfl h
  · refine x_aload_n 0 dX22_store_121 rfl rfl rfl rfl rfl ?_
    refine x_iload 7 dX22_store_122 rfl rfl ?_
    refine x_aload_n 0 dX22_store_124 rfl rfl rfl rfl rfl ?_
    refine y_getF 64 8 (c := 20) (z := 70) dX22_store_125 i102 rfl in_X22 q1413 rfl rfl rfl fn_102_8 (Nat.le_trans (Nat.le_of_ble_eq_true rfl) hn) rfl ?_
    refine y_getF 398 4 (c := 16) (z := 75) dX22_store_128 i70 rfl in_X17 q1174 rfl rfl rfl fn_70_4 (Nat.le_trans (Nat.le_of_ble_eq_true rfl) hn) rfl ?_
    refine x_iload_n 1 dX22_store_131 rfl rfl rfl ?_
    refine y_iald (z := w5 75 a1) dX22_store_132 ⟨200, i75, e6⟩ rfl rfl ?_
    refine x_isub dX22_store_133 rfl ?_
    refine y_Vv 401 (M := mX22_pay) (As := [(0, b_i (r4 - (w5 75 a1)))]) (st := []) dX22_store_134 i102 rfl q2523 q2525 qs103 q389 q2526 rfl hmX22_pay rfl rfl rfl rfl rfl rfl rfl (k_mono h (fun r7 w8 h => ?_))
    refine x_aload_n 0 dX22_store_137 rfl rfl rfl rfl rfl ?_
    refine y_getF 64 8 (c := 20) (z := 70) dX22_store_138 i102 rfl in_X22 q1413 rfl rfl rfl fn_102_8 (Nat.le_trans (Nat.le_of_ble_eq_true rfl) hn) rfl ?_
    refine y_getF 398 4 (c := 16) (z := 75) dX22_store_141 i70 rfl in_X17 q1174 rfl rfl rfl fn_70_4 (Nat.le_trans (Nat.le_of_ble_eq_true rfl) hn) rfl ?_
    refine x_iload_n 1 dX22_store_144 rfl rfl rfl ?_
    refine x_iload 7 dX22_store_145 rfl rfl ?_
    refine y_iast (x' := r4) dX22_store_147 ⟨200, i75, e6⟩ rfl rfl ?_
    exact y_vret dX22_store_148 rfl h
theorem rX22_entryOf {d n : Nat} {w : bW} {Q : Int → bW → Prop} {X : String → bW → Prop} (hn : 143 ≤ n) (a1 : Int) (a2 : Int) (h : (0 ≤ a1 ∧ a1 < 200) ∧ (b_K d mX2_want [(2, 2), (0, w 72 a1), (0, 6)] n w (fun r2 w3 => if 100 ≤ a1 then (if 0 ≤ a2 then ((0 ≤ a1 ∧ a1 < 200) ∧ (b_K d mX15_entry [(2, 53), (0, w3 73 a1), (0, a2)] n w3 (fun r5 w6 => if r5 < 0 then (b_K d mX2_want [(2, 2), (0, 0), (0, 6)] n w6 (fun r7 w8 => Q r5 w8) X) else (b_K d mX2_want [(2, 2), (0, 1), (0, 6)] n w6 (fun r9 w10 => Q r5 w10) X)) X)) else (b_K d mX2_want [(2, 2), (0, 0), (0, 6)] n w3 (fun r11 w12 => Q (-1) w12) X)) else (Q 0 w3)) X)) : b_K (d + 1) mX22_entryOf [(2, 102), (0, a1), (0, a2)] n w Q X := by
  have i2 := iz2 (Nat.le_trans (Nat.le_of_ble_eq_true rfl) hn)
  have i53 := iz53 (Nat.le_trans (Nat.le_of_ble_eq_true rfl) hn)
  have i70 := iz70 (Nat.le_trans (Nat.le_of_ble_eq_true rfl) hn)
  have i72 := iz72 (Nat.le_trans (Nat.le_of_ble_eq_true rfl) hn)
  have i73 := iz73 (Nat.le_trans (Nat.le_of_ble_eq_true rfl) hn)
  have i102 := iz102 (Nat.le_trans (Nat.le_of_ble_eq_true rfl) hn)
  refine k_of (by decide) rfl rfl rfl (ls := [(2, 102), (0, a1), (0, a2), (9, 0)]) rfl ?_
  refine x_aload_n 0 dX22_entryOf_0 rfl rfl rfl rfl rfl ?_
  refine y_getF 68 9 (c := 20) (z := 2) dX22_entryOf_1 i102 rfl in_X22 q1414 rfl rfl rfl fn_102_9 (Nat.le_trans (Nat.le_of_ble_eq_true rfl) hn) rfl ?_
  refine x_aload_n 0 dX22_entryOf_4 rfl rfl rfl rfl rfl ?_
  refine y_getF 64 8 (c := 20) (z := 70) dX22_entryOf_5 i102 rfl in_X22 q1413 rfl rfl rfl fn_102_8 (Nat.le_trans (Nat.le_of_ble_eq_true rfl) hn) rfl ?_
  refine y_getF 318 1 (c := 16) (z := 72) dX22_entryOf_8 i70 rfl in_X17 q1163 rfl rfl rfl fn_70_1 (Nat.le_trans (Nat.le_of_ble_eq_true rfl) hn) rfl ?_
  refine x_iload_n 1 dX22_entryOf_11 rfl rfl rfl ?_
  obtain ⟨e1, h⟩ := h
  refine y_zald (z := w 72 a1) dX22_entryOf_12 ⟨200, i72, e1⟩ rfl rfl ?_
  refine x_bipush 6 (z := 6) dX22_entryOf_13 rfl (by decide) rfl ?_
  refine y_Vv 256 (M := mX2_want) (As := [(0, w 72 a1), (0, 6)]) (st := []) dX22_entryOf_15 i2 rfl q2507 q1954 q1955 q359 q1956 rfl hmX2_want rfl rfl rfl rfl rfl rfl rfl (k_mono h (fun r2 w3 h => ?_))
  refine x_iload_n 1 dX22_entryOf_18 rfl rfl rfl ?_
  refine x_bipush 100 (z := 100) dX22_entryOf_19 rfl (by decide) rfl ?_
  refine x_icmp_ge (t := 26) 5 dX22_entryOf_21 rfl rfl (b_ite h (fun hc h => ?_) (fun hc h => ?_))
  · refine x_iload_n 2 dX22_entryOf_26 rfl rfl rfl ?_
    refine x_if_ge (t := 34) 7 dX22_entryOf_27 rfl rfl (b_ite h (fun hc h => ?_) (fun hc h => ?_))
    · refine x_aload_n 0 dX22_entryOf_34 rfl rfl rfl rfl rfl ?_
      refine y_getF 44 3 (c := 20) (z := 53) dX22_entryOf_35 i102 rfl in_X22 q1408 rfl rfl rfl fn_102_3 (Nat.le_trans (Nat.le_of_ble_eq_true rfl) hn) rfl ?_
      refine x_aload_n 0 dX22_entryOf_38 rfl rfl rfl rfl rfl ?_
      refine y_getF 64 8 (c := 20) (z := 70) dX22_entryOf_39 i102 rfl in_X22 q1413 rfl rfl rfl fn_102_8 (Nat.le_trans (Nat.le_of_ble_eq_true rfl) hn) rfl ?_
      refine y_getF 322 2 (c := 16) (z := 73) dX22_entryOf_42 i70 rfl in_X17 q1167 rfl rfl rfl fn_70_2 (Nat.le_trans (Nat.le_of_ble_eq_true rfl) hn) rfl ?_
      refine x_iload_n 1 dX22_entryOf_45 rfl rfl rfl ?_
      obtain ⟨e4, h⟩ := h
      refine y_iald (z := w3 73 a1) dX22_entryOf_46 ⟨200, i73, e4⟩ rfl rfl ?_
      refine x_iload_n 2 dX22_entryOf_47 rfl rfl rfl ?_
      refine y_Vi 324 (M := mX15_entry) (As := [(0, w3 73 a1), (0, a2)]) (st := []) dX22_entryOf_48 i53 rfl q2547 q1895 q1896 q382 q1897 rfl hmX15_entry rfl rfl rfl rfl rfl rfl rfl rfl (k_mono h (fun r5 w6 h => ?_))
      refine x_istore_n 3 (ls' := [(2, 102), (0, a1), (0, a2), (0, r5)]) dX22_entryOf_51 rfl rfl rfl rfl ?_
      refine x_aload_n 0 dX22_entryOf_52 rfl rfl rfl rfl rfl ?_
      refine y_getF 68 9 (c := 20) (z := 2) dX22_entryOf_53 i102 rfl in_X22 q1414 rfl rfl rfl fn_102_9 (Nat.le_trans (Nat.le_of_ble_eq_true rfl) hn) rfl ?_
      refine x_iload_n 3 dX22_entryOf_56 rfl rfl rfl ?_
      refine x_if_lt (t := 64) 7 dX22_entryOf_57 rfl rfl (b_ite h (fun hc h => ?_) (fun hc h => ?_))
      · refine x_iconst 0 (z := 0) dX22_entryOf_64 rfl (by decide) rfl ?_
        refine x_bipush 6 (z := 6) dX22_entryOf_65 rfl (by decide) rfl ?_
        refine y_Vv 256 (M := mX2_want) (As := [(0, 0), (0, 6)]) (st := []) dX22_entryOf_67 i2 rfl q2507 q1954 q1955 q359 q1956 rfl hmX2_want rfl rfl rfl rfl rfl rfl rfl (k_mono h (fun r7 w8 h => ?_))
        refine x_iload_n 3 dX22_entryOf_70 rfl rfl rfl ?_
        exact y_iret dX22_entryOf_71 rfl h
      · refine x_iconst 1 (z := 1) dX22_entryOf_60 rfl (by decide) rfl ?_
        refine x_goto 4 (q := 65) dX22_entryOf_61 rfl ?_
        refine x_bipush 6 (z := 6) dX22_entryOf_65 rfl (by decide) rfl ?_
        refine y_Vv 256 (M := mX2_want) (As := [(0, 1), (0, 6)]) (st := []) dX22_entryOf_67 i2 rfl q2507 q1954 q1955 q359 q1956 rfl hmX2_want rfl rfl rfl rfl rfl rfl rfl (k_mono h (fun r9 w10 h => ?_))
        refine x_iload_n 3 dX22_entryOf_70 rfl rfl rfl ?_
        exact y_iret dX22_entryOf_71 rfl h
    · refine x_iconst (-1) (z := (-1)) dX22_entryOf_30 rfl (by decide) rfl ?_
      refine x_goto 20 (q := 51) dX22_entryOf_31 rfl ?_
      refine x_istore_n 3 (ls' := [(2, 102), (0, a1), (0, a2), (0, (-1))]) dX22_entryOf_51 rfl rfl rfl rfl ?_
      refine x_aload_n 0 dX22_entryOf_52 rfl rfl rfl rfl rfl ?_
      refine y_getF 68 9 (c := 20) (z := 2) dX22_entryOf_53 i102 rfl in_X22 q1414 rfl rfl rfl fn_102_9 (Nat.le_trans (Nat.le_of_ble_eq_true rfl) hn) rfl ?_
      refine x_iload_n 3 dX22_entryOf_56 rfl rfl rfl ?_
      refine x_if_lt (t := 64) 7 dX22_entryOf_57 rfl rfl (b_ifT (by decide) ?_)
      refine x_iconst 0 (z := 0) dX22_entryOf_64 rfl (by decide) rfl ?_
      refine x_bipush 6 (z := 6) dX22_entryOf_65 rfl (by decide) rfl ?_
      refine y_Vv 256 (M := mX2_want) (As := [(0, 0), (0, 6)]) (st := []) dX22_entryOf_67 i2 rfl q2507 q1954 q1955 q359 q1956 rfl hmX2_want rfl rfl rfl rfl rfl rfl rfl (k_mono h (fun r11 w12 h => ?_))
      refine x_iload_n 3 dX22_entryOf_70 rfl rfl rfl ?_
      exact y_iret dX22_entryOf_71 rfl h
  · refine x_iconst 0 (z := 0) dX22_entryOf_24 rfl (by decide) rfl ?_
    exact y_iret dX22_entryOf_25 rfl h
abbrev LX22_transfer_109 (d n : Nat) (Q : Int → bW → Prop) (X : String → bW → Prop) (a1 : Int) (a2 : Int) (a3 : Int) (a4 : Int) (a7 : Int) (a8 : Int) (a9 : Int) (a10 : Int) (w : bW) : Prop := b_Y (d + 1) mX22_transfer n Q X 109 [(2, 102), (0, a1), (0, a2), (0, a3), (1, a4), (9, 0), (9, 0), (0, a7), (0, a8), (0, a9), (0, a10), (9, 0)] [] w
theorem rX22_transfer {d n : Nat} {w : bW} {Q : Int → bW → Prop} {X : String → bW → Prop} (hn : 143 ≤ n) (a1 : Int) (a2 : Int) (a3 : Int) (a4 : Int) (a6 : Int) (h : b_K d mX22_move [(2, 102), (0, a1), (0, a2), (1, a4)] n w (fun r1 w2 => if 100 ≤ a2 then ((0 ≤ a2 ∧ a2 < 200) ∧ ((0 ≤ w2 73 a2 ∧ w2 73 a2 < 2000) ∧ ((0 ≤ w2 73 a2 ∧ w2 73 a2 < 2000) ∧ ((0 ≤ a2 ∧ a2 < 200) ∧ (b_K d mX22_weight [(2, 102), (0, w2 74 a2), (0, w2 55 (w2 73 a2))] n w2 (fun r7 w8 => b_K d mX8_length [(2, 27), (0, a6)] n w8 (fun r9 w10 => b_K d mX18_use [(2, 82), (1, b_l ((b_i (100 + (b_div (w2 58 (w2 73 a2)) 4))) + (b_ldiv (b_l (r7 + r9)) 8)))] n w10 (fun r11 w12 => (0 ≤ a3 ∧ a3 < 12000) ∧ (LX22_transfer_109 d n Q X a1 a2 a3 a4 (w2 73 a2) (w2 55 (w2 73 a2)) a6 (b_i ((w12 63 a3) - 1)) w12)) X) X) X))))) else (Q 0 w2)) X) : b_K (d + 1) mX22_transfer [(2, 102), (0, a1), (0, a2), (0, a3), (1, a4), (0, a6)] n w Q X := by
  have i27 := iz27 (Nat.le_trans (Nat.le_of_ble_eq_true rfl) hn)
  have i53 := iz53 (Nat.le_trans (Nat.le_of_ble_eq_true rfl) hn)
  have i55 := iz55 (Nat.le_trans (Nat.le_of_ble_eq_true rfl) hn)
  have i58 := iz58 (Nat.le_trans (Nat.le_of_ble_eq_true rfl) hn)
  have i63 := iz63 (Nat.le_trans (Nat.le_of_ble_eq_true rfl) hn)
  have i70 := iz70 (Nat.le_trans (Nat.le_of_ble_eq_true rfl) hn)
  have i73 := iz73 (Nat.le_trans (Nat.le_of_ble_eq_true rfl) hn)
  have i74 := iz74 (Nat.le_trans (Nat.le_of_ble_eq_true rfl) hn)
  have i82 := iz82 (Nat.le_trans (Nat.le_of_ble_eq_true rfl) hn)
  have i102 := iz102 (Nat.le_trans (Nat.le_of_ble_eq_true rfl) hn)
  refine k_of (by decide) rfl rfl rfl (ls := [(2, 102), (0, a1), (0, a2), (0, a3), (1, a4), (9, 0), (0, a6), (9, 0), (9, 0), (9, 0), (9, 0), (9, 0)]) rfl ?_
  refine x_aload_n 0 dX22_transfer_0 rfl rfl rfl rfl rfl ?_
  refine x_iload_n 1 dX22_transfer_1 rfl rfl rfl ?_
  refine x_iload_n 2 dX22_transfer_2 rfl rfl rfl ?_
  refine x_lload 4 dX22_transfer_3 rfl rfl ?_
  refine y_Vv 326 (M := mX22_move) (As := [(0, a1), (0, a2), (1, a4)]) (st := []) dX22_transfer_5 i102 rfl q2519 q2521 qs102 q389 q2522 rfl hmX22_move rfl rfl rfl rfl rfl rfl rfl (k_mono h (fun r1 w2 h => ?_))
  refine x_iload_n 2 dX22_transfer_8 rfl rfl rfl ?_
  refine x_bipush 100 (z := 100) dX22_transfer_9 rfl (by decide) rfl ?_
  refine x_icmp_ge (t := 15) 4 dX22_transfer_11 rfl rfl (b_ite h (fun hc h => ?_) (fun hc h => ?_))
  · refine x_aload_n 0 dX22_transfer_15 rfl rfl rfl rfl rfl ?_
    refine y_getF 64 8 (c := 20) (z := 70) dX22_transfer_16 i102 rfl in_X22 q1413 rfl rfl rfl fn_102_8 (Nat.le_trans (Nat.le_of_ble_eq_true rfl) hn) rfl ?_
    refine y_getF 322 2 (c := 16) (z := 73) dX22_transfer_19 i70 rfl in_X17 q1167 rfl rfl rfl fn_70_2 (Nat.le_trans (Nat.le_of_ble_eq_true rfl) hn) rfl ?_
    refine x_iload_n 2 dX22_transfer_22 rfl rfl rfl ?_
    obtain ⟨e3, h⟩ := h
    refine y_iald (z := w2 73 a2) dX22_transfer_23 ⟨200, i73, e3⟩ rfl rfl ?_
    refine x_istore 7 (ls' := [(2, 102), (0, a1), (0, a2), (0, a3), (1, a4), (9, 0), (0, a6), (0, w2 73 a2), (9, 0), (9, 0), (9, 0), (9, 0)]) dX22_transfer_24 rfl rfl rfl ?_
    refine x_aload_n 0 dX22_transfer_26 rfl rfl rfl rfl rfl ?_
    refine y_getF 44 3 (c := 20) (z := 53) dX22_transfer_27 i102 rfl in_X22 q1408 rfl rfl rfl fn_102_3 (Nat.le_trans (Nat.le_of_ble_eq_true rfl) hn) rfl ?_
    refine y_getF 307 1 (c := 14) (z := 55) dX22_transfer_30 i53 rfl in_X15 q1024 rfl rfl rfl fn_53_1 (Nat.le_trans (Nat.le_of_ble_eq_true rfl) hn) rfl ?_
    refine x_iload 7 dX22_transfer_33 rfl rfl ?_
    obtain ⟨e4, h⟩ := h
    refine y_iald (z := w2 55 (w2 73 a2)) dX22_transfer_35 ⟨2000, i55, e4⟩ rfl rfl ?_
    refine x_istore 8 (ls' := [(2, 102), (0, a1), (0, a2), (0, a3), (1, a4), (9, 0), (0, a6), (0, w2 73 a2), (0, w2 55 (w2 73 a2)), (9, 0), (9, 0), (9, 0)]) dX22_transfer_36 rfl rfl rfl ?_
    refine x_aload_n 0 dX22_transfer_38 rfl rfl rfl rfl rfl ?_
    refine y_getF 72 10 (c := 20) (z := 82) dX22_transfer_39 i102 rfl in_X22 q1415 rfl rfl rfl fn_102_10 (Nat.le_trans (Nat.le_of_ble_eq_true rfl) hn) rfl ?_
    refine x_bipush 100 (z := 100) dX22_transfer_42 rfl (by decide) rfl ?_
    refine x_aload_n 0 dX22_transfer_44 rfl rfl rfl rfl rfl ?_
    refine y_getF 44 3 (c := 20) (z := 53) dX22_transfer_45 i102 rfl in_X22 q1408 rfl rfl rfl fn_102_3 (Nat.le_trans (Nat.le_of_ble_eq_true rfl) hn) rfl ?_
    refine y_getF 330 4 (c := 14) (z := 58) dX22_transfer_48 i53 rfl in_X15 q1033 rfl rfl rfl fn_53_4 (Nat.le_trans (Nat.le_of_ble_eq_true rfl) hn) rfl ?_
    refine x_iload 7 dX22_transfer_51 rfl rfl ?_
    obtain ⟨e5, h⟩ := h
    refine y_iald (z := w2 58 (w2 73 a2)) dX22_transfer_53 ⟨2000, i58, e5⟩ rfl rfl ?_
    refine x_iconst 4 (z := 4) dX22_transfer_54 rfl (by decide) rfl ?_
    refine x_idiv dX22_transfer_55 (by decide) rfl ?_
    refine x_iadd dX22_transfer_56 rfl ?_
    refine x_i2l dX22_transfer_57 rfl ?_
    refine x_aload_n 0 dX22_transfer_58 rfl rfl rfl rfl rfl ?_
    refine x_aload_n 0 dX22_transfer_59 rfl rfl rfl rfl rfl ?_
    refine y_getF 64 8 (c := 20) (z := 70) dX22_transfer_60 i102 rfl in_X22 q1413 rfl rfl rfl fn_102_8 (Nat.le_trans (Nat.le_of_ble_eq_true rfl) hn) rfl ?_
    refine y_getF 332 3 (c := 16) (z := 74) dX22_transfer_63 i70 rfl in_X17 q1171 rfl rfl rfl fn_70_3 (Nat.le_trans (Nat.le_of_ble_eq_true rfl) hn) rfl ?_
    refine x_iload_n 2 dX22_transfer_66 rfl rfl rfl ?_
    obtain ⟨e6, h⟩ := h
    refine y_iald (z := w2 74 a2) dX22_transfer_67 ⟨200, i74, e6⟩ rfl rfl ?_
    refine x_iload 8 dX22_transfer_68 rfl rfl ?_
    refine y_Vl 333 (M := mX22_weight) (As := [(0, w2 74 a2), (0, w2 55 (w2 73 a2))]) (st := [(1, b_i (100 + (b_div (w2 58 (w2 73 a2)) 4))), (2, 82)]) dX22_transfer_70 i102 rfl q2552 q2554 qs107 q389 q2555 rfl hmX22_weight rfl rfl rfl rfl rfl rfl rfl rfl (k_mono h (fun r7 w8 h => ?_))
    refine x_aload_n 0 dX22_transfer_73 rfl rfl rfl rfl rfl ?_
    refine y_getF 56 6 (c := 20) (z := 27) dX22_transfer_74 i102 rfl in_X22 q1411 rfl rfl rfl fn_102_6 (Nat.le_trans (Nat.le_of_ble_eq_true rfl) hn) rfl ?_
    refine x_iload 6 dX22_transfer_77 rfl rfl ?_
    refine y_Vi 214 (M := mX8_length) (As := [(0, a6)]) (st := [(1, r7), (1, b_i (100 + (b_div (w2 58 (w2 73 a2)) 4))), (2, 82)]) dX22_transfer_79 i27 rfl q2532 q2028 q2029 q375 q2030 rfl hmX8_length rfl rfl rfl rfl rfl rfl rfl rfl (k_mono h (fun r9 w10 h => ?_))
    refine x_i2l dX22_transfer_82 rfl ?_
    refine x_ladd dX22_transfer_83 rfl ?_
    refine x_ldc2 337 (x := 8) dX22_transfer_84 q2560 rfl (by decide) rfl ?_
    refine x_ldiv dX22_transfer_87 (by decide) rfl ?_
    refine x_ladd dX22_transfer_88 rfl ?_
    refine y_Vv 232 (M := mX18_use) (As := [(1, b_l ((b_i (100 + (b_div (w2 58 (w2 73 a2)) 4))) + (b_ldiv (b_l (r7 + r9)) 8)))]) (st := []) dX22_transfer_89 i82 rfl q2499 q2500 q2501 q385 q2502 rfl hmX18_use rfl rfl rfl rfl rfl rfl rfl (k_mono h (fun r11 w12 h => ?_))
    refine x_iload 6 dX22_transfer_92 rfl rfl ?_
    refine x_istore 9 (ls' := [(2, 102), (0, a1), (0, a2), (0, a3), (1, a4), (9, 0), (0, a6), (0, w2 73 a2), (0, w2 55 (w2 73 a2)), (0, a6), (9, 0), (9, 0)]) dX22_transfer_94 rfl rfl rfl ?_
    refine x_aload_n 0 dX22_transfer_96 rfl rfl rfl rfl rfl ?_
    refine y_getF 44 3 (c := 20) (z := 53) dX22_transfer_97 i102 rfl in_X22 q1408 rfl rfl rfl fn_102_3 (Nat.le_trans (Nat.le_of_ble_eq_true rfl) hn) rfl ?_
    refine y_getF 339 10 (c := 14) (z := 63) dX22_transfer_100 i53 rfl in_X15 q1051 rfl rfl rfl fn_53_10 (Nat.le_trans (Nat.le_of_ble_eq_true rfl) hn) rfl ?_
    refine x_iload_n 3 dX22_transfer_103 rfl rfl rfl ?_
    obtain ⟨e13, h⟩ := h
    refine y_bald (z := w12 63 a3) dX22_transfer_104 ⟨12000, i63, e13⟩ rfl rfl ?_
    refine x_iconst 1 (z := 1) dX22_transfer_105 rfl (by decide) rfl ?_
    refine x_isub dX22_transfer_106 rfl ?_
    refine x_istore 10 (ls' := [(2, 102), (0, a1), (0, a2), (0, a3), (1, a4), (9, 0), (0, a6), (0, w2 73 a2), (0, w2 55 (w2 73 a2)), (0, a6), (0, b_i ((w12 63 a3) - 1)), (9, 0)]) dX22_transfer_107 rfl rfl rfl ?_
    exact x_fg (fgk (fgk (fgk (fgk (fgk (fgk (fgd (fgk (fgk (fgk (fgk (fgk (fg0))))))))))))) h
  · exact y_vret dX22_transfer_14 rfl h
theorem sX22_transfer_109 {d n : Nat} {w : bW} {Q : Int → bW → Prop} {X : String → bW → Prop} (hn : 143 ≤ n) (a1 : Int) (a2 : Int) (a3 : Int) (a4 : Int) (a7 : Int) (a8 : Int) (a9 : Int) (a10 : Int) (h : if a10 < 0 then ((0 ≤ a2 ∧ a2 < 200) ∧ ((0 ≤ a7 ∧ a7 < 2000) ∧ ((0 ≤ a2 ∧ a2 < 200) ∧ (b_K d mX8_pair [(2, 27), (0, a9), (0, w 74 a2)] n (b_up (b_up (b_up (b_up (b_up w 83 25 a2) 83 26 a1) 83 27 (w 102 16)) 83 28 a4) 83 29 (w 71 a2)) (fun r4 w5 => b_K d mX19_run [(2, 83), (0, w 56 a7), (0, r4)] n w5 (fun r6 w7 => b_K d mX8_cell [(2, 27), (0, r6), (0, 3)] n w7 (fun r8 w9 => b_K d mX22_weight [(2, 102), (0, r8), (0, a8)] n w9 (fun r10 w11 => b_K d mX18_use [(2, 82), (1, b_ldiv r10 8)] n w11 (fun r12 w13 => b_K d mX22_store [(2, 102), (0, a2), (0, r8), (0, 0)] n w13 (fun r14 w15 => b_K d mX8_cell [(2, 27), (0, r6), (0, 2)] n w15 (fun r16 w17 => (0 ≤ w15 102 21 ∧ w15 102 21 < 80) ∧ ((0 ≤ w17 102 21 ∧ w17 102 21 < 80) ∧ (Q 0 (b_up (b_up (b_up w17 105 (w15 102 21) r16) 102 21 (b_i ((w17 102 21) + 1))) 106 (w17 102 21) a2)))) X) X) X) X) X) X) X)))) else ((0 ≤ a3 ∧ a3 < 12000) ∧ (if b_land (b_lshr (w 62 a3) a10) 1 = 0 then (b_K d mX8_wrap [(2, 27), (0, 5), (0, a9)] n w (fun r21 w22 => LX22_transfer_109 d n Q X a1 a2 a3 a4 a7 a8 r21 (b_i (a10 + (-1))) w22) X) else (b_K d mX8_wrap [(2, 27), (0, 6), (0, a9)] n w (fun r23 w24 => LX22_transfer_109 d n Q X a1 a2 a3 a4 a7 a8 r23 (b_i (a10 + (-1))) w24) X)))) : LX22_transfer_109 d n Q X a1 a2 a3 a4 a7 a8 a9 a10 w := by
  have i27 := iz27 (Nat.le_trans (Nat.le_of_ble_eq_true rfl) hn)
  have i53 := iz53 (Nat.le_trans (Nat.le_of_ble_eq_true rfl) hn)
  have i56 := iz56 (Nat.le_trans (Nat.le_of_ble_eq_true rfl) hn)
  have i62 := iz62 (Nat.le_trans (Nat.le_of_ble_eq_true rfl) hn)
  have i70 := iz70 (Nat.le_trans (Nat.le_of_ble_eq_true rfl) hn)
  have i71 := iz71 (Nat.le_trans (Nat.le_of_ble_eq_true rfl) hn)
  have i74 := iz74 (Nat.le_trans (Nat.le_of_ble_eq_true rfl) hn)
  have i82 := iz82 (Nat.le_trans (Nat.le_of_ble_eq_true rfl) hn)
  have i83 := iz83 (Nat.le_trans (Nat.le_of_ble_eq_true rfl) hn)
  have i102 := iz102 (Nat.le_trans (Nat.le_of_ble_eq_true rfl) hn)
  have i105 := iz105 (Nat.le_trans (Nat.le_of_ble_eq_true rfl) hn)
  have i106 := iz106 (Nat.le_trans (Nat.le_of_ble_eq_true rfl) hn)
  refine x_iload 10 dX22_transfer_109 rfl rfl ?_
  refine x_if_lt (t := 168) 57 dX22_transfer_111 rfl rfl (b_ite h (fun hc h => ?_) (fun hc h => ?_))
  · refine x_aload_n 0 dX22_transfer_168 rfl rfl rfl rfl rfl ?_
    refine y_getF 76 11 (c := 20) (z := 83) dX22_transfer_169 i102 rfl in_X22 q1416 rfl rfl rfl fn_102_11 (Nat.le_trans (Nat.le_of_ble_eq_true rfl) hn) rfl ?_
    refine x_iload_n 2 dX22_transfer_172 rfl rfl rfl ?_
    refine x_put 348 25 (c := 18) dX22_transfer_173 i83 rfl in_X19 tyX19_ok nmX19 q1317 rfl rfl rfl (Or.inl rfl) (Or.inl ⟨rfl, rfl⟩) rfl ?_
    refine x_aload_n 0 dX22_transfer_176 rfl rfl rfl rfl rfl ?_
    refine y_getF 76 11 (c := 20) (z := 83) dX22_transfer_177 i102 rfl in_X22 q1416 rfl rfl rfl fn_102_11 (Nat.le_trans (Nat.le_of_ble_eq_true rfl) hn) rfl ?_
    refine x_iload_n 1 dX22_transfer_180 rfl rfl rfl ?_
    refine x_put 351 26 (c := 18) dX22_transfer_181 i83 rfl in_X19 tyX19_ok nmX19 q1319 rfl rfl rfl (Or.inl rfl) (Or.inl ⟨rfl, rfl⟩) rfl ?_
    refine x_aload_n 0 dX22_transfer_184 rfl rfl rfl rfl rfl ?_
    refine y_getF 76 11 (c := 20) (z := 83) dX22_transfer_185 i102 rfl in_X22 q1416 rfl rfl rfl fn_102_11 (Nat.le_trans (Nat.le_of_ble_eq_true rfl) hn) rfl ?_
    refine x_aload_n 0 dX22_transfer_188 rfl rfl rfl rfl rfl ?_
    refine y_get 146 16 (c := 20) (z := w 102 16) dX22_transfer_189 i102 rfl in_X22 q1424 rfl rfl rfl rfl rfl ?_
    refine x_put 354 27 (c := 18) dX22_transfer_192 i83 rfl in_X19 tyX19_ok nmX19 q1321 rfl rfl rfl (Or.inl rfl) (Or.inl ⟨rfl, rfl⟩) rfl ?_
    refine x_aload_n 0 dX22_transfer_195 rfl rfl rfl rfl rfl ?_
    refine y_getF 76 11 (c := 20) (z := 83) dX22_transfer_196 i102 rfl in_X22 q1416 rfl rfl rfl fn_102_11 (Nat.le_trans (Nat.le_of_ble_eq_true rfl) hn) rfl ?_
    refine x_lload 4 dX22_transfer_199 rfl rfl ?_
    refine x_put 357 28 (c := 18) dX22_transfer_201 i83 rfl in_X19 tyX19_ok nmX19 q1323 rfl rfl rfl (Or.inl rfl) (Or.inr (Or.inr (Or.inl ⟨rfl, rfl⟩))) rfl ?_
    refine x_aload_n 0 dX22_transfer_204 rfl rfl rfl rfl rfl ?_
    refine y_getF 76 11 (c := 20) (z := 83) dX22_transfer_205 i102 rfl in_X22 q1416 rfl rfl rfl fn_102_11 (Nat.le_trans (Nat.le_of_ble_eq_true rfl) hn) rfl ?_
    refine x_aload_n 0 dX22_transfer_208 rfl rfl rfl rfl rfl ?_
    refine y_getF 64 8 (c := 20) (z := 70) dX22_transfer_209 i102 rfl in_X22 q1413 rfl rfl rfl fn_102_8 (Nat.le_trans (Nat.le_of_ble_eq_true rfl) hn) rfl ?_
    refine y_getF 280 0 (c := 16) (z := 71) dX22_transfer_212 i70 rfl in_X17 q1160 rfl rfl rfl fn_70_0 (Nat.le_trans (Nat.le_of_ble_eq_true rfl) hn) rfl ?_
    refine x_iload_n 2 dX22_transfer_215 rfl rfl rfl ?_
    obtain ⟨e1, h⟩ := h
    refine y_lald (z := w 71 a2) dX22_transfer_216 ⟨200, i71, e1⟩ rfl rfl ?_
    refine x_put 358 29 (c := 18) dX22_transfer_217 i83 rfl in_X19 tyX19_ok nmX19 q1325 rfl rfl rfl (Or.inl rfl) (Or.inr (Or.inr (Or.inl ⟨rfl, rfl⟩))) rfl ?_
    refine x_aload_n 0 dX22_transfer_220 rfl rfl rfl rfl rfl ?_
    refine y_getF 76 11 (c := 20) (z := 83) dX22_transfer_221 i102 rfl in_X22 q1416 rfl rfl rfl fn_102_11 (Nat.le_trans (Nat.le_of_ble_eq_true rfl) hn) rfl ?_
    refine x_aload_n 0 dX22_transfer_224 rfl rfl rfl rfl rfl ?_
    refine y_getF 44 3 (c := 20) (z := 53) dX22_transfer_225 i102 rfl in_X22 q1408 rfl rfl rfl fn_102_3 (Nat.le_trans (Nat.le_of_ble_eq_true rfl) hn) rfl ?_
    refine y_getF 361 2 (c := 14) (z := 56) dX22_transfer_228 i53 rfl in_X15 q1028 rfl rfl rfl fn_53_2 (Nat.le_trans (Nat.le_of_ble_eq_true rfl) hn) rfl ?_
    refine x_iload 7 dX22_transfer_231 rfl rfl ?_
    obtain ⟨e2, h⟩ := h
    refine y_iald (z := w 56 a7) dX22_transfer_233 ⟨2000, i56, e2⟩ rfl rfl ?_
    refine x_aload_n 0 dX22_transfer_234 rfl rfl rfl rfl rfl ?_
    refine y_getF 56 6 (c := 20) (z := 27) dX22_transfer_235 i102 rfl in_X22 q1411 rfl rfl rfl fn_102_6 (Nat.le_trans (Nat.le_of_ble_eq_true rfl) hn) rfl ?_
    refine x_iload 9 dX22_transfer_238 rfl rfl ?_
    refine x_aload_n 0 dX22_transfer_240 rfl rfl rfl rfl rfl ?_
    refine y_getF 64 8 (c := 20) (z := 70) dX22_transfer_241 i102 rfl in_X22 q1413 rfl rfl rfl fn_102_8 (Nat.le_trans (Nat.le_of_ble_eq_true rfl) hn) rfl ?_
    refine y_getF 332 3 (c := 16) (z := 74) dX22_transfer_244 i70 rfl in_X17 q1171 rfl rfl rfl fn_70_3 (Nat.le_trans (Nat.le_of_ble_eq_true rfl) hn) rfl ?_
    refine x_iload_n 2 dX22_transfer_247 rfl rfl rfl ?_
    obtain ⟨e3, h⟩ := h
    refine y_iald (z := w 74 a2) dX22_transfer_248 ⟨200, i74, e3⟩ rfl rfl ?_
    refine y_Vi 364 (M := mX8_pair) (As := [(0, a9), (0, w 74 a2)]) (st := [(0, w 56 a7), (2, 83)]) dX22_transfer_249 i27 rfl q2562 q2054 q2055 q375 q2056 rfl hmX8_pair rfl rfl rfl rfl rfl rfl rfl rfl (k_mono h (fun r4 w5 h => ?_))
    refine y_Vi 367 (M := mX19_run) (As := [(0, w 56 a7), (0, r4)]) (st := []) dX22_transfer_252 i83 rfl q2563 q2564 q2565 q386 q2566 rfl hmX19_run rfl rfl rfl rfl rfl rfl rfl rfl (k_mono h (fun r6 w7 h => ?_))
    refine x_istore 10 (ls' := [(2, 102), (0, a1), (0, a2), (0, a3), (1, a4), (9, 0), (9, 0), (0, a7), (0, a8), (0, a9), (0, r6), (9, 0)]) dX22_transfer_255 rfl rfl rfl ?_
    refine x_aload_n 0 dX22_transfer_257 rfl rfl rfl rfl rfl ?_
    refine y_getF 56 6 (c := 20) (z := 27) dX22_transfer_258 i102 rfl in_X22 q1411 rfl rfl rfl fn_102_6 (Nat.le_trans (Nat.le_of_ble_eq_true rfl) hn) rfl ?_
    refine x_iload 10 dX22_transfer_261 rfl rfl ?_
    refine x_iconst 3 (z := 3) dX22_transfer_263 rfl (by decide) rfl ?_
    refine y_Vi 370 (M := mX8_cell) (As := [(0, r6), (0, 3)]) (st := []) dX22_transfer_264 i27 rfl q2559 q2010 q2011 q375 q2012 rfl hmX8_cell rfl rfl rfl rfl rfl rfl rfl rfl (k_mono h (fun r8 w9 h => ?_))
    refine x_istore 11 (ls' := [(2, 102), (0, a1), (0, a2), (0, a3), (1, a4), (9, 0), (9, 0), (0, a7), (0, a8), (0, a9), (0, r6), (0, r8)]) dX22_transfer_267 rfl rfl rfl ?_
    refine x_aload_n 0 dX22_transfer_269 rfl rfl rfl rfl rfl ?_
    refine y_getF 72 10 (c := 20) (z := 82) dX22_transfer_270 i102 rfl in_X22 q1415 rfl rfl rfl fn_102_10 (Nat.le_trans (Nat.le_of_ble_eq_true rfl) hn) rfl ?_
    refine x_aload_n 0 dX22_transfer_273 rfl rfl rfl rfl rfl ?_
    refine x_iload 11 dX22_transfer_274 rfl rfl ?_
    refine x_iload 8 dX22_transfer_276 rfl rfl ?_
    refine y_Vl 333 (M := mX22_weight) (As := [(0, r8), (0, a8)]) (st := [(2, 82)]) dX22_transfer_278 i102 rfl q2552 q2554 qs107 q389 q2555 rfl hmX22_weight rfl rfl rfl rfl rfl rfl rfl rfl (k_mono h (fun r10 w11 h => ?_))
    refine x_ldc2 337 (x := 8) dX22_transfer_281 q2560 rfl (by decide) rfl ?_
    refine x_ldiv dX22_transfer_284 (by decide) rfl ?_
    refine y_Vv 232 (M := mX18_use) (As := [(1, b_ldiv r10 8)]) (st := []) dX22_transfer_285 i82 rfl q2499 q2500 q2501 q385 q2502 rfl hmX18_use rfl rfl rfl rfl rfl rfl rfl (k_mono h (fun r12 w13 h => ?_))
    refine x_aload_n 0 dX22_transfer_288 rfl rfl rfl rfl rfl ?_
    refine x_iload_n 2 dX22_transfer_289 rfl rfl rfl ?_
    refine x_iload 11 dX22_transfer_290 rfl rfl ?_
    refine x_iconst 0 (z := 0) dX22_transfer_292 rfl (by decide) rfl ?_
    refine y_Vv 373 (M := mX22_store) (As := [(0, a2), (0, r8), (0, 0)]) (st := []) dX22_transfer_293 i102 rfl q2528 q2530 qs104 q389 q2531 rfl hmX22_store rfl rfl rfl rfl rfl rfl rfl (k_mono h (fun r14 w15 h => ?_))
    refine x_aload_n 0 dX22_transfer_296 rfl rfl rfl rfl rfl ?_
    refine y_getF 25 19 (c := 20) (z := 105) dX22_transfer_297 i102 rfl in_X22 q1427 rfl rfl rfl fn_102_19 (Nat.le_trans (Nat.le_of_ble_eq_true rfl) hn) rfl ?_
    refine x_aload_n 0 dX22_transfer_300 rfl rfl rfl rfl rfl ?_
    refine y_get 185 21 (c := 20) (z := w15 102 21) dX22_transfer_301 i102 rfl in_X22 q1429 rfl rfl rfl rfl rfl ?_
    refine x_aload_n 0 dX22_transfer_304 rfl rfl rfl rfl rfl ?_
    refine y_getF 56 6 (c := 20) (z := 27) dX22_transfer_305 i102 rfl in_X22 q1411 rfl rfl rfl fn_102_6 (Nat.le_trans (Nat.le_of_ble_eq_true rfl) hn) rfl ?_
    refine x_iload 10 dX22_transfer_308 rfl rfl ?_
    refine x_iconst 2 (z := 2) dX22_transfer_310 rfl (by decide) rfl ?_
    refine y_Vi 370 (M := mX8_cell) (As := [(0, r6), (0, 2)]) (st := [(0, w15 102 21), (2, 105)]) dX22_transfer_311 i27 rfl q2559 q2010 q2011 q375 q2012 rfl hmX8_cell rfl rfl rfl rfl rfl rfl rfl rfl (k_mono h (fun r16 w17 h => ?_))
    obtain ⟨e18, h⟩ := h
    refine y_iast (x' := r16) dX22_transfer_314 ⟨80, i105, e18⟩ rfl rfl ?_
    refine x_aload_n 0 dX22_transfer_315 rfl rfl rfl rfl rfl ?_
    refine y_getF 29 20 (c := 20) (z := 106) dX22_transfer_316 i102 rfl in_X22 q1428 rfl rfl rfl fn_102_20 (Nat.le_trans (Nat.le_of_ble_eq_true rfl) hn) rfl ?_
    refine x_aload_n 0 dX22_transfer_319 rfl rfl rfl rfl rfl ?_
    refine x_dup dX22_transfer_320 rfl rfl ?_
    refine y_get 185 21 (c := 20) (z := w17 102 21) dX22_transfer_321 i102 rfl in_X22 q1429 rfl rfl rfl rfl rfl ?_
    refine x_dup_x1 dX22_transfer_324 rfl rfl rfl ?_
    refine x_iconst 1 (z := 1) dX22_transfer_325 rfl (by decide) rfl ?_
    refine x_iadd dX22_transfer_326 rfl ?_
    refine x_put 185 21 (c := 20) dX22_transfer_327 i102 rfl in_X22 tyX22_ok nmX22 q1429 rfl rfl rfl (Or.inl rfl) (Or.inl ⟨rfl, rfl⟩) rfl ?_
    refine x_iload_n 2 dX22_transfer_330 rfl rfl rfl ?_
    obtain ⟨e19, h⟩ := h
    refine y_iast (x' := a2) dX22_transfer_331 ⟨80, i106, e19⟩ rfl rfl ?_
    exact y_vret dX22_transfer_332 rfl h
  · refine x_aload_n 0 dX22_transfer_114 rfl rfl rfl rfl rfl ?_
    refine y_getF 44 3 (c := 20) (z := 53) dX22_transfer_115 i102 rfl in_X22 q1408 rfl rfl rfl fn_102_3 (Nat.le_trans (Nat.le_of_ble_eq_true rfl) hn) rfl ?_
    refine y_getF 342 9 (c := 14) (z := 62) dX22_transfer_118 i53 rfl in_X15 q1048 rfl rfl rfl fn_53_9 (Nat.le_trans (Nat.le_of_ble_eq_true rfl) hn) rfl ?_
    refine x_iload_n 3 dX22_transfer_121 rfl rfl rfl ?_
    obtain ⟨e20, h⟩ := h
    refine y_lald (z := w 62 a3) dX22_transfer_122 ⟨12000, i62, e20⟩ rfl rfl ?_
    refine x_iload 10 dX22_transfer_123 rfl rfl ?_
    refine x_lshr dX22_transfer_125 rfl ?_
    refine x_lconst 1 (z := 1) dX22_transfer_126 rfl (by decide) rfl ?_
    refine x_land dX22_transfer_127 rfl ?_
    refine x_lconst 0 (z := 0) dX22_transfer_128 rfl (by decide) rfl ?_
    refine x_lc_eq (q := 133) (t := 137) 7 dX22_transfer_129 dX22_transfer_130 rfl rfl (b_ite h (fun hc h => ?_) (fun hc h => ?_))
    · refine x_iconst 0 (z := 0) dX22_transfer_137 rfl (by decide) rfl ?_
      refine x_istore 11 (ls' := [(2, 102), (0, a1), (0, a2), (0, a3), (1, a4), (9, 0), (9, 0), (0, a7), (0, a8), (0, a9), (0, a10), (0, 0)]) dX22_transfer_138 rfl rfl rfl ?_
      refine x_aload_n 0 dX22_transfer_140 rfl rfl rfl rfl rfl ?_
      refine y_getF 56 6 (c := 20) (z := 27) dX22_transfer_141 i102 rfl in_X22 q1411 rfl rfl rfl fn_102_6 (Nat.le_trans (Nat.le_of_ble_eq_true rfl) hn) rfl ?_
      refine x_iload 11 dX22_transfer_144 rfl rfl ?_
      refine x_if_eq (t := 154) 8 dX22_transfer_146 rfl rfl (b_ifT (by decide) ?_)
      refine x_iconst 5 (z := 5) dX22_transfer_154 rfl (by decide) rfl ?_
      refine x_iload 9 dX22_transfer_155 rfl rfl ?_
      refine y_Vi 345 (M := mX8_wrap) (As := [(0, 5), (0, a9)]) (st := []) dX22_transfer_157 i27 rfl q2561 q2024 q2025 q375 q2026 rfl hmX8_wrap rfl rfl rfl rfl rfl rfl rfl rfl (k_mono h (fun r21 w22 h => ?_))
      refine x_istore 9 (ls' := [(2, 102), (0, a1), (0, a2), (0, a3), (1, a4), (9, 0), (9, 0), (0, a7), (0, a8), (0, r21), (0, a10), (0, 0)]) dX22_transfer_160 rfl rfl rfl ?_
      refine x_iinc 10 (-1) (ls' := [(2, 102), (0, a1), (0, a2), (0, a3), (1, a4), (9, 0), (9, 0), (0, a7), (0, a8), (0, r21), (0, b_i (a10 + (-1))), (0, 0)]) dX22_transfer_162 rfl rfl rfl rfl ?_
      refine x_goto (-56) (q := 109) dX22_transfer_165 rfl ?_
      exact x_fg (fgk (fgk (fgk (fgk (fgk (fgk (fgk (fgk (fgk (fgk (fgk (fgd (fg0))))))))))))) h
    · refine x_iconst 1 (z := 1) dX22_transfer_133 rfl (by decide) rfl ?_
      refine x_goto 4 (q := 138) dX22_transfer_134 rfl ?_
      refine x_istore 11 (ls' := [(2, 102), (0, a1), (0, a2), (0, a3), (1, a4), (9, 0), (9, 0), (0, a7), (0, a8), (0, a9), (0, a10), (0, 1)]) dX22_transfer_138 rfl rfl rfl ?_
      refine x_aload_n 0 dX22_transfer_140 rfl rfl rfl rfl rfl ?_
      refine y_getF 56 6 (c := 20) (z := 27) dX22_transfer_141 i102 rfl in_X22 q1411 rfl rfl rfl fn_102_6 (Nat.le_trans (Nat.le_of_ble_eq_true rfl) hn) rfl ?_
      refine x_iload 11 dX22_transfer_144 rfl rfl ?_
      refine x_if_eq (t := 154) 8 dX22_transfer_146 rfl rfl (b_ifF (by decide) ?_)
      refine x_bipush 6 (z := 6) dX22_transfer_149 rfl (by decide) rfl ?_
      refine x_goto 4 (q := 155) dX22_transfer_151 rfl ?_
      refine x_iload 9 dX22_transfer_155 rfl rfl ?_
      refine y_Vi 345 (M := mX8_wrap) (As := [(0, 6), (0, a9)]) (st := []) dX22_transfer_157 i27 rfl q2561 q2024 q2025 q375 q2026 rfl hmX8_wrap rfl rfl rfl rfl rfl rfl rfl rfl (k_mono h (fun r23 w24 h => ?_))
      refine x_istore 9 (ls' := [(2, 102), (0, a1), (0, a2), (0, a3), (1, a4), (9, 0), (9, 0), (0, a7), (0, a8), (0, r23), (0, a10), (0, 1)]) dX22_transfer_160 rfl rfl rfl ?_
      refine x_iinc 10 (-1) (ls' := [(2, 102), (0, a1), (0, a2), (0, a3), (1, a4), (9, 0), (9, 0), (0, a7), (0, a8), (0, r23), (0, b_i (a10 + (-1))), (0, 1)]) dX22_transfer_162 rfl rfl rfl rfl ?_
      refine x_goto (-56) (q := 109) dX22_transfer_165 rfl ?_
      exact x_fg (fgk (fgk (fgk (fgk (fgk (fgk (fgk (fgk (fgk (fgk (fgk (fgd (fg0))))))))))))) h
theorem rX22_weight {d n : Nat} {w : bW} {Q : Int → bW → Prop} {X : String → bW → Prop} (hn : 143 ≤ n) (a1 : Int) (a2 : Int) (h : b_K d mX7_is [(2, 19), (0, a2), (0, 2)] n w (fun r1 w2 => if r1 = 0 then ((0 ≤ a2 ∧ a2 < 60000) ∧ (if w2 20 a2 ≠ 16 then (b_K d mX8_cell [(2, 27), (0, a1), (0, 2)] n w2 (fun r4 w5 => (0 ≤ a2 ∧ a2 < 60000) ∧ (b_K d mX22_weight [(2, 102), (0, r4), (0, w5 21 a2)] n w5 (fun r7 w8 => b_K d mX8_cell [(2, 27), (0, a1), (0, 3)] n w8 (fun r9 w10 => (0 ≤ a2 ∧ a2 < 60000) ∧ (b_K d mX22_weight [(2, 102), (0, r9), (0, w10 22 a2)] n w10 (fun r12 w13 => Q (b_l ((b_l (2 + r7)) + r12)) w13) X)) X) X)) X) else (Q 5 w2))) else (b_K d mX8_length [(2, 27), (0, a1)] n w2 (fun r14 w15 => Q r14 w15) X)) X) : b_K (d + 1) mX22_weight [(2, 102), (0, a1), (0, a2)] n w Q X := by
  have i19 := iz19 (Nat.le_trans (Nat.le_of_ble_eq_true rfl) hn)
  have i20 := iz20 (Nat.le_trans (Nat.le_of_ble_eq_true rfl) hn)
  have i21 := iz21 (Nat.le_trans (Nat.le_of_ble_eq_true rfl) hn)
  have i22 := iz22 (Nat.le_trans (Nat.le_of_ble_eq_true rfl) hn)
  have i27 := iz27 (Nat.le_trans (Nat.le_of_ble_eq_true rfl) hn)
  have i102 := iz102 (Nat.le_trans (Nat.le_of_ble_eq_true rfl) hn)
  refine k_of (by decide) rfl rfl rfl (ls := [(2, 102), (0, a1), (0, a2)]) rfl ?_
  refine x_aload_n 0 dX22_weight_0 rfl rfl rfl rfl rfl ?_
  refine y_getF 36 1 (c := 20) (z := 19) dX22_weight_1 i102 rfl in_X22 q1406 rfl rfl rfl fn_102_1 (Nat.le_trans (Nat.le_of_ble_eq_true rfl) hn) rfl ?_
  refine x_iload_n 2 dX22_weight_4 rfl rfl rfl ?_
  refine x_iconst 2 (z := 2) dX22_weight_5 rfl (by decide) rfl ?_
  refine y_Vi 376 (M := mX7_is) (As := [(0, a2), (0, 2)]) (st := []) dX22_weight_6 i19 rfl q2556 q744 q745 q374 q746 rfl hmX7_is rfl rfl rfl rfl rfl rfl rfl rfl (k_mono h (fun r1 w2 h => ?_))
  refine x_if_eq (t := 22) 13 dX22_weight_9 rfl rfl (b_ite h (fun hc h => ?_) (fun hc h => ?_))
  · refine x_aload_n 0 dX22_weight_22 rfl rfl rfl rfl rfl ?_
    refine y_getF 36 1 (c := 20) (z := 19) dX22_weight_23 i102 rfl in_X22 q1406 rfl rfl rfl fn_102_1 (Nat.le_trans (Nat.le_of_ble_eq_true rfl) hn) rfl ?_
    refine y_getF 380 0 (c := 6) (z := 20) dX22_weight_26 i19 rfl in_X7 q756 rfl rfl rfl fn_19_0 (Nat.le_trans (Nat.le_of_ble_eq_true rfl) hn) rfl ?_
    refine x_iload_n 2 dX22_weight_29 rfl rfl rfl ?_
    obtain ⟨e3, h⟩ := h
    refine y_bald (z := w2 20 a2) dX22_weight_30 ⟨60000, i20, e3⟩ rfl rfl ?_
    refine x_bipush 16 (z := 16) dX22_weight_31 rfl (by decide) rfl ?_
    refine x_icmp_ne (t := 40) 7 dX22_weight_33 rfl rfl (b_ite h (fun hc h => ?_) (fun hc h => ?_))
    · refine x_ldc2 385 (x := 2) dX22_weight_40 q2558 rfl (by decide) rfl ?_
      refine x_aload_n 0 dX22_weight_43 rfl rfl rfl rfl rfl ?_
      refine x_aload_n 0 dX22_weight_44 rfl rfl rfl rfl rfl ?_
      refine y_getF 56 6 (c := 20) (z := 27) dX22_weight_45 i102 rfl in_X22 q1411 rfl rfl rfl fn_102_6 (Nat.le_trans (Nat.le_of_ble_eq_true rfl) hn) rfl ?_
      refine x_iload_n 1 dX22_weight_48 rfl rfl rfl ?_
      refine x_iconst 2 (z := 2) dX22_weight_49 rfl (by decide) rfl ?_
      refine y_Vi 370 (M := mX8_cell) (As := [(0, a1), (0, 2)]) (st := [(2, 102), (1, 2)]) dX22_weight_50 i27 rfl q2559 q2010 q2011 q375 q2012 rfl hmX8_cell rfl rfl rfl rfl rfl rfl rfl rfl (k_mono h (fun r4 w5 h => ?_))
      refine x_aload_n 0 dX22_weight_53 rfl rfl rfl rfl rfl ?_
      refine y_getF 36 1 (c := 20) (z := 19) dX22_weight_54 i102 rfl in_X22 q1406 rfl rfl rfl fn_102_1 (Nat.le_trans (Nat.le_of_ble_eq_true rfl) hn) rfl ?_
      refine y_getF 387 1 (c := 6) (z := 21) dX22_weight_57 i19 rfl in_X7 q762 rfl rfl rfl fn_19_1 (Nat.le_trans (Nat.le_of_ble_eq_true rfl) hn) rfl ?_
      refine x_iload_n 2 dX22_weight_60 rfl rfl rfl ?_
      obtain ⟨e6, h⟩ := h
      refine y_iald (z := w5 21 a2) dX22_weight_61 ⟨60000, i21, e6⟩ rfl rfl ?_
      refine y_Vl 333 (M := mX22_weight) (As := [(0, r4), (0, w5 21 a2)]) (st := [(1, 2)]) dX22_weight_62 i102 rfl q2552 q2554 qs107 q389 q2555 rfl hmX22_weight rfl rfl rfl rfl rfl rfl rfl rfl (k_mono h (fun r7 w8 h => ?_))
      refine x_ladd dX22_weight_65 rfl ?_
      refine x_aload_n 0 dX22_weight_66 rfl rfl rfl rfl rfl ?_
      refine x_aload_n 0 dX22_weight_67 rfl rfl rfl rfl rfl ?_
      refine y_getF 56 6 (c := 20) (z := 27) dX22_weight_68 i102 rfl in_X22 q1411 rfl rfl rfl fn_102_6 (Nat.le_trans (Nat.le_of_ble_eq_true rfl) hn) rfl ?_
      refine x_iload_n 1 dX22_weight_71 rfl rfl rfl ?_
      refine x_iconst 3 (z := 3) dX22_weight_72 rfl (by decide) rfl ?_
      refine y_Vi 370 (M := mX8_cell) (As := [(0, a1), (0, 3)]) (st := [(2, 102), (1, b_l (2 + r7))]) dX22_weight_73 i27 rfl q2559 q2010 q2011 q375 q2012 rfl hmX8_cell rfl rfl rfl rfl rfl rfl rfl rfl (k_mono h (fun r9 w10 h => ?_))
      refine x_aload_n 0 dX22_weight_76 rfl rfl rfl rfl rfl ?_
      refine y_getF 36 1 (c := 20) (z := 19) dX22_weight_77 i102 rfl in_X22 q1406 rfl rfl rfl fn_102_1 (Nat.le_trans (Nat.le_of_ble_eq_true rfl) hn) rfl ?_
      refine y_getF 390 2 (c := 6) (z := 22) dX22_weight_80 i19 rfl in_X7 q768 rfl rfl rfl fn_19_2 (Nat.le_trans (Nat.le_of_ble_eq_true rfl) hn) rfl ?_
      refine x_iload_n 2 dX22_weight_83 rfl rfl rfl ?_
      obtain ⟨e11, h⟩ := h
      refine y_iald (z := w10 22 a2) dX22_weight_84 ⟨60000, i22, e11⟩ rfl rfl ?_
      refine y_Vl 333 (M := mX22_weight) (As := [(0, r9), (0, w10 22 a2)]) (st := [(1, b_l (2 + r7))]) dX22_weight_85 i102 rfl q2552 q2554 qs107 q389 q2555 rfl hmX22_weight rfl rfl rfl rfl rfl rfl rfl rfl (k_mono h (fun r12 w13 h => ?_))
      refine x_ladd dX22_weight_88 rfl ?_
      exact y_lret dX22_weight_89 rfl h
    · refine x_ldc2 383 (x := 5) dX22_weight_36 q2557 rfl (by decide) rfl ?_
      exact y_lret dX22_weight_39 rfl h
  · refine x_aload_n 0 dX22_weight_12 rfl rfl rfl rfl rfl ?_
    refine y_getF 56 6 (c := 20) (z := 27) dX22_weight_13 i102 rfl in_X22 q1411 rfl rfl rfl fn_102_6 (Nat.le_trans (Nat.le_of_ble_eq_true rfl) hn) rfl ?_
    refine x_iload_n 1 dX22_weight_16 rfl rfl rfl ?_
    refine y_Vi 214 (M := mX8_length) (As := [(0, a1)]) (st := []) dX22_weight_17 i27 rfl q2532 q2028 q2029 q375 q2030 rfl hmX8_length rfl rfl rfl rfl rfl rfl rfl rfl (k_mono h (fun r14 w15 h => ?_))
    refine x_i2l dX22_weight_20 rfl ?_
    exact y_lret dX22_weight_21 rfl h
abbrev LX22_next_103 (d n : Nat) (Q : Int → bW → Prop) (X : String → bW → Prop) (a2 : Int) (a3 : Int) (s0 : Int) (w : bW) : Prop := b_Y (d + 1) mX22_next n Q X 103 [(2, 102), (9, 0), (0, a2), (0, a3), (9, 0), (9, 0), (9, 0), (9, 0), (9, 0)] [(0, s0), (2, 2)] w
theorem rX22_next {d n : Nat} {w : bW} {Q : Int → bW → Prop} {X : String → bW → Prop} (hn : 143 ≤ n) (h : (0 ≤ b_i ((w 102 21) - 1) ∧ b_i ((w 102 21) - 1) < 80) ∧ (if w 105 (b_i ((w 102 21) - 1)) ≠ 10 then ((0 ≤ b_i ((w 102 21) - 1) ∧ b_i ((w 102 21) - 1) < 80) ∧ (b_K d mX8_cell [(2, 27), (0, w 105 (b_i ((w 102 21) - 1))), (0, 2)] n w (fun r3 w4 => b_K d mX8_cell [(2, 27), (0, w 105 (b_i ((w 102 21) - 1))), (0, 3)] n w4 (fun r5 w6 => (0 ≤ b_i ((w4 102 21) - 1) ∧ b_i ((w4 102 21) - 1) < 80) ∧ (b_is n (w6 102 18) 0 22 6 ∧ (if 64 ≤ (b_up w6 105 (b_i ((w4 102 21) - 1)) r5) (w6 102 18) 3 then (LX22_next_103 d n Q X (w 106 (b_i ((w 102 21) - 1))) r3 0 (b_up w6 105 (b_i ((w4 102 21) - 1)) r5)) else (b_K d mX8_begin [(2, 27), (0, r3)] n (b_up w6 105 (b_i ((w4 102 21) - 1)) r5) (fun r9 w10 => if r9 ≠ 0 then (LX22_next_103 d n Q X (w 106 (b_i ((w 102 21) - 1))) r3 0 w10) else (LX22_next_103 d n Q X (w 106 (b_i ((w 102 21) - 1))) r3 1 w10)) X)))) X) X)) else (Q 0 (b_up w 102 21 (b_i ((w 102 21) - 1)))))) : b_K (d + 1) mX22_next [(2, 102)] n w Q X := by
  have i27 := iz27 (Nat.le_trans (Nat.le_of_ble_eq_true rfl) hn)
  have i102 := iz102 (Nat.le_trans (Nat.le_of_ble_eq_true rfl) hn)
  have i105 := iz105 (Nat.le_trans (Nat.le_of_ble_eq_true rfl) hn)
  have i106 := iz106 (Nat.le_trans (Nat.le_of_ble_eq_true rfl) hn)
  refine k_of (by decide) rfl rfl rfl (ls := [(2, 102), (9, 0), (9, 0), (9, 0), (9, 0), (9, 0), (9, 0), (9, 0), (9, 0)]) rfl ?_
  refine x_aload_n 0 dX22_next_0 rfl rfl rfl rfl rfl ?_
  refine y_getF 25 19 (c := 20) (z := 105) dX22_next_1 i102 rfl in_X22 q1427 rfl rfl rfl fn_102_19 (Nat.le_trans (Nat.le_of_ble_eq_true rfl) hn) rfl ?_
  refine x_aload_n 0 dX22_next_4 rfl rfl rfl rfl rfl ?_
  refine y_get 185 21 (c := 20) (z := w 102 21) dX22_next_5 i102 rfl in_X22 q1429 rfl rfl rfl rfl rfl ?_
  refine x_iconst 1 (z := 1) dX22_next_8 rfl (by decide) rfl ?_
  refine x_isub dX22_next_9 rfl ?_
  obtain ⟨e1, h⟩ := h
  refine y_iald (z := w 105 (b_i ((w 102 21) - 1))) dX22_next_10 ⟨80, i105, e1⟩ rfl rfl ?_
  refine x_istore_n 1 (ls' := [(2, 102), (0, w 105 (b_i ((w 102 21) - 1))), (9, 0), (9, 0), (9, 0), (9, 0), (9, 0), (9, 0), (9, 0)]) dX22_next_11 rfl rfl rfl rfl ?_
  refine x_iload_n 1 dX22_next_12 rfl rfl rfl ?_
  refine x_bipush 10 (z := 10) dX22_next_13 rfl (by decide) rfl ?_
  refine x_icmp_ne (t := 29) 14 dX22_next_15 rfl rfl (b_ite h (fun hc h => ?_) (fun hc h => ?_))
  · refine x_aload_n 0 dX22_next_29 rfl rfl rfl rfl rfl ?_
    refine y_getF 29 20 (c := 20) (z := 106) dX22_next_30 i102 rfl in_X22 q1428 rfl rfl rfl fn_102_20 (Nat.le_trans (Nat.le_of_ble_eq_true rfl) hn) rfl ?_
    refine x_aload_n 0 dX22_next_33 rfl rfl rfl rfl rfl ?_
    refine y_get 185 21 (c := 20) (z := w 102 21) dX22_next_34 i102 rfl in_X22 q1429 rfl rfl rfl rfl rfl ?_
    refine x_iconst 1 (z := 1) dX22_next_37 rfl (by decide) rfl ?_
    refine x_isub dX22_next_38 rfl ?_
    obtain ⟨e2, h⟩ := h
    refine y_iald (z := w 106 (b_i ((w 102 21) - 1))) dX22_next_39 ⟨80, i106, e2⟩ rfl rfl ?_
    refine x_istore_n 2 (ls' := [(2, 102), (0, w 105 (b_i ((w 102 21) - 1))), (0, w 106 (b_i ((w 102 21) - 1))), (9, 0), (9, 0), (9, 0), (9, 0), (9, 0), (9, 0)]) dX22_next_40 rfl rfl rfl rfl ?_
    refine x_aload_n 0 dX22_next_41 rfl rfl rfl rfl rfl ?_
    refine y_getF 56 6 (c := 20) (z := 27) dX22_next_42 i102 rfl in_X22 q1411 rfl rfl rfl fn_102_6 (Nat.le_trans (Nat.le_of_ble_eq_true rfl) hn) rfl ?_
    refine x_iload_n 1 dX22_next_45 rfl rfl rfl ?_
    refine x_iconst 2 (z := 2) dX22_next_46 rfl (by decide) rfl ?_
    refine y_Vi 370 (M := mX8_cell) (As := [(0, w 105 (b_i ((w 102 21) - 1))), (0, 2)]) (st := []) dX22_next_47 i27 rfl q2559 q2010 q2011 q375 q2012 rfl hmX8_cell rfl rfl rfl rfl rfl rfl rfl rfl (k_mono h (fun r3 w4 h => ?_))
    refine x_istore_n 3 (ls' := [(2, 102), (0, w 105 (b_i ((w 102 21) - 1))), (0, w 106 (b_i ((w 102 21) - 1))), (0, r3), (9, 0), (9, 0), (9, 0), (9, 0), (9, 0)]) dX22_next_50 rfl rfl rfl rfl ?_
    refine x_aload_n 0 dX22_next_51 rfl rfl rfl rfl rfl ?_
    refine y_getF 25 19 (c := 20) (z := 105) dX22_next_52 i102 rfl in_X22 q1427 rfl rfl rfl fn_102_19 (Nat.le_trans (Nat.le_of_ble_eq_true rfl) hn) rfl ?_
    refine x_aload_n 0 dX22_next_55 rfl rfl rfl rfl rfl ?_
    refine y_get 185 21 (c := 20) (z := w4 102 21) dX22_next_56 i102 rfl in_X22 q1429 rfl rfl rfl rfl rfl ?_
    refine x_iconst 1 (z := 1) dX22_next_59 rfl (by decide) rfl ?_
    refine x_isub dX22_next_60 rfl ?_
    refine x_aload_n 0 dX22_next_61 rfl rfl rfl rfl rfl ?_
    refine y_getF 56 6 (c := 20) (z := 27) dX22_next_62 i102 rfl in_X22 q1411 rfl rfl rfl fn_102_6 (Nat.le_trans (Nat.le_of_ble_eq_true rfl) hn) rfl ?_
    refine x_iload_n 1 dX22_next_65 rfl rfl rfl ?_
    refine x_iconst 3 (z := 3) dX22_next_66 rfl (by decide) rfl ?_
    refine y_Vi 370 (M := mX8_cell) (As := [(0, w 105 (b_i ((w 102 21) - 1))), (0, 3)]) (st := [(0, b_i ((w4 102 21) - 1)), (2, 105)]) dX22_next_67 i27 rfl q2559 q2010 q2011 q375 q2012 rfl hmX8_cell rfl rfl rfl rfl rfl rfl rfl rfl (k_mono h (fun r5 w6 h => ?_))
    obtain ⟨e7, h⟩ := h
    refine y_iast (x' := r5) dX22_next_70 ⟨80, i105, e7⟩ rfl rfl ?_
    refine x_aload_n 0 dX22_next_71 rfl rfl rfl rfl rfl ?_
    refine y_getF 68 9 (c := 20) (z := 2) dX22_next_72 i102 rfl in_X22 q1414 rfl rfl rfl fn_102_9 (Nat.le_trans (Nat.le_of_ble_eq_true rfl) hn) rfl ?_
    refine x_aload_n 0 dX22_next_75 rfl rfl rfl rfl rfl ?_
    refine y_get 153 18 (c := 20) (z := w6 102 18) dX22_next_76 i102 rfl in_X22 q1426 rfl rfl rfl rfl rfl ?_
    obtain ⟨e8, h⟩ := h
    refine y_get 415 3 (c := 22) (z := (b_up w6 105 (b_i ((w4 102 21) - 1)) r5) (w6 102 18) 3) dX22_next_79 e8 rfl in_X24 q1546 rfl rfl rfl rfl rfl ?_
    refine x_bipush 64 (z := 64) dX22_next_82 rfl (by decide) rfl ?_
    refine x_icmp_ge (t := 102) 18 dX22_next_84 rfl rfl (b_ite h (fun hc h => ?_) (fun hc h => ?_))
    · refine x_iconst 0 (z := 0) dX22_next_102 rfl (by decide) rfl ?_
      exact x_fg (fgk (fgd (fgk (fgk (fgk (fgk (fgk (fgk (fgk (fg0)))))))))) h
    · refine x_aload_n 0 dX22_next_87 rfl rfl rfl rfl rfl ?_
      refine y_getF 56 6 (c := 20) (z := 27) dX22_next_88 i102 rfl in_X22 q1411 rfl rfl rfl fn_102_6 (Nat.le_trans (Nat.le_of_ble_eq_true rfl) hn) rfl ?_
      refine x_iload_n 3 dX22_next_91 rfl rfl rfl ?_
      refine y_Vi 418 (M := mX8_begin) (As := [(0, r3)]) (st := [(2, 2)]) dX22_next_92 i27 rfl q3006 q3007 q3008 q375 q3009 rfl hmX8_begin rfl rfl rfl rfl rfl rfl rfl rfl (k_mono h (fun r9 w10 h => ?_))
      refine x_if_ne (t := 102) 7 dX22_next_95 rfl rfl (b_ite h (fun hc h => ?_) (fun hc h => ?_))
      · refine x_iconst 0 (z := 0) dX22_next_102 rfl (by decide) rfl ?_
        exact x_fg (fgk (fgd (fgk (fgk (fgk (fgk (fgk (fgk (fgk (fg0)))))))))) h
      · refine x_iconst 1 (z := 1) dX22_next_98 rfl (by decide) rfl ?_
        refine x_goto 4 (q := 103) dX22_next_99 rfl ?_
        exact x_fg (fgk (fgd (fgk (fgk (fgk (fgk (fgk (fgk (fgk (fg0)))))))))) h
  · refine x_aload_n 0 dX22_next_18 rfl rfl rfl rfl rfl ?_
    refine x_dup dX22_next_19 rfl rfl ?_
    refine y_get 185 21 (c := 20) (z := w 102 21) dX22_next_20 i102 rfl in_X22 q1429 rfl rfl rfl rfl rfl ?_
    refine x_iconst 1 (z := 1) dX22_next_23 rfl (by decide) rfl ?_
    refine x_isub dX22_next_24 rfl ?_
    refine x_put 185 21 (c := 20) dX22_next_25 i102 rfl in_X22 tyX22_ok nmX22 q1429 rfl rfl rfl (Or.inl rfl) (Or.inl ⟨rfl, rfl⟩) rfl ?_
    exact y_vret dX22_next_28 rfl h
theorem sX22_next_103 {d n : Nat} {w : bW} {Q : Int → bW → Prop} {X : String → bW → Prop} (hn : 143 ≤ n) (a2 : Int) (a3 : Int) (s0 : Int) (h : b_K d mX2_want [(2, 2), (0, s0), (0, 10)] n w (fun r1 w2 => b_is n (w2 102 18) 0 22 6 ∧ (b_K d mX8_cell [(2, 27), (0, a3), (0, 2)] n (b_up w2 (w2 102 18) 3 (b_i ((w2 (w2 102 18) 3) + 1))) (fun r4 w5 => b_K d mX8_toLong [(2, 27), (0, r4)] n w5 (fun r6 w7 => b_K d mX8_cell [(2, 27), (0, a3), (0, 3)] n w7 (fun r8 w9 => b_K d mX8_cell [(2, 27), (0, a3), (0, 5)] n w9 (fun r10 w11 => b_K d mX8_cell [(2, 27), (0, a3), (0, 7)] n w11 (fun r12 w13 => if r12 < 0 then ((0 ≤ a2 ∧ a2 < 200) ∧ (if w13 71 a2 < r6 then (b_K d mX2_want [(2, 2), (0, 0), (0, 5)] n w13 (fun r15 w16 => b_K d mX8_cell [(2, 27), (0, a3), (0, 6)] n w16 (fun r17 w18 => b_K d mX22_entryOf [(2, 102), (0, r10), (0, r17)] n w18 (fun r19 w20 => b_K d mX22_transfer [(2, 102), (0, a2), (0, r10), (0, r19), (1, r6), (0, r8)] n w20 (fun r21 w22 => Q 0 w22) X) X) X) X) else (b_K d mX2_want [(2, 2), (0, 1), (0, 5)] n w13 (fun r23 w24 => b_K d mX8_cell [(2, 27), (0, a3), (0, 6)] n w24 (fun r25 w26 => b_K d mX22_entryOf [(2, 102), (0, r10), (0, r25)] n w26 (fun r27 w28 => b_K d mX22_transfer [(2, 102), (0, a2), (0, r10), (0, r27), (1, r6), (0, r8)] n w28 (fun r29 w30 => Q 0 w30) X) X) X) X))) else (b_K d mX22_make [(2, 102), (0, a2), (0, r10), (0, r12), (1, r6), (0, r8)] n w13 (fun r31 w32 => Q 0 w32) X)) X) X) X) X) X)) X) : LX22_next_103 d n Q X a2 a3 s0 w := by
  have i2 := iz2 (Nat.le_trans (Nat.le_of_ble_eq_true rfl) hn)
  have i27 := iz27 (Nat.le_trans (Nat.le_of_ble_eq_true rfl) hn)
  have i70 := iz70 (Nat.le_trans (Nat.le_of_ble_eq_true rfl) hn)
  have i71 := iz71 (Nat.le_trans (Nat.le_of_ble_eq_true rfl) hn)
  have i102 := iz102 (Nat.le_trans (Nat.le_of_ble_eq_true rfl) hn)
  refine x_bipush 10 (z := 10) dX22_next_103 rfl (by decide) rfl ?_
  refine y_Vv 256 (M := mX2_want) (As := [(0, s0), (0, 10)]) (st := []) dX22_next_105 i2 rfl q2507 q1954 q1955 q359 q1956 rfl hmX2_want rfl rfl rfl rfl rfl rfl rfl (k_mono h (fun r1 w2 h => ?_))
  refine x_aload_n 0 dX22_next_108 rfl rfl rfl rfl rfl ?_
  refine y_get 153 18 (c := 20) (z := w2 102 18) dX22_next_109 i102 rfl in_X22 q1426 rfl rfl rfl rfl rfl ?_
  refine x_dup dX22_next_112 rfl rfl ?_
  obtain ⟨e3, h⟩ := h
  refine y_get 415 3 (c := 22) (z := w2 (w2 102 18) 3) dX22_next_113 e3 rfl in_X24 q1546 rfl rfl rfl rfl rfl ?_
  refine x_iconst 1 (z := 1) dX22_next_116 rfl (by decide) rfl ?_
  refine x_iadd dX22_next_117 rfl ?_
  refine x_put 415 3 (c := 22) dX22_next_118 e3 rfl in_X24 tyX24_ok nmX24 q1546 rfl rfl rfl (Or.inl rfl) (Or.inl ⟨rfl, rfl⟩) rfl ?_
  refine x_aload_n 0 dX22_next_121 rfl rfl rfl rfl rfl ?_
  refine y_getF 56 6 (c := 20) (z := 27) dX22_next_122 i102 rfl in_X22 q1411 rfl rfl rfl fn_102_6 (Nat.le_trans (Nat.le_of_ble_eq_true rfl) hn) rfl ?_
  refine x_aload_n 0 dX22_next_125 rfl rfl rfl rfl rfl ?_
  refine y_getF 56 6 (c := 20) (z := 27) dX22_next_126 i102 rfl in_X22 q1411 rfl rfl rfl fn_102_6 (Nat.le_trans (Nat.le_of_ble_eq_true rfl) hn) rfl ?_
  refine x_iload_n 3 dX22_next_129 rfl rfl rfl ?_
  refine x_iconst 2 (z := 2) dX22_next_130 rfl (by decide) rfl ?_
  refine y_Vi 370 (M := mX8_cell) (As := [(0, a3), (0, 2)]) (st := [(2, 27)]) dX22_next_131 i27 rfl q2559 q2010 q2011 q375 q2012 rfl hmX8_cell rfl rfl rfl rfl rfl rfl rfl rfl (k_mono h (fun r4 w5 h => ?_))
  refine y_Vl 420 (M := mX8_toLong) (As := [(0, r4)]) (st := []) dX22_next_134 i27 rfl q3010 q3011 q3012 q375 q3013 rfl hmX8_toLong rfl rfl rfl rfl rfl rfl rfl rfl (k_mono h (fun r6 w7 h => ?_))
  refine x_lstore 4 (ls' := [(2, 102), (9, 0), (0, a2), (0, a3), (1, r6), (9, 0), (9, 0), (9, 0), (9, 0)]) dX22_next_137 rfl rfl rfl ?_
  refine x_aload_n 0 dX22_next_139 rfl rfl rfl rfl rfl ?_
  refine y_getF 56 6 (c := 20) (z := 27) dX22_next_140 i102 rfl in_X22 q1411 rfl rfl rfl fn_102_6 (Nat.le_trans (Nat.le_of_ble_eq_true rfl) hn) rfl ?_
  refine x_iload_n 3 dX22_next_143 rfl rfl rfl ?_
  refine x_iconst 3 (z := 3) dX22_next_144 rfl (by decide) rfl ?_
  refine y_Vi 370 (M := mX8_cell) (As := [(0, a3), (0, 3)]) (st := []) dX22_next_145 i27 rfl q2559 q2010 q2011 q375 q2012 rfl hmX8_cell rfl rfl rfl rfl rfl rfl rfl rfl (k_mono h (fun r8 w9 h => ?_))
  refine x_istore 6 (ls' := [(2, 102), (9, 0), (0, a2), (0, a3), (1, r6), (9, 0), (0, r8), (9, 0), (9, 0)]) dX22_next_148 rfl rfl rfl ?_
  refine x_aload_n 0 dX22_next_150 rfl rfl rfl rfl rfl ?_
  refine y_getF 56 6 (c := 20) (z := 27) dX22_next_151 i102 rfl in_X22 q1411 rfl rfl rfl fn_102_6 (Nat.le_trans (Nat.le_of_ble_eq_true rfl) hn) rfl ?_
  refine x_iload_n 3 dX22_next_154 rfl rfl rfl ?_
  refine x_iconst 5 (z := 5) dX22_next_155 rfl (by decide) rfl ?_
  refine y_Vi 370 (M := mX8_cell) (As := [(0, a3), (0, 5)]) (st := []) dX22_next_156 i27 rfl q2559 q2010 q2011 q375 q2012 rfl hmX8_cell rfl rfl rfl rfl rfl rfl rfl rfl (k_mono h (fun r10 w11 h => ?_))
  refine x_istore 7 (ls' := [(2, 102), (9, 0), (0, a2), (0, a3), (1, r6), (9, 0), (0, r8), (0, r10), (9, 0)]) dX22_next_159 rfl rfl rfl ?_
  refine x_aload_n 0 dX22_next_161 rfl rfl rfl rfl rfl ?_
  refine y_getF 56 6 (c := 20) (z := 27) dX22_next_162 i102 rfl in_X22 q1411 rfl rfl rfl fn_102_6 (Nat.le_trans (Nat.le_of_ble_eq_true rfl) hn) rfl ?_
  refine x_iload_n 3 dX22_next_165 rfl rfl rfl ?_
  refine x_bipush 7 (z := 7) dX22_next_166 rfl (by decide) rfl ?_
  refine y_Vi 370 (M := mX8_cell) (As := [(0, a3), (0, 7)]) (st := []) dX22_next_168 i27 rfl q2559 q2010 q2011 q375 q2012 rfl hmX8_cell rfl rfl rfl rfl rfl rfl rfl rfl (k_mono h (fun r12 w13 h => ?_))
  refine x_istore 8 (ls' := [(2, 102), (9, 0), (0, a2), (0, a3), (1, r6), (9, 0), (0, r8), (0, r10), (0, r12)]) dX22_next_171 rfl rfl rfl ?_
  refine x_iload 8 dX22_next_173 rfl rfl ?_
  refine x_if_lt (t := 192) 17 dX22_next_175 rfl rfl (b_ite h (fun hc h => ?_) (fun hc h => ?_))
  · refine x_aload_n 0 dX22_next_192 rfl rfl rfl rfl rfl ?_
    refine y_getF 68 9 (c := 20) (z := 2) dX22_next_193 i102 rfl in_X22 q1414 rfl rfl rfl fn_102_9 (Nat.le_trans (Nat.le_of_ble_eq_true rfl) hn) rfl ?_
    refine x_aload_n 0 dX22_next_196 rfl rfl rfl rfl rfl ?_
    refine y_getF 64 8 (c := 20) (z := 70) dX22_next_197 i102 rfl in_X22 q1413 rfl rfl rfl fn_102_8 (Nat.le_trans (Nat.le_of_ble_eq_true rfl) hn) rfl ?_
    refine y_getF 280 0 (c := 16) (z := 71) dX22_next_200 i70 rfl in_X17 q1160 rfl rfl rfl fn_70_0 (Nat.le_trans (Nat.le_of_ble_eq_true rfl) hn) rfl ?_
    refine x_iload_n 2 dX22_next_203 rfl rfl rfl ?_
    obtain ⟨e14, h⟩ := h
    refine y_lald (z := w13 71 a2) dX22_next_204 ⟨200, i71, e14⟩ rfl rfl ?_
    refine x_lload 4 dX22_next_205 rfl rfl ?_
    refine x_lc_lt (q := 211) (t := 215) 7 dX22_next_207 dX22_next_208 rfl rfl (b_ite h (fun hc h => ?_) (fun hc h => ?_))
    · refine x_iconst 0 (z := 0) dX22_next_215 rfl (by decide) rfl ?_
      refine x_iconst 5 (z := 5) dX22_next_216 rfl (by decide) rfl ?_
      refine y_Vv 256 (M := mX2_want) (As := [(0, 0), (0, 5)]) (st := []) dX22_next_217 i2 rfl q2507 q1954 q1955 q359 q1956 rfl hmX2_want rfl rfl rfl rfl rfl rfl rfl (k_mono h (fun r15 w16 h => ?_))
      refine x_aload_n 0 dX22_next_220 rfl rfl rfl rfl rfl ?_
      refine x_iload_n 2 dX22_next_221 rfl rfl rfl ?_
      refine x_iload 7 dX22_next_222 rfl rfl ?_
      refine x_aload_n 0 dX22_next_224 rfl rfl rfl rfl rfl ?_
      refine x_iload 7 dX22_next_225 rfl rfl ?_
      refine x_aload_n 0 dX22_next_227 rfl rfl rfl rfl rfl ?_
      refine y_getF 56 6 (c := 20) (z := 27) dX22_next_228 i102 rfl in_X22 q1411 rfl rfl rfl fn_102_6 (Nat.le_trans (Nat.le_of_ble_eq_true rfl) hn) rfl ?_
      refine x_iload_n 3 dX22_next_231 rfl rfl rfl ?_
      refine x_bipush 6 (z := 6) dX22_next_232 rfl (by decide) rfl ?_
      refine y_Vi 370 (M := mX8_cell) (As := [(0, a3), (0, 6)]) (st := [(0, r10), (2, 102), (0, r10), (0, a2), (2, 102)]) dX22_next_234 i27 rfl q2559 q2010 q2011 q375 q2012 rfl hmX8_cell rfl rfl rfl rfl rfl rfl rfl rfl (k_mono h (fun r17 w18 h => ?_))
      refine y_Vi 288 (M := mX22_entryOf) (As := [(0, r10), (0, r17)]) (st := [(0, r10), (0, a2), (2, 102)]) dX22_next_237 i102 rfl q2543 q2545 qs105 q389 q2546 rfl hmX22_entryOf rfl rfl rfl rfl rfl rfl rfl rfl (k_mono h (fun r19 w20 h => ?_))
      refine x_lload 4 dX22_next_240 rfl rfl ?_
      refine x_iload 6 dX22_next_242 rfl rfl ?_
      refine y_Vv 297 (M := mX22_transfer) (As := [(0, a2), (0, r10), (0, r19), (1, r6), (0, r8)]) (st := []) dX22_next_244 i102 rfl q2548 q2550 qs106 q389 q2551 rfl hmX22_transfer rfl rfl rfl rfl rfl rfl rfl (k_mono h (fun r21 w22 h => ?_))
      exact y_vret dX22_next_247 rfl h
    · refine x_iconst 1 (z := 1) dX22_next_211 rfl (by decide) rfl ?_
      refine x_goto 4 (q := 216) dX22_next_212 rfl ?_
      refine x_iconst 5 (z := 5) dX22_next_216 rfl (by decide) rfl ?_
      refine y_Vv 256 (M := mX2_want) (As := [(0, 1), (0, 5)]) (st := []) dX22_next_217 i2 rfl q2507 q1954 q1955 q359 q1956 rfl hmX2_want rfl rfl rfl rfl rfl rfl rfl (k_mono h (fun r23 w24 h => ?_))
      refine x_aload_n 0 dX22_next_220 rfl rfl rfl rfl rfl ?_
      refine x_iload_n 2 dX22_next_221 rfl rfl rfl ?_
      refine x_iload 7 dX22_next_222 rfl rfl ?_
      refine x_aload_n 0 dX22_next_224 rfl rfl rfl rfl rfl ?_
      refine x_iload 7 dX22_next_225 rfl rfl ?_
      refine x_aload_n 0 dX22_next_227 rfl rfl rfl rfl rfl ?_
      refine y_getF 56 6 (c := 20) (z := 27) dX22_next_228 i102 rfl in_X22 q1411 rfl rfl rfl fn_102_6 (Nat.le_trans (Nat.le_of_ble_eq_true rfl) hn) rfl ?_
      refine x_iload_n 3 dX22_next_231 rfl rfl rfl ?_
      refine x_bipush 6 (z := 6) dX22_next_232 rfl (by decide) rfl ?_
      refine y_Vi 370 (M := mX8_cell) (As := [(0, a3), (0, 6)]) (st := [(0, r10), (2, 102), (0, r10), (0, a2), (2, 102)]) dX22_next_234 i27 rfl q2559 q2010 q2011 q375 q2012 rfl hmX8_cell rfl rfl rfl rfl rfl rfl rfl rfl (k_mono h (fun r25 w26 h => ?_))
      refine y_Vi 288 (M := mX22_entryOf) (As := [(0, r10), (0, r25)]) (st := [(0, r10), (0, a2), (2, 102)]) dX22_next_237 i102 rfl q2543 q2545 qs105 q389 q2546 rfl hmX22_entryOf rfl rfl rfl rfl rfl rfl rfl rfl (k_mono h (fun r27 w28 h => ?_))
      refine x_lload 4 dX22_next_240 rfl rfl ?_
      refine x_iload 6 dX22_next_242 rfl rfl ?_
      refine y_Vv 297 (M := mX22_transfer) (As := [(0, a2), (0, r10), (0, r27), (1, r6), (0, r8)]) (st := []) dX22_next_244 i102 rfl q2548 q2550 qs106 q389 q2551 rfl hmX22_transfer rfl rfl rfl rfl rfl rfl rfl (k_mono h (fun r29 w30 h => ?_))
      exact y_vret dX22_next_247 rfl h
  · refine x_aload_n 0 dX22_next_178 rfl rfl rfl rfl rfl ?_
    refine x_iload_n 2 dX22_next_179 rfl rfl rfl ?_
    refine x_iload 7 dX22_next_180 rfl rfl ?_
    refine x_iload 8 dX22_next_182 rfl rfl ?_
    refine x_lload 4 dX22_next_184 rfl rfl ?_
    refine x_iload 6 dX22_next_186 rfl rfl ?_
    refine y_Vv 315 (M := mX22_make) (As := [(0, a2), (0, r10), (0, r12), (1, r6), (0, r8)]) (st := []) dX22_next_188 i102 rfl q2515 q2517 qs101 q389 q2518 rfl hmX22_make rfl rfl rfl rfl rfl rfl rfl (k_mono h (fun r31 w32 h => ?_))
    exact y_vret dX22_next_191 rfl h
theorem rX22_noteFailure {d n : Nat} {w : bW} {Q : Int → bW → Prop} {X : String → bW → Prop} (hn : 143 ≤ n) (h : if w 2 0 ≠ 1 then (Q 0 (b_up w 27 5 0)) else (b_K d mX8_length [(2, 27), (0, w 83 30)] n (b_up w 27 5 0) (fun r1 w2 => if 16384 < r1 then (Q 0 (b_up w2 102 14 (-1))) else (b_K d mX13_write [(2, 46), (2, 104), (0, 0), (0, w2 83 30), (0, w2 83 31)] n (b_up w2 102 14 (-1)) (fun r3 w4 => Q 0 (b_up w4 102 14 (w4 46 7))) X)) X)) : b_K (d + 1) mX22_noteFailure [(2, 102)] n w Q X := by
  have i2 := iz2 (Nat.le_trans (Nat.le_of_ble_eq_true rfl) hn)
  have i27 := iz27 (Nat.le_trans (Nat.le_of_ble_eq_true rfl) hn)
  have i46 := iz46 (Nat.le_trans (Nat.le_of_ble_eq_true rfl) hn)
  have i83 := iz83 (Nat.le_trans (Nat.le_of_ble_eq_true rfl) hn)
  have i102 := iz102 (Nat.le_trans (Nat.le_of_ble_eq_true rfl) hn)
  refine k_of (by decide) rfl rfl rfl (ls := [(2, 102), (9, 0)]) rfl ?_
  refine x_aload_n 0 dX22_noteFailure_0 rfl rfl rfl rfl rfl ?_
  refine y_getF 56 6 (c := 20) (z := 27) dX22_noteFailure_1 i102 rfl in_X22 q1411 rfl rfl rfl fn_102_6 (Nat.le_trans (Nat.le_of_ble_eq_true rfl) hn) rfl ?_
  refine x_iconst 0 (z := 0) dX22_noteFailure_4 rfl (by decide) rfl ?_
  refine x_put 137 5 (c := 7) dX22_noteFailure_5 i27 rfl in_X8 tyX8_ok nmX8 q808 rfl rfl rfl (Or.inl rfl) (Or.inr (Or.inl ⟨rfl, rfl, by decide⟩)) rfl ?_
  refine x_aload_n 0 dX22_noteFailure_8 rfl rfl rfl rfl rfl ?_
  refine y_getF 68 9 (c := 20) (z := 2) dX22_noteFailure_9 i102 rfl in_X22 q1414 rfl rfl rfl fn_102_9 (Nat.le_trans (Nat.le_of_ble_eq_true rfl) hn) rfl ?_
  refine y_get 180 0 (c := 1) (z := w 2 0) dX22_noteFailure_12 i2 rfl in_X2 q483 rfl rfl rfl rfl rfl ?_
  refine x_iconst 1 (z := 1) dX22_noteFailure_15 rfl (by decide) rfl ?_
  refine x_icmp_ne (t := 91) 75 dX22_noteFailure_16 rfl rfl (b_ite h (fun hc h => ?_) (fun hc h => ?_))
  · exact y_vret dX22_noteFailure_91 rfl h
  · refine x_aload_n 0 dX22_noteFailure_19 rfl rfl rfl rfl rfl ?_
    refine y_getF 56 6 (c := 20) (z := 27) dX22_noteFailure_20 i102 rfl in_X22 q1411 rfl rfl rfl fn_102_6 (Nat.le_trans (Nat.le_of_ble_eq_true rfl) hn) rfl ?_
    refine x_aload_n 0 dX22_noteFailure_23 rfl rfl rfl rfl rfl ?_
    refine y_getF 76 11 (c := 20) (z := 83) dX22_noteFailure_24 i102 rfl in_X22 q1416 rfl rfl rfl fn_102_11 (Nat.le_trans (Nat.le_of_ble_eq_true rfl) hn) rfl ?_
    refine y_get 210 30 (c := 18) (z := w 83 30) dX22_noteFailure_27 i83 rfl in_X19 q1327 rfl rfl rfl rfl rfl ?_
    refine y_Vi 214 (M := mX8_length) (As := [(0, w 83 30)]) (st := []) dX22_noteFailure_30 i27 rfl q2532 q2028 q2029 q375 q2030 rfl hmX8_length rfl rfl rfl rfl rfl rfl rfl rfl (k_mono h (fun r1 w2 h => ?_))
    refine x_sipush 16384 (z := 16384) dX22_noteFailure_33 rfl (by decide) rfl ?_
    refine x_icmp_gt (t := 43) 7 dX22_noteFailure_36 rfl rfl (b_ite h (fun hc h => ?_) (fun hc h => ?_))
    · refine x_iconst 0 (z := 0) dX22_noteFailure_43 rfl (by decide) rfl ?_
      refine x_istore_n 1 (ls' := [(2, 102), (0, 0)]) dX22_noteFailure_44 rfl rfl rfl rfl ?_
      refine x_aload_n 0 dX22_noteFailure_45 rfl rfl rfl rfl rfl ?_
      refine x_iconst (-1) (z := (-1)) dX22_noteFailure_46 rfl (by decide) rfl ?_
      refine x_put 18 14 (c := 20) dX22_noteFailure_47 i102 rfl in_X22 tyX22_ok nmX22 q1420 rfl rfl rfl (Or.inl rfl) (Or.inl ⟨rfl, rfl⟩) rfl ?_
      refine x_iload_n 1 dX22_noteFailure_50 rfl rfl rfl ?_
      refine x_if_eq (t := 91) 40 dX22_noteFailure_51 rfl rfl (b_ifT (by decide) ?_)
      exact y_vret dX22_noteFailure_91 rfl h
    · refine x_iconst 1 (z := 1) dX22_noteFailure_39 rfl (by decide) rfl ?_
      refine x_goto 4 (q := 44) dX22_noteFailure_40 rfl ?_
      refine x_istore_n 1 (ls' := [(2, 102), (0, 1)]) dX22_noteFailure_44 rfl rfl rfl rfl ?_
      refine x_aload_n 0 dX22_noteFailure_45 rfl rfl rfl rfl rfl ?_
      refine x_iconst (-1) (z := (-1)) dX22_noteFailure_46 rfl (by decide) rfl ?_
      refine x_put 18 14 (c := 20) dX22_noteFailure_47 i102 rfl in_X22 tyX22_ok nmX22 q1420 rfl rfl rfl (Or.inl rfl) (Or.inl ⟨rfl, rfl⟩) rfl ?_
      refine x_iload_n 1 dX22_noteFailure_50 rfl rfl rfl ?_
      refine x_if_eq (t := 91) 40 dX22_noteFailure_51 rfl rfl (b_ifF (by decide) ?_)
      refine x_aload_n 0 dX22_noteFailure_54 rfl rfl rfl rfl rfl ?_
      refine y_getF 60 7 (c := 20) (z := 46) dX22_noteFailure_55 i102 rfl in_X22 q1412 rfl rfl rfl fn_102_7 (Nat.le_trans (Nat.le_of_ble_eq_true rfl) hn) rfl ?_
      refine x_aload_n 0 dX22_noteFailure_58 rfl rfl rfl rfl rfl ?_
      refine y_getF 15 13 (c := 20) (z := 104) dX22_noteFailure_59 i102 rfl in_X22 q1418 rfl rfl rfl fn_102_13 (Nat.le_trans (Nat.le_of_ble_eq_true rfl) hn) rfl ?_
      refine x_iconst 0 (z := 0) dX22_noteFailure_62 rfl (by decide) rfl ?_
      refine x_aload_n 0 dX22_noteFailure_63 rfl rfl rfl rfl rfl ?_
      refine y_getF 76 11 (c := 20) (z := 83) dX22_noteFailure_64 i102 rfl in_X22 q1416 rfl rfl rfl fn_102_11 (Nat.le_trans (Nat.le_of_ble_eq_true rfl) hn) rfl ?_
      refine y_get 210 30 (c := 18) (z := w2 83 30) dX22_noteFailure_67 i83 rfl in_X19 q1327 rfl rfl rfl rfl rfl ?_
      refine x_aload_n 0 dX22_noteFailure_70 rfl rfl rfl rfl rfl ?_
      refine y_getF 76 11 (c := 20) (z := 83) dX22_noteFailure_71 i102 rfl in_X22 q1416 rfl rfl rfl fn_102_11 (Nat.le_trans (Nat.le_of_ble_eq_true rfl) hn) rfl ?_
      refine y_get 218 31 (c := 18) (z := w2 83 31) dX22_noteFailure_74 i83 rfl in_X19 q1329 rfl rfl rfl rfl rfl ?_
      refine y_Vv 221 (M := mX13_write) (As := [(2, 104), (0, 0), (0, w2 83 30), (0, w2 83 31)]) (st := []) dX22_noteFailure_77 i46 rfl q3019 q2383 q2384 q380 q2385 rfl hmX13_write rfl rfl rfl rfl rfl rfl rfl (k_mono h (fun r3 w4 h => ?_))
      refine x_aload_n 0 dX22_noteFailure_80 rfl rfl rfl rfl rfl ?_
      refine x_aload_n 0 dX22_noteFailure_81 rfl rfl rfl rfl rfl ?_
      refine y_getF 60 7 (c := 20) (z := 46) dX22_noteFailure_82 i102 rfl in_X22 q1412 rfl rfl rfl fn_102_7 (Nat.le_trans (Nat.le_of_ble_eq_true rfl) hn) rfl ?_
      refine y_get 227 7 (c := 12) (z := w4 46 7) dX22_noteFailure_85 i46 rfl in_X13 q937 rfl rfl rfl rfl rfl ?_
      refine x_put 18 14 (c := 20) dX22_noteFailure_88 i102 rfl in_X22 tyX22_ok nmX22 q1420 rfl rfl rfl (Or.inl rfl) (Or.inl ⟨rfl, rfl⟩) rfl ?_
      exact y_vret dX22_noteFailure_91 rfl h
end RulesX22
