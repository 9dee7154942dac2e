section RulesX17
set_option maxRecDepth 100000
abbrev LX17_keep_3 (d n : Nat) (Q : Int → bW → Prop) (X : String → bW → Prop) (a2 : Int) (w : bW) : Prop := b_Y (d + 1) mX17_keep n Q X 3 [(2, 70), (2, 27), (0, a2)] [] w
theorem rX17_keep {d n : Nat} {w : bW} {Q : Int → bW → Prop} {X : String → bW → Prop} (hn : 143 ≤ n) (h : LX17_keep_3 d n Q X 100 w) : b_K (d + 1) mX17_keep [(2, 70), (2, 27)] n w Q X := by
  refine k_of (by decide) rfl rfl rfl (ls := [(2, 70), (2, 27), (9, 0)]) rfl ?_
  refine x_bipush 100 (z := 100) dX17_keep_0 rfl (by decide) rfl ?_
  refine x_istore_n 2 (ls' := [(2, 70), (2, 27), (0, 100)]) dX17_keep_2 rfl rfl rfl rfl ?_
  exact x_fg (fgk (fgk (fgk (fg0)))) h
theorem sX17_keep_3 {d n : Nat} {w : bW} {Q : Int → bW → Prop} {X : String → bW → Prop} (hn : 143 ≤ n) (a2 : Int) (h : if 200 ≤ a2 then (Q 0 w) else ((0 ≤ a2 ∧ a2 < 200) ∧ (b_K d mX8_keep [(2, 27), (0, w 74 a2)] n w (fun r2 w3 => (0 ≤ a2 ∧ a2 < 200) ∧ (b_K d mX8_keep [(2, 27), (0, w3 80 a2)] n (b_up w3 74 a2 r2) (fun r5 w6 => LX17_keep_3 d n Q X (b_i (a2 + 1)) (b_up w6 80 a2 r5)) X)) X))) : LX17_keep_3 d n Q X a2 w := by
  have i27 := iz27 (Nat.le_trans (Nat.le_of_ble_eq_true rfl) hn)
  have i70 := iz70 (Nat.le_trans (Nat.le_of_ble_eq_true rfl) hn)
  have i74 := iz74 (Nat.le_trans (Nat.le_of_ble_eq_true rfl) hn)
  have i80 := iz80 (Nat.le_trans (Nat.le_of_ble_eq_true rfl) hn)
  refine x_iload_n 2 dX17_keep_3 rfl rfl rfl ?_
  refine x_sipush 200 (z := 200) dX17_keep_4 rfl (by decide) rfl ?_
  refine x_icmp_ge (t := 48) 41 dX17_keep_7 rfl rfl (b_ite h (fun hc h => ?_) (fun hc h => ?_))
  · exact y_vret dX17_keep_48 rfl h
  · refine x_aload_n 0 dX17_keep_10 rfl rfl rfl rfl rfl ?_
    refine y_getF 21 3 (c := 16) (z := 74) dX17_keep_11 i70 rfl in_X17 q1170 rfl rfl rfl fn_70_3 (Nat.le_trans (Nat.le_of_ble_eq_true rfl) hn) rfl ?_
    refine x_iload_n 2 dX17_keep_14 rfl rfl rfl ?_
    refine x_aload_n 1 dX17_keep_15 rfl rfl rfl rfl rfl ?_
    refine x_aload_n 0 dX17_keep_16 rfl rfl rfl rfl rfl ?_
    refine y_getF 21 3 (c := 16) (z := 74) dX17_keep_17 i70 rfl in_X17 q1170 rfl rfl rfl fn_70_3 (Nat.le_trans (Nat.le_of_ble_eq_true rfl) hn) rfl ?_
    refine x_iload_n 2 dX17_keep_20 rfl rfl rfl ?_
    obtain ⟨e1, h⟩ := h
    refine y_iald (z := w 74 a2) dX17_keep_21 ⟨200, i74, e1⟩ rfl rfl ?_
    refine y_Vi 71 (M := mX8_keep) (As := [(0, w 74 a2)]) (st := [(0, a2), (2, 74)]) dX17_keep_22 i27 rfl q2354 q2355 q2356 q375 q2357 rfl hmX8_keep rfl rfl rfl rfl rfl rfl rfl rfl (k_mono h (fun r2 w3 h => ?_))
    refine y_iast (x' := r2) dX17_keep_25 ⟨200, i74, e1⟩ rfl rfl ?_
    refine x_aload_n 0 dX17_keep_26 rfl rfl rfl rfl rfl ?_
    refine y_getF 39 17 (c := 16) (z := 80) dX17_keep_27 i70 rfl in_X17 q1198 rfl rfl rfl fn_70_17 (Nat.le_trans (Nat.le_of_ble_eq_true rfl) hn) rfl ?_
    refine x_iload_n 2 dX17_keep_30 rfl rfl rfl ?_
    refine x_aload_n 1 dX17_keep_31 rfl rfl rfl rfl rfl ?_
    refine x_aload_n 0 dX17_keep_32 rfl rfl rfl rfl rfl ?_
    refine y_getF 39 17 (c := 16) (z := 80) dX17_keep_33 i70 rfl in_X17 q1198 rfl rfl rfl fn_70_17 (Nat.le_trans (Nat.le_of_ble_eq_true rfl) hn) rfl ?_
    refine x_iload_n 2 dX17_keep_36 rfl rfl rfl ?_
    obtain ⟨e4, h⟩ := h
    refine y_iald (z := w3 80 a2) dX17_keep_37 ⟨200, i80, e4⟩ rfl rfl ?_
    refine y_Vi 71 (M := mX8_keep) (As := [(0, w3 80 a2)]) (st := [(0, a2), (2, 80)]) dX17_keep_38 i27 rfl q2354 q2355 q2356 q375 q2357 rfl hmX8_keep rfl rfl rfl rfl rfl rfl rfl rfl (k_mono h (fun r5 w6 h => ?_))
    refine y_iast (x' := r5) dX17_keep_41 ⟨200, i80, e4⟩ rfl rfl ?_
    refine x_iinc 2 1 (ls' := [(2, 70), (2, 27), (0, b_i (a2 + 1))]) dX17_keep_42 rfl rfl rfl rfl ?_
    refine x_goto (-42) (q := 3) dX17_keep_45 rfl ?_
    exact x_fg (fgk (fgk (fgk (fg0)))) h
theorem rX17_save {d n : Nat} {w : bW} {Q : Int → bW → Prop} {X : String → bW → Prop} (hn : 143 ≤ n) (h : ((0 : Int) ≤ 0 ∧ (0 : Int) ≤ 0 ∧ (0 : Int) ≤ 200 ∧ (0 : Int) + 200 ≤ 200 ∧ (0 : Int) + 200 ≤ 200) ∧ (((0 : Int) ≤ 0 ∧ (0 : Int) ≤ 0 ∧ (0 : Int) ≤ 200 ∧ (0 : Int) + 200 ≤ 200 ∧ (0 : Int) + 200 ≤ 200) ∧ (((0 : Int) ≤ 0 ∧ (0 : Int) ≤ 0 ∧ (0 : Int) ≤ 200 ∧ (0 : Int) + 200 ≤ 200 ∧ (0 : Int) + 200 ≤ 200) ∧ (((0 : Int) ≤ 0 ∧ (0 : Int) ≤ 0 ∧ (0 : Int) ≤ 200 ∧ (0 : Int) + 200 ≤ 200 ∧ (0 : Int) + 200 ≤ 200) ∧ (((0 : Int) ≤ 0 ∧ (0 : Int) ≤ 0 ∧ (0 : Int) ≤ 200 ∧ (0 : Int) + 200 ≤ 200 ∧ (0 : Int) + 200 ≤ 200) ∧ (Q 0 (b_up (b_up (b_up (b_cp (b_cp (b_cp (b_cp (b_cp w 71 0 77 0 200) 72 0 78 0 200) 73 0 79 0 200) 74 0 80 0 200) 75 0 81 0 200) 70 19 (w 70 7)) 70 20 (w 70 8)) 70 21 (w 70 10)))))))) : b_K (d + 1) mX17_save [(2, 70)] n w Q X := by
  have i70 := iz70 (Nat.le_trans (Nat.le_of_ble_eq_true rfl) hn)
  have i71 := iz71 (Nat.le_trans (Nat.le_of_ble_eq_true rfl) hn)
  have i72 := iz72 (Nat.le_trans (Nat.le_of_ble_eq_true rfl) hn)
  have i73 := iz73 (Nat.le_trans (Nat.le_of_ble_eq_true rfl) hn)
  have i74 := iz74 (Nat.le_trans (Nat.le_of_ble_eq_true rfl) hn)
  have i75 := iz75 (Nat.le_trans (Nat.le_of_ble_eq_true rfl) hn)
  have i77 := iz77 (Nat.le_trans (Nat.le_of_ble_eq_true rfl) hn)
  have i78 := iz78 (Nat.le_trans (Nat.le_of_ble_eq_true rfl) hn)
  have i79 := iz79 (Nat.le_trans (Nat.le_of_ble_eq_true rfl) hn)
  have i80 := iz80 (Nat.le_trans (Nat.le_of_ble_eq_true rfl) hn)
  have i81 := iz81 (Nat.le_trans (Nat.le_of_ble_eq_true rfl) hn)
  refine k_of (by decide) rfl rfl rfl (ls := [(2, 70)]) rfl ?_
  refine x_aload_n 0 dX17_save_0 rfl rfl rfl rfl rfl ?_
  refine y_getF 7 0 (c := 16) (z := 71) dX17_save_1 i70 rfl in_X17 q1159 rfl rfl rfl fn_70_0 (Nat.le_trans (Nat.le_of_ble_eq_true rfl) hn) rfl ?_
  refine x_iconst 0 (z := 0) dX17_save_4 rfl (by decide) rfl ?_
  refine x_aload_n 0 dX17_save_5 rfl rfl rfl rfl rfl ?_
  refine y_getF 30 14 (c := 16) (z := 77) dX17_save_6 i70 rfl in_X17 q1195 rfl rfl rfl fn_70_14 (Nat.le_trans (Nat.le_of_ble_eq_true rfl) hn) rfl ?_
  refine x_iconst 0 (z := 0) dX17_save_9 rfl (by decide) rfl ?_
  refine x_sipush 200 (z := 200) dX17_save_10 rfl (by decide) rfl ?_
  obtain ⟨e1, h⟩ := h
  refine x_copyl 45 dX17_save_13 q2477 q1893 q1892 q400 i71 i77 (by decide) (by decide) e1.1 e1.2.1 e1.2.2.1 e1.2.2.2.1 e1.2.2.2.2 (Nat.le_add_left 1 d) rfl rfl ?_
  refine x_aload_n 0 dX17_save_16 rfl rfl rfl rfl rfl ?_
  refine y_getF 13 1 (c := 16) (z := 72) dX17_save_17 i70 rfl in_X17 q1162 rfl rfl rfl fn_70_1 (Nat.le_trans (Nat.le_of_ble_eq_true rfl) hn) rfl ?_
  refine x_iconst 0 (z := 0) dX17_save_20 rfl (by decide) rfl ?_
  refine x_aload_n 0 dX17_save_21 rfl rfl rfl rfl rfl ?_
  refine y_getF 33 15 (c := 16) (z := 78) dX17_save_22 i70 rfl in_X17 q1196 rfl rfl rfl fn_70_15 (Nat.le_trans (Nat.le_of_ble_eq_true rfl) hn) rfl ?_
  refine x_iconst 0 (z := 0) dX17_save_25 rfl (by decide) rfl ?_
  refine x_sipush 200 (z := 200) dX17_save_26 rfl (by decide) rfl ?_
  obtain ⟨e2, h⟩ := h
  refine x_copyi 45 dX17_save_29 q2477 q1893 q1892 q400 i72 i78 (by decide) (by decide) e2.1 e2.2.1 e2.2.2.1 e2.2.2.2.1 e2.2.2.2.2 (Nat.le_add_left 1 d) rfl rfl ?_
  refine x_aload_n 0 dX17_save_32 rfl rfl rfl rfl rfl ?_
  refine y_getF 17 2 (c := 16) (z := 73) dX17_save_33 i70 rfl in_X17 q1166 rfl rfl rfl fn_70_2 (Nat.le_trans (Nat.le_of_ble_eq_true rfl) hn) rfl ?_
  refine x_iconst 0 (z := 0) dX17_save_36 rfl (by decide) rfl ?_
  refine x_aload_n 0 dX17_save_37 rfl rfl rfl rfl rfl ?_
  refine y_getF 36 16 (c := 16) (z := 79) dX17_save_38 i70 rfl in_X17 q1197 rfl rfl rfl fn_70_16 (Nat.le_trans (Nat.le_of_ble_eq_true rfl) hn) rfl ?_
  refine x_iconst 0 (z := 0) dX17_save_41 rfl (by decide) rfl ?_
  refine x_sipush 200 (z := 200) dX17_save_42 rfl (by decide) rfl ?_
  obtain ⟨e3, h⟩ := h
  refine x_copyi 45 dX17_save_45 q2477 q1893 q1892 q400 i73 i79 (by decide) (by decide) e3.1 e3.2.1 e3.2.2.1 e3.2.2.2.1 e3.2.2.2.2 (Nat.le_add_left 1 d) rfl rfl ?_
  refine x_aload_n 0 dX17_save_48 rfl rfl rfl rfl rfl ?_
  refine y_getF 21 3 (c := 16) (z := 74) dX17_save_49 i70 rfl in_X17 q1170 rfl rfl rfl fn_70_3 (Nat.le_trans (Nat.le_of_ble_eq_true rfl) hn) rfl ?_
  refine x_iconst 0 (z := 0) dX17_save_52 rfl (by decide) rfl ?_
  refine x_aload_n 0 dX17_save_53 rfl rfl rfl rfl rfl ?_
  refine y_getF 39 17 (c := 16) (z := 80) dX17_save_54 i70 rfl in_X17 q1198 rfl rfl rfl fn_70_17 (Nat.le_trans (Nat.le_of_ble_eq_true rfl) hn) rfl ?_
  refine x_iconst 0 (z := 0) dX17_save_57 rfl (by decide) rfl ?_
  refine x_sipush 200 (z := 200) dX17_save_58 rfl (by decide) rfl ?_
  obtain ⟨e4, h⟩ := h
  refine x_copyi 45 dX17_save_61 q2477 q1893 q1892 q400 i74 i80 (by decide) (by decide) e4.1 e4.2.1 e4.2.2.1 e4.2.2.2.1 e4.2.2.2.2 (Nat.le_add_left 1 d) rfl rfl ?_
  refine x_aload_n 0 dX17_save_64 rfl rfl rfl rfl rfl ?_
  refine y_getF 24 4 (c := 16) (z := 75) dX17_save_65 i70 rfl in_X17 q1173 rfl rfl rfl fn_70_4 (Nat.le_trans (Nat.le_of_ble_eq_true rfl) hn) rfl ?_
  refine x_iconst 0 (z := 0) dX17_save_68 rfl (by decide) rfl ?_
  refine x_aload_n 0 dX17_save_69 rfl rfl rfl rfl rfl ?_
  refine y_getF 42 18 (c := 16) (z := 81) dX17_save_70 i70 rfl in_X17 q1199 rfl rfl rfl fn_70_18 (Nat.le_trans (Nat.le_of_ble_eq_true rfl) hn) rfl ?_
  refine x_iconst 0 (z := 0) dX17_save_73 rfl (by decide) rfl ?_
  refine x_sipush 200 (z := 200) dX17_save_74 rfl (by decide) rfl ?_
  obtain ⟨e5, h⟩ := h
  refine x_copyi 45 dX17_save_77 q2477 q1893 q1892 q400 i75 i81 (by decide) (by decide) e5.1 e5.2.1 e5.2.2.1 e5.2.2.2.1 e5.2.2.2.2 (Nat.le_add_left 1 d) rfl rfl ?_
  refine x_aload_n 0 dX17_save_80 rfl rfl rfl rfl rfl ?_
  refine x_aload_n 0 dX17_save_81 rfl rfl rfl rfl rfl ?_
  refine y_get 51 7 (c := 16) (z := w 70 7) dX17_save_82 i70 rfl in_X17 q1179 rfl rfl rfl rfl rfl ?_
  refine x_put 55 19 (c := 16) dX17_save_85 i70 rfl in_X17 tyX17_ok nmX17 q1200 rfl rfl rfl (Or.inl rfl) (Or.inl ⟨rfl, rfl⟩) rfl ?_
  refine x_aload_n 0 dX17_save_88 rfl rfl rfl rfl rfl ?_
  refine x_aload_n 0 dX17_save_89 rfl rfl rfl rfl rfl ?_
  refine y_get 58 8 (c := 16) (z := w 70 8) dX17_save_90 i70 rfl in_X17 q1183 rfl rfl rfl rfl rfl ?_
  refine x_put 61 20 (c := 16) dX17_save_93 i70 rfl in_X17 tyX17_ok nmX17 q1201 rfl rfl rfl (Or.inl rfl) (Or.inl ⟨rfl, rfl⟩) rfl ?_
  refine x_aload_n 0 dX17_save_96 rfl rfl rfl rfl rfl ?_
  refine x_aload_n 0 dX17_save_97 rfl rfl rfl rfl rfl ?_
  refine y_get 64 10 (c := 16) (z := w 70 10) dX17_save_98 i70 rfl in_X17 q1187 rfl rfl rfl rfl rfl ?_
  refine x_put 68 21 (c := 16) dX17_save_101 i70 rfl in_X17 tyX17_ok nmX17 q1202 rfl rfl rfl (Or.inl rfl) (Or.inr (Or.inr (Or.inl ⟨rfl, rfl⟩))) rfl ?_
  exact y_vret dX17_save_104 rfl h
theorem rX17_load {d n : Nat} {w : bW} {Q : Int → bW → Prop} {X : String → bW → Prop} (hn : 143 ≤ n) (h : ((0 : Int) ≤ 0 ∧ (0 : Int) ≤ 0 ∧ (0 : Int) ≤ 200 ∧ (0 : Int) + 200 ≤ 200 ∧ (0 : Int) + 200 ≤ 200) ∧ (((0 : Int) ≤ 0 ∧ (0 : Int) ≤ 0 ∧ (0 : Int) ≤ 200 ∧ (0 : Int) + 200 ≤ 200 ∧ (0 : Int) + 200 ≤ 200) ∧ (((0 : Int) ≤ 0 ∧ (0 : Int) ≤ 0 ∧ (0 : Int) ≤ 200 ∧ (0 : Int) + 200 ≤ 200 ∧ (0 : Int) + 200 ≤ 200) ∧ (((0 : Int) ≤ 0 ∧ (0 : Int) ≤ 0 ∧ (0 : Int) ≤ 200 ∧ (0 : Int) + 200 ≤ 200 ∧ (0 : Int) + 200 ≤ 200) ∧ (((0 : Int) ≤ 0 ∧ (0 : Int) ≤ 0 ∧ (0 : Int) ≤ 200 ∧ (0 : Int) + 200 ≤ 200 ∧ (0 : Int) + 200 ≤ 200) ∧ (Q 0 (b_up (b_up (b_up (b_cp (b_cp (b_cp (b_cp (b_cp w 77 0 71 0 200) 78 0 72 0 200) 79 0 73 0 200) 80 0 74 0 200) 81 0 75 0 200) 70 7 (w 70 19)) 70 8 (w 70 20)) 70 10 (w 70 21)))))))) : b_K (d + 1) mX17_load [(2, 70)] n w Q X := by
  have i70 := iz70 (Nat.le_trans (Nat.le_of_ble_eq_true rfl) hn)
  have i71 := iz71 (Nat.le_trans (Nat.le_of_ble_eq_true rfl) hn)
  have i72 := iz72 (Nat.le_trans (Nat.le_of_ble_eq_true rfl) hn)
  have i73 := iz73 (Nat.le_trans (Nat.le_of_ble_eq_true rfl) hn)
  have i74 := iz74 (Nat.le_trans (Nat.le_of_ble_eq_true rfl) hn)
  have i75 := iz75 (Nat.le_trans (Nat.le_of_ble_eq_true rfl) hn)
  have i77 := iz77 (Nat.le_trans (Nat.le_of_ble_eq_true rfl) hn)
  have i78 := iz78 (Nat.le_trans (Nat.le_of_ble_eq_true rfl) hn)
  have i79 := iz79 (Nat.le_trans (Nat.le_of_ble_eq_true rfl) hn)
  have i80 := iz80 (Nat.le_trans (Nat.le_of_ble_eq_true rfl) hn)
  have i81 := iz81 (Nat.le_trans (Nat.le_of_ble_eq_true rfl) hn)
  refine k_of (by decide) rfl rfl rfl (ls := [(2, 70)]) rfl ?_
  refine x_aload_n 0 dX17_load_0 rfl rfl rfl rfl rfl ?_
  refine y_getF 30 14 (c := 16) (z := 77) dX17_load_1 i70 rfl in_X17 q1195 rfl rfl rfl fn_70_14 (Nat.le_trans (Nat.le_of_ble_eq_true rfl) hn) rfl ?_
  refine x_iconst 0 (z := 0) dX17_load_4 rfl (by decide) rfl ?_
  refine x_aload_n 0 dX17_load_5 rfl rfl rfl rfl rfl ?_
  refine y_getF 7 0 (c := 16) (z := 71) dX17_load_6 i70 rfl in_X17 q1159 rfl rfl rfl fn_70_0 (Nat.le_trans (Nat.le_of_ble_eq_true rfl) hn) rfl ?_
  refine x_iconst 0 (z := 0) dX17_load_9 rfl (by decide) rfl ?_
  refine x_sipush 200 (z := 200) dX17_load_10 rfl (by decide) rfl ?_
  obtain ⟨e1, h⟩ := h
  refine x_copyl 45 dX17_load_13 q2477 q1893 q1892 q400 i77 i71 (by decide) (by decide) e1.1 e1.2.1 e1.2.2.1 e1.2.2.2.1 e1.2.2.2.2 (Nat.le_add_left 1 d) rfl rfl ?_
  refine x_aload_n 0 dX17_load_16 rfl rfl rfl rfl rfl ?_
  refine y_getF 33 15 (c := 16) (z := 78) dX17_load_17 i70 rfl in_X17 q1196 rfl rfl rfl fn_70_15 (Nat.le_trans (Nat.le_of_ble_eq_true rfl) hn) rfl ?_
  refine x_iconst 0 (z := 0) dX17_load_20 rfl (by decide) rfl ?_
  refine x_aload_n 0 dX17_load_21 rfl rfl rfl rfl rfl ?_
  refine y_getF 13 1 (c := 16) (z := 72) dX17_load_22 i70 rfl in_X17 q1162 rfl rfl rfl fn_70_1 (Nat.le_trans (Nat.le_of_ble_eq_true rfl) hn) rfl ?_
  refine x_iconst 0 (z := 0) dX17_load_25 rfl (by decide) rfl ?_
  refine x_sipush 200 (z := 200) dX17_load_26 rfl (by decide) rfl ?_
  obtain ⟨e2, h⟩ := h
  refine x_copyi 45 dX17_load_29 q2477 q1893 q1892 q400 i78 i72 (by decide) (by decide) e2.1 e2.2.1 e2.2.2.1 e2.2.2.2.1 e2.2.2.2.2 (Nat.le_add_left 1 d) rfl rfl ?_
  refine x_aload_n 0 dX17_load_32 rfl rfl rfl rfl rfl ?_
  refine y_getF 36 16 (c := 16) (z := 79) dX17_load_33 i70 rfl in_X17 q1197 rfl rfl rfl fn_70_16 (Nat.le_trans (Nat.le_of_ble_eq_true rfl) hn) rfl ?_
  refine x_iconst 0 (z := 0) dX17_load_36 rfl (by decide) rfl ?_
  refine x_aload_n 0 dX17_load_37 rfl rfl rfl rfl rfl ?_
  refine y_getF 17 2 (c := 16) (z := 73) dX17_load_38 i70 rfl in_X17 q1166 rfl rfl rfl fn_70_2 (Nat.le_trans (Nat.le_of_ble_eq_true rfl) hn) rfl ?_
  refine x_iconst 0 (z := 0) dX17_load_41 rfl (by decide) rfl ?_
  refine x_sipush 200 (z := 200) dX17_load_42 rfl (by decide) rfl ?_
  obtain ⟨e3, h⟩ := h
  refine x_copyi 45 dX17_load_45 q2477 q1893 q1892 q400 i79 i73 (by decide) (by decide) e3.1 e3.2.1 e3.2.2.1 e3.2.2.2.1 e3.2.2.2.2 (Nat.le_add_left 1 d) rfl rfl ?_
  refine x_aload_n 0 dX17_load_48 rfl rfl rfl rfl rfl ?_
  refine y_getF 39 17 (c := 16) (z := 80) dX17_load_49 i70 rfl in_X17 q1198 rfl rfl rfl fn_70_17 (Nat.le_trans (Nat.le_of_ble_eq_true rfl) hn) rfl ?_
  refine x_iconst 0 (z := 0) dX17_load_52 rfl (by decide) rfl ?_
  refine x_aload_n 0 dX17_load_53 rfl rfl rfl rfl rfl ?_
  refine y_getF 21 3 (c := 16) (z := 74) dX17_load_54 i70 rfl in_X17 q1170 rfl rfl rfl fn_70_3 (Nat.le_trans (Nat.le_of_ble_eq_true rfl) hn) rfl ?_
  refine x_iconst 0 (z := 0) dX17_load_57 rfl (by decide) rfl ?_
  refine x_sipush 200 (z := 200) dX17_load_58 rfl (by decide) rfl ?_
  obtain ⟨e4, h⟩ := h
  refine x_copyi 45 dX17_load_61 q2477 q1893 q1892 q400 i80 i74 (by decide) (by decide) e4.1 e4.2.1 e4.2.2.1 e4.2.2.2.1 e4.2.2.2.2 (Nat.le_add_left 1 d) rfl rfl ?_
  refine x_aload_n 0 dX17_load_64 rfl rfl rfl rfl rfl ?_
  refine y_getF 42 18 (c := 16) (z := 81) dX17_load_65 i70 rfl in_X17 q1199 rfl rfl rfl fn_70_18 (Nat.le_trans (Nat.le_of_ble_eq_true rfl) hn) rfl ?_
  refine x_iconst 0 (z := 0) dX17_load_68 rfl (by decide) rfl ?_
  refine x_aload_n 0 dX17_load_69 rfl rfl rfl rfl rfl ?_
  refine y_getF 24 4 (c := 16) (z := 75) dX17_load_70 i70 rfl in_X17 q1173 rfl rfl rfl fn_70_4 (Nat.le_trans (Nat.le_of_ble_eq_true rfl) hn) rfl ?_
  refine x_iconst 0 (z := 0) dX17_load_73 rfl (by decide) rfl ?_
  refine x_sipush 200 (z := 200) dX17_load_74 rfl (by decide) rfl ?_
  obtain ⟨e5, h⟩ := h
  refine x_copyi 45 dX17_load_77 q2477 q1893 q1892 q400 i81 i75 (by decide) (by decide) e5.1 e5.2.1 e5.2.2.1 e5.2.2.2.1 e5.2.2.2.2 (Nat.le_add_left 1 d) rfl rfl ?_
  refine x_aload_n 0 dX17_load_80 rfl rfl rfl rfl rfl ?_
  refine x_aload_n 0 dX17_load_81 rfl rfl rfl rfl rfl ?_
  refine y_get 55 19 (c := 16) (z := w 70 19) dX17_load_82 i70 rfl in_X17 q1200 rfl rfl rfl rfl rfl ?_
  refine x_put 51 7 (c := 16) dX17_load_85 i70 rfl in_X17 tyX17_ok nmX17 q1179 rfl rfl rfl (Or.inl rfl) (Or.inl ⟨rfl, rfl⟩) rfl ?_
  refine x_aload_n 0 dX17_load_88 rfl rfl rfl rfl rfl ?_
  refine x_aload_n 0 dX17_load_89 rfl rfl rfl rfl rfl ?_
  refine y_get 61 20 (c := 16) (z := w 70 20) dX17_load_90 i70 rfl in_X17 q1201 rfl rfl rfl rfl rfl ?_
  refine x_put 58 8 (c := 16) dX17_load_93 i70 rfl in_X17 tyX17_ok nmX17 q1183 rfl rfl rfl (Or.inl rfl) (Or.inl ⟨rfl, rfl⟩) rfl ?_
  refine x_aload_n 0 dX17_load_96 rfl rfl rfl rfl rfl ?_
  refine x_aload_n 0 dX17_load_97 rfl rfl rfl rfl rfl ?_
  refine y_get 68 21 (c := 16) (z := w 70 21) dX17_load_98 i70 rfl in_X17 q1202 rfl rfl rfl rfl rfl ?_
  refine x_put 64 10 (c := 16) dX17_load_101 i70 rfl in_X17 tyX17_ok nmX17 q1187 rfl rfl rfl (Or.inl rfl) (Or.inr (Or.inr (Or.inl ⟨rfl, rfl⟩))) rfl ?_
  exact y_vret dX17_load_104 rfl h
end RulesX17
