section RulesX18
set_option maxRecDepth 100000
theorem rX18_begin {d n : Nat} {w : bW} {Q : Int → bW → Prop} {X : String → bW → Prop} (hn : 83 ≤ n) (a1 : Int) (h : Q 0 (b_up (b_up w 82 1 a1) 82 2 0)) : b_K (d + 1) mX18_begin [(2, 82), (0, a1)] n w Q X := by
  have i82 := iz82 (Nat.le_trans (Nat.le_of_ble_eq_true rfl) hn)
  refine k_of (by decide) rfl rfl rfl (ls := [(2, 82), (0, a1)]) rfl ?_
  refine x_aload_n 0 dX18_begin_0 rfl rfl rfl rfl rfl ?_
  refine x_iload_n 1 dX18_begin_1 rfl rfl rfl ?_
  refine x_put 13 1 (c := 17) dX18_begin_2 i82 rfl in_X18 tyX18_ok nmX18 q1256 rfl rfl rfl (Or.inl rfl) (Or.inl ⟨rfl, rfl⟩) rfl ?_
  refine x_aload_n 0 dX18_begin_5 rfl rfl rfl rfl rfl ?_
  refine x_iconst 0 (z := 0) dX18_begin_6 rfl (by decide) rfl ?_
  refine x_put 17 2 (c := 17) dX18_begin_7 i82 rfl in_X18 tyX18_ok nmX18 q1257 rfl rfl rfl (Or.inl rfl) (Or.inl ⟨rfl, rfl⟩) rfl ?_
  exact y_vret dX18_begin_10 rfl h
theorem rX18_use {d n : Nat} {w : bW} {Q : Int → bW → Prop} {X : String → bW → Prop} (hn : 143 ≤ n) (a1 : Int) (h : if a1 ≤ b_i ((w 82 1) - (w 82 2)) then (Q 0 (b_up w 82 2 (b_i ((w 82 2) + (b_i a1))))) else (b_K d mX2_fail [(2, 2), (0, 4)] n (b_up w 82 2 (w 82 1)) (fun r1 w2 => Q 0 (b_up w2 82 2 (b_i ((w2 82 2) + (b_i a1))))) X)) : b_K (d + 1) mX18_use [(2, 82), (1, a1)] n w Q X := by
  have i2 := iz2 (Nat.le_trans (Nat.le_of_ble_eq_true rfl) hn)
  have i82 := iz82 (Nat.le_trans (Nat.le_of_ble_eq_true rfl) hn)
  refine k_of (by decide) rfl rfl rfl (ls := [(2, 82), (1, a1), (9, 0)]) rfl ?_
  refine x_lload_n 1 dX18_use_0 rfl rfl rfl ?_
  refine x_aload_n 0 dX18_use_1 rfl rfl rfl rfl rfl ?_
  refine y_get 13 1 (c := 17) (z := w 82 1) dX18_use_2 i82 rfl in_X18 q1256 rfl rfl rfl rfl rfl ?_
  refine x_aload_n 0 dX18_use_5 rfl rfl rfl rfl rfl ?_
  refine y_get 17 2 (c := 17) (z := w 82 2) dX18_use_6 i82 rfl in_X18 q1257 rfl rfl rfl rfl rfl ?_
  refine x_isub dX18_use_9 rfl ?_
  refine x_i2l dX18_use_10 rfl ?_
  refine x_lc_le (q := 15) (t := 31) 19 dX18_use_11 dX18_use_12 rfl rfl (b_ite h (fun hc h => ?_) (fun hc h => ?_))
  · refine x_aload_n 0 dX18_use_31 rfl rfl rfl rfl rfl ?_
    refine x_dup dX18_use_32 rfl rfl ?_
    refine y_get 17 2 (c := 17) (z := w 82 2) dX18_use_33 i82 rfl in_X18 q1257 rfl rfl rfl rfl rfl ?_
    refine x_lload_n 1 dX18_use_36 rfl rfl rfl ?_
    refine x_l2i dX18_use_37 rfl ?_
    refine x_iadd dX18_use_38 rfl ?_
    refine x_put 17 2 (c := 17) dX18_use_39 i82 rfl in_X18 tyX18_ok nmX18 q1257 rfl rfl rfl (Or.inl rfl) (Or.inl ⟨rfl, rfl⟩) rfl ?_
    exact y_vret dX18_use_42 rfl h
  · refine x_aload_n 0 dX18_use_15 rfl rfl rfl rfl rfl ?_
    refine x_aload_n 0 dX18_use_16 rfl rfl rfl rfl rfl ?_
    refine y_get 13 1 (c := 17) (z := w 82 1) dX18_use_17 i82 rfl in_X18 q1256 rfl rfl rfl rfl rfl ?_
    refine x_put 17 2 (c := 17) dX18_use_20 i82 rfl in_X18 tyX18_ok nmX18 q1257 rfl rfl rfl (Or.inl rfl) (Or.inl ⟨rfl, rfl⟩) rfl ?_
    refine x_aload_n 0 dX18_use_23 rfl rfl rfl rfl rfl ?_
    refine y_getF 7 0 (c := 17) (z := 2) dX18_use_24 i82 rfl in_X18 q1255 rfl rfl rfl fn_82_0 (Nat.le_trans (Nat.le_of_ble_eq_true rfl) hn) rfl ?_
    refine x_iconst 4 (z := 4) dX18_use_27 rfl (by decide) rfl ?_
    refine y_Vv 22 (M := mX2_fail) (As := [(0, 4)]) (st := []) dX18_use_28 i2 rfl q2503 q1958 q1959 q359 q1960 rfl hmX2_fail rfl rfl rfl rfl rfl rfl rfl (k_mono h (fun r1 w2 h => ?_))
    refine x_aload_n 0 dX18_use_31 rfl rfl rfl rfl rfl ?_
    refine x_dup dX18_use_32 rfl rfl ?_
    refine y_get 17 2 (c := 17) (z := w2 82 2) dX18_use_33 i82 rfl in_X18 q1257 rfl rfl rfl rfl rfl ?_
    refine x_lload_n 1 dX18_use_36 rfl rfl rfl ?_
    refine x_l2i dX18_use_37 rfl ?_
    refine x_iadd dX18_use_38 rfl ?_
    refine x_put 17 2 (c := 17) dX18_use_39 i82 rfl in_X18 tyX18_ok nmX18 q1257 rfl rfl rfl (Or.inl rfl) (Or.inl ⟨rfl, rfl⟩) rfl ?_
    exact y_vret dX18_use_42 rfl h
theorem rX18_used {d n : Nat} {w : bW} {Q : Int → bW → Prop} {X : String → bW → Prop} (hn : 83 ≤ n) (h : Q (w 82 2) w) : b_K (d + 1) mX18_used [(2, 82)] n w Q X := by
  have i82 := iz82 (Nat.le_trans (Nat.le_of_ble_eq_true rfl) hn)
  refine k_of (by decide) rfl rfl rfl (ls := [(2, 82)]) rfl ?_
  refine x_aload_n 0 dX18_used_0 rfl rfl rfl rfl rfl ?_
  refine y_get 17 2 (c := 17) (z := w 82 2) dX18_used_1 i82 rfl in_X18 q1257 rfl rfl rfl rfl rfl ?_
  exact y_iret dX18_used_4 rfl h
end RulesX18
