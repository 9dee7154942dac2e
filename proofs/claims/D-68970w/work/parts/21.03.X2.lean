section RulesX2
set_option maxRecDepth 100000
theorem rX2_want {d n : Nat} {w : bW} {Q : Int → bW → Prop} {X : String → bW → Prop} (hn : 3 ≤ n) (a1 : Int) (a2 : Int) (h : if a1 ≠ 0 then (Q 0 w) else (b_K d mX2_fail [(2, 2), (0, a2)] n w (fun r1 w2 => Q 0 w2) X)) : b_K (d + 1) mX2_want [(2, 2), (0, a1), (0, a2)] n w Q X := by
  have i2 := iz2 (Nat.le_trans (Nat.le_of_ble_eq_true rfl) hn)
  refine k_of (by decide) rfl rfl rfl (ls := [(2, 2), (0, a1), (0, a2)]) rfl ?_
  refine x_iload_n 1 dX2_want_0 rfl rfl rfl ?_
  refine x_if_ne (t := 9) 8 dX2_want_1 rfl rfl (b_ite h (fun hc h => ?_) (fun hc h => ?_))
  · exact y_vret dX2_want_9 rfl h
  · refine x_aload_n 0 dX2_want_4 rfl rfl rfl rfl rfl ?_
    refine x_iload_n 2 dX2_want_5 rfl rfl rfl ?_
    refine y_Vv 24 (M := mX2_fail) (As := [(0, a2)]) (st := []) dX2_want_6 i2 rfl q1957 q1958 q1959 q359 q1960 rfl hmX2_fail rfl rfl rfl rfl rfl rfl rfl (k_mono h (fun r1 w2 h => ?_))
    exact y_vret dX2_want_9 rfl h
theorem rX2_fail {d n : Nat} {w : bW} {Q : Int → bW → Prop} {X : String → bW → Prop} (hn : 143 ≤ n) (a1 : Int) (h : X "java/lang/IllegalStateException" (b_up w 2 0 a1)) : b_K (d + 1) mX2_fail [(2, 2), (0, a1)] n w Q X := by
  have i2 := iz2 (Nat.le_trans (Nat.le_of_ble_eq_true rfl) hn)
  have i3 := iz3 (Nat.le_trans (Nat.le_of_ble_eq_true rfl) hn)
  refine k_of (by decide) rfl rfl rfl (ls := [(2, 2), (0, a1)]) rfl ?_
  refine x_aload_n 0 dX2_fail_0 rfl rfl rfl rfl rfl ?_
  refine x_iload_n 1 dX2_fail_1 rfl rfl rfl ?_
  refine x_put 20 0 (c := 1) dX2_fail_2 i2 rfl in_X2 tyX2_ok nmX2 q482 rfl rfl rfl (Or.inl rfl) (Or.inl ⟨rfl, rfl⟩) rfl ?_
  refine x_aload_n 0 dX2_fail_5 rfl rfl rfl rfl rfl ?_
  refine y_getF 14 1 (c := 1) (z := 3) dX2_fail_6 i2 rfl in_X2 q484 rfl rfl rfl fn_2_1 (Nat.le_trans (Nat.le_of_ble_eq_true rfl) hn) rfl ?_
  exact y_throw dX2_fail_9 i3 rfl h
end RulesX2
