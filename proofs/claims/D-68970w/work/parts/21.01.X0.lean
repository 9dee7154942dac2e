section RulesX0
set_option maxRecDepth 100000
theorem rX0_feed {d n : Nat} {w : bW} {Q : Int → bW → Prop} {X : String → bW → Prop} (hn : 1 ≤ n) (a1 : Int) (a2 : Int) (a3 : Int) (a4 : Int) (a5 : Int) (h : b_K d mX1_feed [(2, 0), (0, a1), (0, a2), (0, a3), (0, a4), (0, a5)] n w (fun r1 w2 => Q 0 w2) (fun C9 w2 => C9 = "java/lang/IllegalStateException" ∧ ∀ b9 : Int, Q 1 w2)) : b_K (d + 1) mX0_feed [(2, 0), (0, a1), (0, a2), (0, a3), (0, a4), (0, a5)] n w Q X := by
  have i0 := iz0 (Nat.le_trans (Nat.le_of_ble_eq_true rfl) hn)
  refine k_ofH (by decide) rfl rfl rfl (ls := [(2, 0), (0, a1), (0, a2), (0, a3), (0, a4), (0, a5), (9, 0)]) rfl ?_
  refine x_aload_n 0 dX0_feed_0 rfl rfl rfl rfl rfl ?_
  refine x_iload_n 1 dX0_feed_1 rfl rfl rfl ?_
  refine x_iload_n 2 dX0_feed_2 rfl rfl rfl ?_
  refine x_iload_n 3 dX0_feed_3 rfl rfl rfl ?_
  refine x_iload 4 dX0_feed_4 rfl rfl ?_
  refine x_iload 5 dX0_feed_6 rfl rfl ?_
  refine y_VvC 7 (M := mX1_feed) (As := [(0, a1), (0, a2), (0, a3), (0, a4), (0, a5)]) (st := []) dX0_feed_8 i0 rfl q3089 q3090 q3091 q358 q3092 rfl hmX1_feed rfl rfl rfl q3088 (by decide) rfl rfl rfl rfl rfl (k_monoX h (fun r1 w2 h => ?_) (fun C9 w2 h => ⟨h.1, fun b9 => ?_⟩))
  · refine x_goto 7 (q := 18) dX0_feed_11 rfl ?_
    refine x_iconst 0 (z := 0) dX0_feed_18 rfl (by decide) rfl ?_
    exact y_iret dX0_feed_19 rfl h
  · replace h := h.2 b9
    refine x_astore 6 (ls' := [(2, 0), (0, a1), (0, a2), (0, a3), (0, a4), (0, a5), (7, b9)]) dX0_feed_14 rfl rfl rfl rfl ?_
    refine x_iconst 1 (z := 1) dX0_feed_16 rfl (by decide) rfl ?_
    exact y_iret dX0_feed_17 rfl h
end RulesX0
