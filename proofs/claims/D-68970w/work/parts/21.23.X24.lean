section RulesX24
set_option maxRecDepth 100000
theorem rX24_clear {d n : Nat} {w : bW} {Q : Int → bW → Prop} {X : String → bW → Prop} (t : Int) (ht : b_is n t 0 22 6) (h : Q 0 (b_up (b_up (b_up (b_up (b_up (b_up w t 0 3) t 1 0) t 2 0) t 3 0) t 4 0) t 5 (-1))) : b_K (d + 1) mX24_clear [(2, t)] n w Q X := by
  refine k_of (by decide) rfl rfl rfl (ls := [(2, t)]) rfl ?_
  refine x_aload_n 0 dX24_clear_0 rfl rfl rfl rfl rfl ?_
  refine x_iconst 3 (z := 3) dX24_clear_1 rfl (by decide) rfl ?_
  refine x_put 11 0 (c := 22) dX24_clear_2 ht rfl in_X24 tyX24_ok nmX24 q1536 rfl rfl rfl (Or.inl rfl) (Or.inl ⟨rfl, rfl⟩) rfl ?_
  refine x_aload_n 0 dX24_clear_5 rfl rfl rfl rfl rfl ?_
  refine x_iconst 0 (z := 0) dX24_clear_6 rfl (by decide) rfl ?_
  refine x_put 15 1 (c := 22) dX24_clear_7 ht rfl in_X24 tyX24_ok nmX24 q1539 rfl rfl rfl (Or.inl rfl) (Or.inl ⟨rfl, rfl⟩) rfl ?_
  refine x_aload_n 0 dX24_clear_10 rfl rfl rfl rfl rfl ?_
  refine x_iconst 0 (z := 0) dX24_clear_11 rfl (by decide) rfl ?_
  refine x_put 18 2 (c := 22) dX24_clear_12 ht rfl in_X24 tyX24_ok nmX24 q1542 rfl rfl rfl (Or.inl rfl) (Or.inl ⟨rfl, rfl⟩) rfl ?_
  refine x_aload_n 0 dX24_clear_15 rfl rfl rfl rfl rfl ?_
  refine x_iconst 0 (z := 0) dX24_clear_16 rfl (by decide) rfl ?_
  refine x_put 21 3 (c := 22) dX24_clear_17 ht rfl in_X24 tyX24_ok nmX24 q1545 rfl rfl rfl (Or.inl rfl) (Or.inl ⟨rfl, rfl⟩) rfl ?_
  refine x_aload_n 0 dX24_clear_20 rfl rfl rfl rfl rfl ?_
  refine x_iconst 0 (z := 0) dX24_clear_21 rfl (by decide) rfl ?_
  refine x_put 24 4 (c := 22) dX24_clear_22 ht rfl in_X24 tyX24_ok nmX24 q1548 rfl rfl rfl (Or.inl rfl) (Or.inl ⟨rfl, rfl⟩) rfl ?_
  refine x_aload_n 0 dX24_clear_25 rfl rfl rfl rfl rfl ?_
  refine x_iconst (-1) (z := (-1)) dX24_clear_26 rfl (by decide) rfl ?_
  refine x_put 27 5 (c := 22) dX24_clear_27 ht rfl in_X24 tyX24_ok nmX24 q1551 rfl rfl rfl (Or.inl rfl) (Or.inl ⟨rfl, rfl⟩) rfl ?_
  exact y_vret dX24_clear_30 rfl h
end RulesX24
