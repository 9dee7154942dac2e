section RulesX27
set_option maxRecDepth 100000
abbrev LX27_clear_7 (d n : Nat) (Q : Int → bW → Prop) (X : String → bW → Prop) (a1 : Int) (w : bW) : Prop := b_Y (d + 1) mX27_clear n Q X 7 [(2, 163), (0, a1), (9, 0)] [] w
abbrev LX27_clear_29 (d n : Nat) (Q : Int → bW → Prop) (X : String → bW → Prop) (a1 : Int) (w : bW) : Prop := b_Y (d + 1) mX27_clear n Q X 29 [(2, 163), (0, a1), (9, 0)] [] w
theorem rX27_clear {d n : Nat} {w : bW} {Q : Int → bW → Prop} {X : String → bW → Prop} (hn : 171 ≤ n) (h : LX27_clear_7 d n Q X 0 (b_up w 163 7 0)) : b_K (d + 1) mX27_clear [(2, 163)] n w Q X := by
  have i163 := iz163 (Nat.le_trans (Nat.le_of_ble_eq_true rfl) hn)
  refine k_of (by decide) rfl rfl rfl (ls := [(2, 163), (9, 0), (9, 0)]) rfl ?_
  refine x_aload_n 0 dX27_clear_0 rfl rfl rfl rfl rfl ?_
  refine x_iconst 0 (z := 0) dX27_clear_1 rfl (by decide) rfl ?_
  refine x_put 38 7 (c := 25) dX27_clear_2 i163 rfl in_X27 tyX27_ok nmX27 q4116 rfl rfl rfl (Or.inl rfl) (Or.inl ⟨rfl, rfl⟩) rfl ?_
  refine x_iconst 0 (z := 0) dX27_clear_5 rfl (by decide) rfl ?_
  refine x_istore_n 1 (ls' := [(2, 163), (0, 0), (9, 0)]) dX27_clear_6 rfl rfl rfl rfl ?_
  exact x_fg (fgk (fgk (fgk (fg0)))) h
theorem sX27_clear_7 {d n : Nat} {w : bW} {Q : Int → bW → Prop} {X : String → bW → Prop} (hn : 171 ≤ n) (a1 : Int) (h : if 2048 ≤ a1 then (LX27_clear_29 d n Q X 0 w) else ((w 163 6 = 170) ∧ ((0 ≤ a1 ∧ a1 < 2048) ∧ (LX27_clear_7 d n Q X (b_i (a1 + 1)) (b_up w 170 a1 (-1)))))) : LX27_clear_7 d n Q X a1 w := by
  have i163 := iz163 (Nat.le_trans (Nat.le_of_ble_eq_true rfl) hn)
  have i170 := iz170 (Nat.le_trans (Nat.le_of_ble_eq_true rfl) hn)
  refine x_iload_n 1 dX27_clear_7 rfl rfl rfl ?_
  refine x_sipush 2048 (z := 2048) dX27_clear_8 rfl (by decide) rfl ?_
  refine x_icmp_ge (t := 27) 16 dX27_clear_11 rfl rfl (b_ite h (fun hc h => ?_) (fun hc h => ?_))
  · refine x_iconst 0 (z := 0) dX27_clear_27 rfl (by decide) rfl ?_
    refine x_istore_n 1 (ls' := [(2, 163), (0, 0), (9, 0)]) dX27_clear_28 rfl rfl rfl rfl ?_
    exact x_fg (fgk (fgk (fgk (fg0)))) h
  · refine x_aload_n 0 dX27_clear_14 rfl rfl rfl rfl rfl ?_
    obtain ⟨e1, h⟩ := h
    refine y_get 32 6 (c := 25) (z := 170) dX27_clear_15 i163 rfl in_X27 q4115 rfl rfl rfl e1 rfl ?_
    refine x_iload_n 1 dX27_clear_18 rfl rfl rfl ?_
    refine x_iconst (-1) (z := (-1)) dX27_clear_19 rfl (by decide) rfl ?_
    obtain ⟨e2, h⟩ := h
    refine y_iast (x' := (-1)) dX27_clear_20 ⟨2048, i170, e2⟩ rfl rfl ?_
    refine x_iinc 1 1 (ls' := [(2, 163), (0, b_i (a1 + 1)), (9, 0)]) dX27_clear_21 rfl rfl rfl rfl ?_
    refine x_goto (-17) (q := 7) dX27_clear_24 rfl ?_
    exact x_fg (fgk (fgk (fgk (fg0)))) h
theorem sX27_clear_29 {d n : Nat} {w : bW} {Q : Int → bW → Prop} {X : String → bW → Prop} (hn : 171 ≤ n) (a1 : Int) (h : if 9 < a1 then (Q 0 w) else (b_K d mX27_make [(2, 163), (0, a1), (0, (-1)), (0, (-1))] n w (fun r1 w2 => LX27_clear_29 d n Q X (b_i (a1 + 1)) w2) X)) : LX27_clear_29 d n Q X a1 w := by
  have i163 := iz163 (Nat.le_trans (Nat.le_of_ble_eq_true rfl) hn)
  refine x_iload_n 1 dX27_clear_29 rfl rfl rfl ?_
  refine x_bipush 9 (z := 9) dX27_clear_30 rfl (by decide) rfl ?_
  refine x_icmp_gt (t := 49) 17 dX27_clear_32 rfl rfl (b_ite h (fun hc h => ?_) (fun hc h => ?_))
  · exact y_vret dX27_clear_49 rfl h
  · refine x_aload_n 0 dX27_clear_35 rfl rfl rfl rfl rfl ?_
    refine x_iload_n 1 dX27_clear_36 rfl rfl rfl ?_
    refine x_iconst (-1) (z := (-1)) dX27_clear_37 rfl (by decide) rfl ?_
    refine x_iconst (-1) (z := (-1)) dX27_clear_38 rfl (by decide) rfl ?_
    refine y_Vi 42 (M := mX27_make) (As := [(0, a1), (0, (-1)), (0, (-1))]) (st := []) dX27_clear_39 i163 rfl q3301 q3302 q3303 q394 q3304 rfl hmX27_make rfl rfl rfl rfl rfl rfl rfl rfl (k_mono h (fun r1 w2 h => ?_))
    refine x_istore_n 2 (ls' := [(2, 163), (0, a1), (0, r1)]) dX27_clear_42 rfl rfl rfl rfl ?_
    refine x_iinc 1 1 (ls' := [(2, 163), (0, b_i (a1 + 1)), (0, r1)]) dX27_clear_43 rfl rfl rfl rfl ?_
    refine x_goto (-17) (q := 29) dX27_clear_46 rfl ?_
    exact x_fg (fgk (fgk (fgd (fg0)))) h
abbrev LX27_make_27 (d n : Nat) (Q : Int → bW → Prop) (X : String → bW → Prop) (a1 : Int) (a2 : Int) (a3 : Int) (s0 : Int) (s1 : Int) (w : bW) : Prop := b_Y (d + 1) mX27_make n Q X 27 [(2, 163), (0, a1), (0, a2), (0, a3), (9, 0), (9, 0), (9, 0)] [(0, s0), (0, s1)] w
abbrev LX27_make_96 (d n : Nat) (Q : Int → bW → Prop) (X : String → bW → Prop) (a1 : Int) (a2 : Int) (a3 : Int) (a4 : Int) (a5 : Int) (a6 : Int) (w : bW) : Prop := b_Y (d + 1) mX27_make n Q X 96 [(2, 163), (0, a1), (0, a2), (0, a3), (0, a4), (0, a5), (0, a6)] [] w
abbrev LX27_make_146 (d n : Nat) (Q : Int → bW → Prop) (X : String → bW → Prop) (a1 : Int) (a2 : Int) (a3 : Int) (a4 : Int) (a5 : Int) (a6 : Int) (w : bW) : Prop := b_Y (d + 1) mX27_make n Q X 146 [(2, 163), (0, a1), (0, a2), (0, a3), (0, a4), (0, a5), (0, a6)] [] w
theorem rX27_make {d n : Nat} {w : bW} {Q : Int → bW → Prop} {X : String → bW → Prop} (hn : 171 ≤ n) (a1 : Int) (a2 : Int) (a3 : Int) (h : if 10 ≤ a1 then (if 0 ≤ a2 then ((w 163 3 = 167) ∧ ((0 ≤ a2 ∧ a2 < 20000) ∧ (LX27_make_27 d n Q X a1 a2 a3 (w 167 a2) 1 w))) else (LX27_make_27 d n Q X a1 a2 a3 200 1 w)) else (LX27_make_27 d n Q X a1 a2 a3 0 1 w)) : b_K (d + 1) mX27_make [(2, 163), (0, a1), (0, a2), (0, a3)] n w Q X := by
  have i163 := iz163 (Nat.le_trans (Nat.le_of_ble_eq_true rfl) hn)
  have i167 := iz167 (Nat.le_trans (Nat.le_of_ble_eq_true rfl) hn)
  refine k_of (by decide) rfl rfl rfl (ls := [(2, 163), (0, a1), (0, a2), (0, a3), (9, 0), (9, 0), (9, 0)]) rfl ?_
  refine x_iconst 1 (z := 1) dX27_make_0 rfl (by decide) rfl ?_
  refine x_iload_n 1 dX27_make_1 rfl rfl rfl ?_
  refine x_bipush 10 (z := 10) dX27_make_2 rfl (by decide) rfl ?_
  refine x_icmp_ge (t := 11) 7 dX27_make_4 rfl rfl (b_ite h (fun hc h => ?_) (fun hc h => ?_))
  · refine x_iload_n 2 dX27_make_11 rfl rfl rfl ?_
    refine x_if_ge (t := 21) 9 dX27_make_12 rfl rfl (b_ite h (fun hc h => ?_) (fun hc h => ?_))
    · refine x_aload_n 0 dX27_make_21 rfl rfl rfl rfl rfl ?_
      obtain ⟨e1, h⟩ := h
      refine y_get 22 3 (c := 25) (z := 167) dX27_make_22 i163 rfl in_X27 q4112 rfl rfl rfl e1 rfl ?_
      refine x_iload_n 2 dX27_make_25 rfl rfl rfl ?_
      obtain ⟨e2, h⟩ := h
      refine y_sald (z := w 167 a2) dX27_make_26 ⟨20000, i167, e2⟩ rfl rfl ?_
      exact x_fg (fgk (fgk (fgk (fgk (fgk (fgk (fgk (fg0)))))))) h
    · refine x_sipush 200 (z := 200) dX27_make_15 rfl (by decide) rfl ?_
      refine x_goto 9 (q := 27) dX27_make_18 rfl ?_
      exact x_fg (fgk (fgk (fgk (fgk (fgk (fgk (fgk (fg0)))))))) h
  · refine x_iconst 0 (z := 0) dX27_make_7 rfl (by decide) rfl ?_
    refine x_goto 19 (q := 27) dX27_make_8 rfl ?_
    exact x_fg (fgk (fgk (fgk (fgk (fgk (fgk (fgk (fg0)))))))) h
theorem sX27_make_27 {d n : Nat} {w : bW} {Q : Int → bW → Prop} {X : String → bW → Prop} (hn : 171 ≤ n) (a1 : Int) (a2 : Int) (a3 : Int) (s0 : Int) (s1 : Int) (h : if 14 ≤ a1 then (if 0 ≤ a3 then ((w 163 3 = 167) ∧ ((0 ≤ a3 ∧ a3 < 20000) ∧ (if b_i ((b_i (s1 + s0)) + (w 167 a3)) ≤ 200 then ((w 163 6 = 170) ∧ ((0 ≤ b_rem (b_and (b_i ((b_i (31 * (b_i ((b_i (31 * a1)) + a2)))) + a3)) 2147483647) 2048 ∧ b_rem (b_and (b_i ((b_i (31 * (b_i ((b_i (31 * a1)) + a2)))) + a3)) 2147483647) 2048 < 2048) ∧ (LX27_make_96 d n Q X a1 a2 a3 (b_i ((b_i (s1 + s0)) + (w 167 a3))) (b_rem (b_and (b_i ((b_i (31 * (b_i ((b_i (31 * a1)) + a2)))) + a3)) 2147483647) 2048) (w 170 (b_rem (b_and (b_i ((b_i (31 * (b_i ((b_i (31 * a1)) + a2)))) + a3)) 2147483647) 2048)) w))) else (Q (-1) w)))) else (if b_i ((b_i (s1 + s0)) + 200) ≤ 200 then ((w 163 6 = 170) ∧ ((0 ≤ b_rem (b_and (b_i ((b_i (31 * (b_i ((b_i (31 * a1)) + a2)))) + a3)) 2147483647) 2048 ∧ b_rem (b_and (b_i ((b_i (31 * (b_i ((b_i (31 * a1)) + a2)))) + a3)) 2147483647) 2048 < 2048) ∧ (LX27_make_96 d n Q X a1 a2 a3 (b_i ((b_i (s1 + s0)) + 200)) (b_rem (b_and (b_i ((b_i (31 * (b_i ((b_i (31 * a1)) + a2)))) + a3)) 2147483647) 2048) (w 170 (b_rem (b_and (b_i ((b_i (31 * (b_i ((b_i (31 * a1)) + a2)))) + a3)) 2147483647) 2048)) w))) else (Q (-1) w))) else (if b_i ((b_i (s1 + s0)) + 0) ≤ 200 then ((w 163 6 = 170) ∧ ((0 ≤ b_rem (b_and (b_i ((b_i (31 * (b_i ((b_i (31 * a1)) + a2)))) + a3)) 2147483647) 2048 ∧ b_rem (b_and (b_i ((b_i (31 * (b_i ((b_i (31 * a1)) + a2)))) + a3)) 2147483647) 2048 < 2048) ∧ (LX27_make_96 d n Q X a1 a2 a3 (b_i ((b_i (s1 + s0)) + 0)) (b_rem (b_and (b_i ((b_i (31 * (b_i ((b_i (31 * a1)) + a2)))) + a3)) 2147483647) 2048) (w 170 (b_rem (b_and (b_i ((b_i (31 * (b_i ((b_i (31 * a1)) + a2)))) + a3)) 2147483647) 2048)) w))) else (Q (-1) w))) : LX27_make_27 d n Q X a1 a2 a3 s0 s1 w := by
  have i163 := iz163 (Nat.le_trans (Nat.le_of_ble_eq_true rfl) hn)
  have i167 := iz167 (Nat.le_trans (Nat.le_of_ble_eq_true rfl) hn)
  have i170 := iz170 (Nat.le_trans (Nat.le_of_ble_eq_true rfl) hn)
  refine x_iadd dX27_make_27 rfl ?_
  refine x_iload_n 1 dX27_make_28 rfl rfl rfl ?_
  refine x_bipush 14 (z := 14) dX27_make_29 rfl (by decide) rfl ?_
  refine x_icmp_ge (t := 38) 7 dX27_make_31 rfl rfl (b_ite h (fun hc h => ?_) (fun hc h => ?_))
  · refine x_iload_n 3 dX27_make_38 rfl rfl rfl ?_
    refine x_if_ge (t := 48) 9 dX27_make_39 rfl rfl (b_ite h (fun hc h => ?_) (fun hc h => ?_))
    · refine x_aload_n 0 dX27_make_48 rfl rfl rfl rfl rfl ?_
      obtain ⟨e1, h⟩ := h
      refine y_get 22 3 (c := 25) (z := 167) dX27_make_49 i163 rfl in_X27 q4112 rfl rfl rfl e1 rfl ?_
      refine x_iload_n 3 dX27_make_52 rfl rfl rfl ?_
      obtain ⟨e2, h⟩ := h
      refine y_sald (z := w 167 a3) dX27_make_53 ⟨20000, i167, e2⟩ rfl rfl ?_
      refine x_iadd dX27_make_54 rfl ?_
      refine x_istore 4 (ls' := [(2, 163), (0, a1), (0, a2), (0, a3), (0, b_i ((b_i (s1 + s0)) + (w 167 a3))), (9, 0), (9, 0)]) dX27_make_55 rfl rfl rfl ?_
      refine x_iload 4 dX27_make_57 rfl rfl ?_
      refine x_sipush 200 (z := 200) dX27_make_59 rfl (by decide) rfl ?_
      refine x_icmp_le (t := 67) 5 dX27_make_62 rfl rfl (b_ite h (fun hc h => ?_) (fun hc h => ?_))
      · refine x_bipush 31 (z := 31) dX27_make_67 rfl (by decide) rfl ?_
        refine x_bipush 31 (z := 31) dX27_make_69 rfl (by decide) rfl ?_
        refine x_iload_n 1 dX27_make_71 rfl rfl rfl ?_
        refine x_imul dX27_make_72 rfl ?_
        refine x_iload_n 2 dX27_make_73 rfl rfl rfl ?_
        refine x_iadd dX27_make_74 rfl ?_
        refine x_imul dX27_make_75 rfl ?_
        refine x_iload_n 3 dX27_make_76 rfl rfl rfl ?_
        refine x_iadd dX27_make_77 rfl ?_
        refine x_ldc 46 (x := 2147483647) dX27_make_78 q3305 rfl (by decide) rfl ?_
        refine x_iand dX27_make_80 rfl ?_
        refine x_sipush 2048 (z := 2048) dX27_make_81 rfl (by decide) rfl ?_
        refine x_irem dX27_make_84 (by decide) rfl ?_
        refine x_istore 5 (ls' := [(2, 163), (0, a1), (0, a2), (0, a3), (0, b_i ((b_i (s1 + s0)) + (w 167 a3))), (0, b_rem (b_and (b_i ((b_i (31 * (b_i ((b_i (31 * a1)) + a2)))) + a3)) 2147483647) 2048), (9, 0)]) dX27_make_85 rfl rfl rfl ?_
        refine x_aload_n 0 dX27_make_87 rfl rfl rfl rfl rfl ?_
        obtain ⟨e3, h⟩ := h
        refine y_get 32 6 (c := 25) (z := 170) dX27_make_88 i163 rfl in_X27 q4115 rfl rfl rfl e3 rfl ?_
        refine x_iload 5 dX27_make_91 rfl rfl ?_
        obtain ⟨e4, h⟩ := h
        refine y_iald (z := w 170 (b_rem (b_and (b_i ((b_i (31 * (b_i ((b_i (31 * a1)) + a2)))) + a3)) 2147483647) 2048)) dX27_make_93 ⟨2048, i170, e4⟩ rfl rfl ?_
        refine x_istore 6 (ls' := [(2, 163), (0, a1), (0, a2), (0, a3), (0, b_i ((b_i (s1 + s0)) + (w 167 a3))), (0, b_rem (b_and (b_i ((b_i (31 * (b_i ((b_i (31 * a1)) + a2)))) + a3)) 2147483647) 2048), (0, w 170 (b_rem (b_and (b_i ((b_i (31 * (b_i ((b_i (31 * a1)) + a2)))) + a3)) 2147483647) 2048))]) dX27_make_94 rfl rfl rfl ?_
        exact x_fg (fgk (fgk (fgk (fgk (fgk (fgk (fgk (fg0)))))))) h
      · refine x_iconst (-1) (z := (-1)) dX27_make_65 rfl (by decide) rfl ?_
        exact y_iret dX27_make_66 rfl h
    · refine x_sipush 200 (z := 200) dX27_make_42 rfl (by decide) rfl ?_
      refine x_goto 9 (q := 54) dX27_make_45 rfl ?_
      refine x_iadd dX27_make_54 rfl ?_
      refine x_istore 4 (ls' := [(2, 163), (0, a1), (0, a2), (0, a3), (0, b_i ((b_i (s1 + s0)) + 200)), (9, 0), (9, 0)]) dX27_make_55 rfl rfl rfl ?_
      refine x_iload 4 dX27_make_57 rfl rfl ?_
      refine x_sipush 200 (z := 200) dX27_make_59 rfl (by decide) rfl ?_
      refine x_icmp_le (t := 67) 5 dX27_make_62 rfl rfl (b_ite h (fun hc h => ?_) (fun hc h => ?_))
      · refine x_bipush 31 (z := 31) dX27_make_67 rfl (by decide) rfl ?_
        refine x_bipush 31 (z := 31) dX27_make_69 rfl (by decide) rfl ?_
        refine x_iload_n 1 dX27_make_71 rfl rfl rfl ?_
        refine x_imul dX27_make_72 rfl ?_
        refine x_iload_n 2 dX27_make_73 rfl rfl rfl ?_
        refine x_iadd dX27_make_74 rfl ?_
        refine x_imul dX27_make_75 rfl ?_
        refine x_iload_n 3 dX27_make_76 rfl rfl rfl ?_
        refine x_iadd dX27_make_77 rfl ?_
        refine x_ldc 46 (x := 2147483647) dX27_make_78 q3305 rfl (by decide) rfl ?_
        refine x_iand dX27_make_80 rfl ?_
        refine x_sipush 2048 (z := 2048) dX27_make_81 rfl (by decide) rfl ?_
        refine x_irem dX27_make_84 (by decide) rfl ?_
        refine x_istore 5 (ls' := [(2, 163), (0, a1), (0, a2), (0, a3), (0, b_i ((b_i (s1 + s0)) + 200)), (0, b_rem (b_and (b_i ((b_i (31 * (b_i ((b_i (31 * a1)) + a2)))) + a3)) 2147483647) 2048), (9, 0)]) dX27_make_85 rfl rfl rfl ?_
        refine x_aload_n 0 dX27_make_87 rfl rfl rfl rfl rfl ?_
        obtain ⟨e5, h⟩ := h
        refine y_get 32 6 (c := 25) (z := 170) dX27_make_88 i163 rfl in_X27 q4115 rfl rfl rfl e5 rfl ?_
        refine x_iload 5 dX27_make_91 rfl rfl ?_
        obtain ⟨e6, h⟩ := h
        refine y_iald (z := w 170 (b_rem (b_and (b_i ((b_i (31 * (b_i ((b_i (31 * a1)) + a2)))) + a3)) 2147483647) 2048)) dX27_make_93 ⟨2048, i170, e6⟩ rfl rfl ?_
        refine x_istore 6 (ls' := [(2, 163), (0, a1), (0, a2), (0, a3), (0, b_i ((b_i (s1 + s0)) + 200)), (0, b_rem (b_and (b_i ((b_i (31 * (b_i ((b_i (31 * a1)) + a2)))) + a3)) 2147483647) 2048), (0, w 170 (b_rem (b_and (b_i ((b_i (31 * (b_i ((b_i (31 * a1)) + a2)))) + a3)) 2147483647) 2048))]) dX27_make_94 rfl rfl rfl ?_
        exact x_fg (fgk (fgk (fgk (fgk (fgk (fgk (fgk (fg0)))))))) h
      · refine x_iconst (-1) (z := (-1)) dX27_make_65 rfl (by decide) rfl ?_
        exact y_iret dX27_make_66 rfl h
  · refine x_iconst 0 (z := 0) dX27_make_34 rfl (by decide) rfl ?_
    refine x_goto 19 (q := 54) dX27_make_35 rfl ?_
    refine x_iadd dX27_make_54 rfl ?_
    refine x_istore 4 (ls' := [(2, 163), (0, a1), (0, a2), (0, a3), (0, b_i ((b_i (s1 + s0)) + 0)), (9, 0), (9, 0)]) dX27_make_55 rfl rfl rfl ?_
    refine x_iload 4 dX27_make_57 rfl rfl ?_
    refine x_sipush 200 (z := 200) dX27_make_59 rfl (by decide) rfl ?_
    refine x_icmp_le (t := 67) 5 dX27_make_62 rfl rfl (b_ite h (fun hc h => ?_) (fun hc h => ?_))
    · refine x_bipush 31 (z := 31) dX27_make_67 rfl (by decide) rfl ?_
      refine x_bipush 31 (z := 31) dX27_make_69 rfl (by decide) rfl ?_
      refine x_iload_n 1 dX27_make_71 rfl rfl rfl ?_
      refine x_imul dX27_make_72 rfl ?_
      refine x_iload_n 2 dX27_make_73 rfl rfl rfl ?_
      refine x_iadd dX27_make_74 rfl ?_
      refine x_imul dX27_make_75 rfl ?_
      refine x_iload_n 3 dX27_make_76 rfl rfl rfl ?_
      refine x_iadd dX27_make_77 rfl ?_
      refine x_ldc 46 (x := 2147483647) dX27_make_78 q3305 rfl (by decide) rfl ?_
      refine x_iand dX27_make_80 rfl ?_
      refine x_sipush 2048 (z := 2048) dX27_make_81 rfl (by decide) rfl ?_
      refine x_irem dX27_make_84 (by decide) rfl ?_
      refine x_istore 5 (ls' := [(2, 163), (0, a1), (0, a2), (0, a3), (0, b_i ((b_i (s1 + s0)) + 0)), (0, b_rem (b_and (b_i ((b_i (31 * (b_i ((b_i (31 * a1)) + a2)))) + a3)) 2147483647) 2048), (9, 0)]) dX27_make_85 rfl rfl rfl ?_
      refine x_aload_n 0 dX27_make_87 rfl rfl rfl rfl rfl ?_
      obtain ⟨e7, h⟩ := h
      refine y_get 32 6 (c := 25) (z := 170) dX27_make_88 i163 rfl in_X27 q4115 rfl rfl rfl e7 rfl ?_
      refine x_iload 5 dX27_make_91 rfl rfl ?_
      obtain ⟨e8, h⟩ := h
      refine y_iald (z := w 170 (b_rem (b_and (b_i ((b_i (31 * (b_i ((b_i (31 * a1)) + a2)))) + a3)) 2147483647) 2048)) dX27_make_93 ⟨2048, i170, e8⟩ rfl rfl ?_
      refine x_istore 6 (ls' := [(2, 163), (0, a1), (0, a2), (0, a3), (0, b_i ((b_i (s1 + s0)) + 0)), (0, b_rem (b_and (b_i ((b_i (31 * (b_i ((b_i (31 * a1)) + a2)))) + a3)) 2147483647) 2048), (0, w 170 (b_rem (b_and (b_i ((b_i (31 * (b_i ((b_i (31 * a1)) + a2)))) + a3)) 2147483647) 2048))]) dX27_make_94 rfl rfl rfl ?_
      exact x_fg (fgk (fgk (fgk (fgk (fgk (fgk (fgk (fg0)))))))) h
    · refine x_iconst (-1) (z := (-1)) dX27_make_65 rfl (by decide) rfl ?_
      exact y_iret dX27_make_66 rfl h
theorem sX27_make_96 {d n : Nat} {w : bW} {Q : Int → bW → Prop} {X : String → bW → Prop} (hn : 171 ≤ n) (a1 : Int) (a2 : Int) (a3 : Int) (a4 : Int) (a5 : Int) (a6 : Int) (h : if a6 < 0 then (LX27_make_146 d n Q X a1 a2 a3 a4 a5 a6 w) else ((w 163 0 = 164) ∧ ((0 ≤ a6 ∧ a6 < 20000) ∧ (if w 164 a6 ≠ a1 then ((w 163 5 = 169) ∧ ((0 ≤ a6 ∧ a6 < 20000) ∧ (LX27_make_96 d n Q X a1 a2 a3 a4 a5 (w 169 a6) w))) else ((w 163 1 = 165) ∧ ((0 ≤ a6 ∧ a6 < 20000) ∧ (if w 165 a6 ≠ a2 then ((w 163 5 = 169) ∧ ((0 ≤ a6 ∧ a6 < 20000) ∧ (LX27_make_96 d n Q X a1 a2 a3 a4 a5 (w 169 a6) w))) else ((w 163 2 = 166) ∧ ((0 ≤ a6 ∧ a6 < 20000) ∧ (if w 166 a6 = a3 then (LX27_make_146 d n Q X a1 a2 a3 a4 a5 a6 w) else ((w 163 5 = 169) ∧ ((0 ≤ a6 ∧ a6 < 20000) ∧ (LX27_make_96 d n Q X a1 a2 a3 a4 a5 (w 169 a6) w))))))))))))) : LX27_make_96 d n Q X a1 a2 a3 a4 a5 a6 w := by
  have i163 := iz163 (Nat.le_trans (Nat.le_of_ble_eq_true rfl) hn)
  have i164 := iz164 (Nat.le_trans (Nat.le_of_ble_eq_true rfl) hn)
  have i165 := iz165 (Nat.le_trans (Nat.le_of_ble_eq_true rfl) hn)
  have i166 := iz166 (Nat.le_trans (Nat.le_of_ble_eq_true rfl) hn)
  have i169 := iz169 (Nat.le_trans (Nat.le_of_ble_eq_true rfl) hn)
  refine x_iload 6 dX27_make_96 rfl rfl ?_
  refine x_if_lt (t := 146) 48 dX27_make_98 rfl rfl (b_ite h (fun hc h => ?_) (fun hc h => ?_))
  · exact x_fg (fgk (fgk (fgk (fgk (fgk (fgk (fgk (fg0)))))))) h
  · refine x_aload_n 0 dX27_make_101 rfl rfl rfl rfl rfl ?_
    obtain ⟨e1, h⟩ := h
    refine y_get 9 0 (c := 25) (z := 164) dX27_make_102 i163 rfl in_X27 q4106 rfl rfl rfl e1 rfl ?_
    refine x_iload 6 dX27_make_105 rfl rfl ?_
    obtain ⟨e2, h⟩ := h
    refine y_bald (z := w 164 a6) dX27_make_107 ⟨20000, i164, e2⟩ rfl rfl ?_
    refine x_iload_n 1 dX27_make_108 rfl rfl rfl ?_
    refine x_icmp_ne (t := 134) 25 dX27_make_109 rfl rfl (b_ite h (fun hc h => ?_) (fun hc h => ?_))
    · refine x_aload_n 0 dX27_make_134 rfl rfl rfl rfl rfl ?_
      obtain ⟨e3, h⟩ := h
      refine y_get 29 5 (c := 25) (z := 169) dX27_make_135 i163 rfl in_X27 q4114 rfl rfl rfl e3 rfl ?_
      refine x_iload 6 dX27_make_138 rfl rfl ?_
      obtain ⟨e4, h⟩ := h
      refine y_iald (z := w 169 a6) dX27_make_140 ⟨20000, i169, e4⟩ rfl rfl ?_
      refine x_istore 6 (ls' := [(2, 163), (0, a1), (0, a2), (0, a3), (0, a4), (0, a5), (0, w 169 a6)]) dX27_make_141 rfl rfl rfl ?_
      refine x_goto (-47) (q := 96) dX27_make_143 rfl ?_
      exact x_fg (fgk (fgk (fgk (fgk (fgk (fgk (fgk (fg0)))))))) h
    · refine x_aload_n 0 dX27_make_112 rfl rfl rfl rfl rfl ?_
      obtain ⟨e5, h⟩ := h
      refine y_get 15 1 (c := 25) (z := 165) dX27_make_113 i163 rfl in_X27 q4108 rfl rfl rfl e5 rfl ?_
      refine x_iload 6 dX27_make_116 rfl rfl ?_
      obtain ⟨e6, h⟩ := h
      refine y_iald (z := w 165 a6) dX27_make_118 ⟨20000, i165, e6⟩ rfl rfl ?_
      refine x_iload_n 2 dX27_make_119 rfl rfl rfl ?_
      refine x_icmp_ne (t := 134) 14 dX27_make_120 rfl rfl (b_ite h (fun hc h => ?_) (fun hc h => ?_))
      · refine x_aload_n 0 dX27_make_134 rfl rfl rfl rfl rfl ?_
        obtain ⟨e7, h⟩ := h
        refine y_get 29 5 (c := 25) (z := 169) dX27_make_135 i163 rfl in_X27 q4114 rfl rfl rfl e7 rfl ?_
        refine x_iload 6 dX27_make_138 rfl rfl ?_
        obtain ⟨e8, h⟩ := h
        refine y_iald (z := w 169 a6) dX27_make_140 ⟨20000, i169, e8⟩ rfl rfl ?_
        refine x_istore 6 (ls' := [(2, 163), (0, a1), (0, a2), (0, a3), (0, a4), (0, a5), (0, w 169 a6)]) dX27_make_141 rfl rfl rfl ?_
        refine x_goto (-47) (q := 96) dX27_make_143 rfl ?_
        exact x_fg (fgk (fgk (fgk (fgk (fgk (fgk (fgk (fg0)))))))) h
      · refine x_aload_n 0 dX27_make_123 rfl rfl rfl rfl rfl ?_
        obtain ⟨e9, h⟩ := h
        refine y_get 19 2 (c := 25) (z := 166) dX27_make_124 i163 rfl in_X27 q4110 rfl rfl rfl e9 rfl ?_
        refine x_iload 6 dX27_make_127 rfl rfl ?_
        obtain ⟨e10, h⟩ := h
        refine y_iald (z := w 166 a6) dX27_make_129 ⟨20000, i166, e10⟩ rfl rfl ?_
        refine x_iload_n 3 dX27_make_130 rfl rfl rfl ?_
        refine x_icmp_eq (t := 146) 15 dX27_make_131 rfl rfl (b_ite h (fun hc h => ?_) (fun hc h => ?_))
        · exact x_fg (fgk (fgk (fgk (fgk (fgk (fgk (fgk (fg0)))))))) h
        · refine x_aload_n 0 dX27_make_134 rfl rfl rfl rfl rfl ?_
          obtain ⟨e11, h⟩ := h
          refine y_get 29 5 (c := 25) (z := 169) dX27_make_135 i163 rfl in_X27 q4114 rfl rfl rfl e11 rfl ?_
          refine x_iload 6 dX27_make_138 rfl rfl ?_
          obtain ⟨e12, h⟩ := h
          refine y_iald (z := w 169 a6) dX27_make_140 ⟨20000, i169, e12⟩ rfl rfl ?_
          refine x_istore 6 (ls' := [(2, 163), (0, a1), (0, a2), (0, a3), (0, a4), (0, a5), (0, w 169 a6)]) dX27_make_141 rfl rfl rfl ?_
          refine x_goto (-47) (q := 96) dX27_make_143 rfl ?_
          exact x_fg (fgk (fgk (fgk (fgk (fgk (fgk (fgk (fg0)))))))) h
theorem sX27_make_146 {d n : Nat} {w : bW} {Q : Int → bW → Prop} {X : String → bW → Prop} (hn : 171 ≤ n) (a1 : Int) (a2 : Int) (a3 : Int) (a4 : Int) (a5 : Int) (a6 : Int) (h : if a6 < 0 then ((w 163 0 = 164) ∧ ((0 ≤ w 163 7 ∧ w 163 7 < 20000) ∧ ((w 163 1 = 165) ∧ ((0 ≤ w 163 7 ∧ w 163 7 < 20000) ∧ ((w 163 2 = 166) ∧ ((0 ≤ w 163 7 ∧ w 163 7 < 20000) ∧ ((w 163 3 = 167) ∧ ((0 ≤ w 163 7 ∧ w 163 7 < 20000) ∧ ((w 163 4 = 168) ∧ (b_K d mX27_marksOf [(2, 163), (0, a1), (0, a2), (0, a3)] n (b_up (b_up (b_up (b_up (b_up w 163 7 (b_i ((w 163 7) + 1))) 164 (w 163 7) (b_b8 a1)) 165 (w 163 7) a2) 166 (w 163 7) a3) 167 (w 163 7) (b_s16 a4)) (fun r10 w11 => (0 ≤ w 163 7 ∧ w 163 7 < 20000) ∧ ((w11 163 5 = 169) ∧ ((w11 163 6 = 170) ∧ ((0 ≤ a5 ∧ a5 < 2048) ∧ ((0 ≤ w 163 7 ∧ w 163 7 < 20000) ∧ ((w11 163 6 = 170) ∧ (Q (w 163 7) (b_up (b_up (b_up w11 168 (w 163 7) (b_b8 r10)) 169 (w 163 7) (w11 170 a5)) 170 a5 (w 163 7))))))))) X)))))))))) else (Q a6 w)) : LX27_make_146 d n Q X a1 a2 a3 a4 a5 a6 w := by
  have i163 := iz163 (Nat.le_trans (Nat.le_of_ble_eq_true rfl) hn)
  have i164 := iz164 (Nat.le_trans (Nat.le_of_ble_eq_true rfl) hn)
  have i165 := iz165 (Nat.le_trans (Nat.le_of_ble_eq_true rfl) hn)
  have i166 := iz166 (Nat.le_trans (Nat.le_of_ble_eq_true rfl) hn)
  have i167 := iz167 (Nat.le_trans (Nat.le_of_ble_eq_true rfl) hn)
  have i168 := iz168 (Nat.le_trans (Nat.le_of_ble_eq_true rfl) hn)
  have i169 := iz169 (Nat.le_trans (Nat.le_of_ble_eq_true rfl) hn)
  have i170 := iz170 (Nat.le_trans (Nat.le_of_ble_eq_true rfl) hn)
  refine x_iload 6 dX27_make_146 rfl rfl ?_
  refine x_if_lt (t := 154) 6 dX27_make_148 rfl rfl (b_ite h (fun hc h => ?_) (fun hc h => ?_))
  · refine x_aload_n 0 dX27_make_154 rfl rfl rfl rfl rfl ?_
    refine y_get 38 7 (c := 25) (z := w 163 7) dX27_make_155 i163 rfl in_X27 q4116 rfl rfl rfl rfl rfl ?_
    refine x_istore 6 (ls' := [(2, 163), (0, a1), (0, a2), (0, a3), (0, a4), (0, a5), (0, w 163 7)]) dX27_make_158 rfl rfl rfl ?_
    refine x_aload_n 0 dX27_make_160 rfl rfl rfl rfl rfl ?_
    refine x_dup dX27_make_161 rfl rfl ?_
    refine y_get 38 7 (c := 25) (z := w 163 7) dX27_make_162 i163 rfl in_X27 q4116 rfl rfl rfl rfl rfl ?_
    refine x_iconst 1 (z := 1) dX27_make_165 rfl (by decide) rfl ?_
    refine x_iadd dX27_make_166 rfl ?_
    refine x_put 38 7 (c := 25) dX27_make_167 i163 rfl in_X27 tyX27_ok nmX27 q4116 rfl rfl rfl (Or.inl rfl) (Or.inl ⟨rfl, rfl⟩) rfl ?_
    refine x_aload_n 0 dX27_make_170 rfl rfl rfl rfl rfl ?_
    obtain ⟨e1, h⟩ := h
    refine y_get 9 0 (c := 25) (z := 164) dX27_make_171 i163 rfl in_X27 q4106 rfl rfl rfl e1 rfl ?_
    refine x_iload 6 dX27_make_174 rfl rfl ?_
    refine x_iload_n 1 dX27_make_176 rfl rfl rfl ?_
    refine x_i2b dX27_make_177 rfl ?_
    obtain ⟨e2, h⟩ := h
    refine y_bast (x' := b_b8 a1) dX27_make_178 ⟨20000, i164, e2⟩ (b_b8_i _) rfl ?_
    refine x_aload_n 0 dX27_make_179 rfl rfl rfl rfl rfl ?_
    obtain ⟨e3, h⟩ := h
    refine y_get 15 1 (c := 25) (z := 165) dX27_make_180 i163 rfl in_X27 q4108 rfl rfl rfl e3 rfl ?_
    refine x_iload 6 dX27_make_183 rfl rfl ?_
    refine x_iload_n 2 dX27_make_185 rfl rfl rfl ?_
    obtain ⟨e4, h⟩ := h
    refine y_iast (x' := a2) dX27_make_186 ⟨20000, i165, e4⟩ rfl rfl ?_
    refine x_aload_n 0 dX27_make_187 rfl rfl rfl rfl rfl ?_
    obtain ⟨e5, h⟩ := h
    refine y_get 19 2 (c := 25) (z := 166) dX27_make_188 i163 rfl in_X27 q4110 rfl rfl rfl e5 rfl ?_
    refine x_iload 6 dX27_make_191 rfl rfl ?_
    refine x_iload_n 3 dX27_make_193 rfl rfl rfl ?_
    obtain ⟨e6, h⟩ := h
    refine y_iast (x' := a3) dX27_make_194 ⟨20000, i166, e6⟩ rfl rfl ?_
    refine x_aload_n 0 dX27_make_195 rfl rfl rfl rfl rfl ?_
    obtain ⟨e7, h⟩ := h
    refine y_get 22 3 (c := 25) (z := 167) dX27_make_196 i163 rfl in_X27 q4112 rfl rfl rfl e7 rfl ?_
    refine x_iload 6 dX27_make_199 rfl rfl ?_
    refine x_iload 4 dX27_make_201 rfl rfl ?_
    refine x_i2s dX27_make_203 rfl ?_
    obtain ⟨e8, h⟩ := h
    refine y_sast (x' := b_s16 a4) dX27_make_204 ⟨20000, i167, e8⟩ (b_s16_i _) rfl ?_
    refine x_aload_n 0 dX27_make_205 rfl rfl rfl rfl rfl ?_
    obtain ⟨e9, h⟩ := h
    refine y_get 26 4 (c := 25) (z := 168) dX27_make_206 i163 rfl in_X27 q4113 rfl rfl rfl e9 rfl ?_
    refine x_iload 6 dX27_make_209 rfl rfl ?_
    refine x_aload_n 0 dX27_make_211 rfl rfl rfl rfl rfl ?_
    refine x_iload_n 1 dX27_make_212 rfl rfl rfl ?_
    refine x_iload_n 2 dX27_make_213 rfl rfl rfl ?_
    refine x_iload_n 3 dX27_make_214 rfl rfl rfl ?_
    refine y_Vi 47 (M := mX27_marksOf) (As := [(0, a1), (0, a2), (0, a3)]) (st := [(0, w 163 7), (2, 168)]) dX27_make_215 i163 rfl q3306 q3308 qs202 q394 q3310 rfl hmX27_marksOf rfl rfl rfl rfl rfl rfl rfl rfl (k_mono h (fun r10 w11 h => ?_))
    refine x_i2b dX27_make_218 rfl ?_
    obtain ⟨e12, h⟩ := h
    refine y_bast (x' := b_b8 r10) dX27_make_219 ⟨20000, i168, e12⟩ (b_b8_i _) rfl ?_
    refine x_aload_n 0 dX27_make_220 rfl rfl rfl rfl rfl ?_
    obtain ⟨e13, h⟩ := h
    refine y_get 29 5 (c := 25) (z := 169) dX27_make_221 i163 rfl in_X27 q4114 rfl rfl rfl e13 rfl ?_
    refine x_iload 6 dX27_make_224 rfl rfl ?_
    refine x_aload_n 0 dX27_make_226 rfl rfl rfl rfl rfl ?_
    obtain ⟨e14, h⟩ := h
    refine y_get 32 6 (c := 25) (z := 170) dX27_make_227 i163 rfl in_X27 q4115 rfl rfl rfl e14 rfl ?_
    refine x_iload 5 dX27_make_230 rfl rfl ?_
    obtain ⟨e15, h⟩ := h
    refine y_iald (z := w11 170 a5) dX27_make_232 ⟨2048, i170, e15⟩ rfl rfl ?_
    obtain ⟨e16, h⟩ := h
    refine y_iast (x' := w11 170 a5) dX27_make_233 ⟨20000, i169, e16⟩ rfl rfl ?_
    refine x_aload_n 0 dX27_make_234 rfl rfl rfl rfl rfl ?_
    obtain ⟨e17, h⟩ := h
    refine y_get 32 6 (c := 25) (z := 170) dX27_make_235 i163 rfl in_X27 q4115 rfl rfl rfl e17 rfl ?_
    refine x_iload 5 dX27_make_238 rfl rfl ?_
    refine x_iload 6 dX27_make_240 rfl rfl ?_
    refine y_iast (x' := w 163 7) dX27_make_242 ⟨2048, i170, e15⟩ rfl rfl ?_
    refine x_iload 6 dX27_make_243 rfl rfl ?_
    exact y_iret dX27_make_245 rfl h
  · refine x_iload 6 dX27_make_151 rfl rfl ?_
    exact y_iret dX27_make_153 rfl h
theorem rX27_marksOf {d n : Nat} {w : bW} {Q : Int → bW → Prop} {X : String → bW → Prop} (hn : 169 ≤ n) (a1 : Int) (a2 : Int) (a3 : Int) (h : if a1 = 9 ∨ a1 = 13 ∨ a1 = 17 then (Q 0 w) else (if a1 = 10 then ((w 163 4 = 168) ∧ ((0 ≤ a2 ∧ a2 < 20000) ∧ ((w 163 4 = 168) ∧ (if b_and (w 168 a2) 2 ≤ 0 then (Q (b_or (b_and (w 168 a2) 3) 0) w) else (Q (b_or (b_and (w 168 a2) 3) 4) w))))) else (if a1 = 11 ∨ a1 = 12 then ((w 163 4 = 168) ∧ ((0 ≤ a2 ∧ a2 < 20000) ∧ (if b_and (w 168 a2) 2 ≤ 0 then (Q 0 w) else (Q 6 w)))) else (if a1 = 14 then ((w 163 4 = 168) ∧ ((0 ≤ a2 ∧ a2 < 20000) ∧ ((w 163 4 = 168) ∧ ((0 ≤ a3 ∧ a3 < 20000) ∧ (if b_and (b_and (b_and (w 168 a2) (w 168 a3)) 3) 2 ≤ 0 then (Q (b_or (b_and (b_and (w 168 a2) (w 168 a3)) 3) 0) w) else (Q (b_or (b_and (b_and (w 168 a2) (w 168 a3)) 3) 4) w)))))) else (if a1 = 15 then ((w 163 4 = 168) ∧ ((0 ≤ a3 ∧ a3 < 20000) ∧ (if b_and (w 168 a3) 2 ≤ 0 then (Q 0 w) else (Q 6 w)))) else (if a1 = 16 then ((w 163 4 = 168) ∧ ((0 ≤ a3 ∧ a3 < 20000) ∧ (if b_and (w 168 a3) 2 ≤ 0 then (Q 0 w) else (Q 4 w)))) else (if a1 = 18 then ((w 163 4 = 168) ∧ ((0 ≤ a2 ∧ a2 < 20000) ∧ ((w 163 4 = 168) ∧ ((0 ≤ a3 ∧ a3 < 20000) ∧ (Q (b_and (w 168 a2) (w 168 a3)) w))))) else ((Q 7 w))))))))) : b_K (d + 1) mX27_marksOf [(2, 163), (0, a1), (0, a2), (0, a3)] n w Q X := by
  have i163 := iz163 (Nat.le_trans (Nat.le_of_ble_eq_true rfl) hn)
  have i168 := iz168 (Nat.le_trans (Nat.le_of_ble_eq_true rfl) hn)
  refine k_of (by decide) rfl rfl rfl (ls := [(2, 163), (0, a1), (0, a2), (0, a3), (9, 0)]) rfl ?_
  refine x_iload_n 1 dX27_marksOf_0 rfl rfl rfl ?_
  refine b_itc h (fun hc h => ?_) (fun hn0 h => ?_)
  · have key : b_Y (d + 1) mX27_marksOf n Q X 56 [(2, 163), (0, a1), (0, a2), (0, a3), (9, 0)] [] w := by
      refine x_iconst 0 (z := 0) dX27_marksOf_56 rfl (by decide) rfl ?_
      exact y_iret dX27_marksOf_57 rfl h
    rcases hc with e | e | e
    · exact x_tsI (off := 55) (t := 56) dX27_marksOf_1 (by rw [e]; decide) (by rw [e]; decide) (by rw [e]; rfl) rfl key
    · exact x_tsI (off := 55) (t := 56) dX27_marksOf_1 (by rw [e]; decide) (by rw [e]; decide) (by rw [e]; rfl) rfl key
    · exact x_tsI (off := 55) (t := 56) dX27_marksOf_1 (by rw [e]; decide) (by rw [e]; decide) (by rw [e]; rfl) rfl key
  · refine b_itc h (fun hc h => ?_) (fun hn1 h => ?_)
    · have key : b_Y (d + 1) mX27_marksOf n Q X 58 [(2, 163), (0, a1), (0, a2), (0, a3), (9, 0)] [] w := by
        refine x_aload_n 0 dX27_marksOf_58 rfl rfl rfl rfl rfl ?_
        obtain ⟨e1, h⟩ := h
        refine y_get 26 4 (c := 25) (z := 168) dX27_marksOf_59 i163 rfl in_X27 q4113 rfl rfl rfl e1 rfl ?_
        refine x_iload_n 2 dX27_marksOf_62 rfl rfl rfl ?_
        obtain ⟨e2, h⟩ := h
        refine y_bald (z := w 168 a2) dX27_marksOf_63 ⟨20000, i168, e2⟩ rfl rfl ?_
        refine x_iconst 3 (z := 3) dX27_marksOf_64 rfl (by decide) rfl ?_
        refine x_iand dX27_marksOf_65 rfl ?_
        refine x_aload_n 0 dX27_marksOf_66 rfl rfl rfl rfl rfl ?_
        obtain ⟨e3, h⟩ := h
        refine y_get 26 4 (c := 25) (z := 168) dX27_marksOf_67 i163 rfl in_X27 q4113 rfl rfl rfl e3 rfl ?_
        refine x_iload_n 2 dX27_marksOf_70 rfl rfl rfl ?_
        refine y_bald (z := w 168 a2) dX27_marksOf_71 ⟨20000, i168, e2⟩ rfl rfl ?_
        refine x_iconst 2 (z := 2) dX27_marksOf_72 rfl (by decide) rfl ?_
        refine x_iand dX27_marksOf_73 rfl ?_
        refine x_if_le (t := 81) 7 dX27_marksOf_74 rfl rfl (b_ite h (fun hc h => ?_) (fun hc h => ?_))
        · refine x_iconst 0 (z := 0) dX27_marksOf_81 rfl (by decide) rfl ?_
          refine x_ior dX27_marksOf_82 rfl ?_
          exact y_iret dX27_marksOf_83 rfl h
        · refine x_iconst 4 (z := 4) dX27_marksOf_77 rfl (by decide) rfl ?_
          refine x_goto 4 (q := 82) dX27_marksOf_78 rfl ?_
          refine x_ior dX27_marksOf_82 rfl ?_
          exact y_iret dX27_marksOf_83 rfl h
      have e := hc
      exact x_tsI (off := 57) (t := 58) dX27_marksOf_1 (by rw [e]; decide) (by rw [e]; decide) (by rw [e]; rfl) rfl key
    · refine b_itc h (fun hc h => ?_) (fun hn2 h => ?_)
      · have key : b_Y (d + 1) mX27_marksOf n Q X 131 [(2, 163), (0, a1), (0, a2), (0, a3), (9, 0)] [] w := by
          refine x_aload_n 0 dX27_marksOf_131 rfl rfl rfl rfl rfl ?_
          obtain ⟨e4, h⟩ := h
          refine y_get 26 4 (c := 25) (z := 168) dX27_marksOf_132 i163 rfl in_X27 q4113 rfl rfl rfl e4 rfl ?_
          refine x_iload_n 2 dX27_marksOf_135 rfl rfl rfl ?_
          obtain ⟨e5, h⟩ := h
          refine y_bald (z := w 168 a2) dX27_marksOf_136 ⟨20000, i168, e5⟩ rfl rfl ?_
          refine x_iconst 2 (z := 2) dX27_marksOf_137 rfl (by decide) rfl ?_
          refine x_iand dX27_marksOf_138 rfl ?_
          refine x_if_le (t := 147) 8 dX27_marksOf_139 rfl rfl (b_ite h (fun hc h => ?_) (fun hc h => ?_))
          · refine x_iconst 0 (z := 0) dX27_marksOf_147 rfl (by decide) rfl ?_
            exact y_iret dX27_marksOf_148 rfl h
          · refine x_bipush 6 (z := 6) dX27_marksOf_142 rfl (by decide) rfl ?_
            refine x_goto 4 (q := 148) dX27_marksOf_144 rfl ?_
            exact y_iret dX27_marksOf_148 rfl h
        rcases hc with e | e
        · exact x_tsI (off := 130) (t := 131) dX27_marksOf_1 (by rw [e]; decide) (by rw [e]; decide) (by rw [e]; rfl) rfl key
        · exact x_tsI (off := 130) (t := 131) dX27_marksOf_1 (by rw [e]; decide) (by rw [e]; decide) (by rw [e]; rfl) rfl key
      · refine b_itc h (fun hc h => ?_) (fun hn3 h => ?_)
        · have key : b_Y (d + 1) mX27_marksOf n Q X 84 [(2, 163), (0, a1), (0, a2), (0, a3), (9, 0)] [] w := by
            refine x_aload_n 0 dX27_marksOf_84 rfl rfl rfl rfl rfl ?_
            obtain ⟨e6, h⟩ := h
            refine y_get 26 4 (c := 25) (z := 168) dX27_marksOf_85 i163 rfl in_X27 q4113 rfl rfl rfl e6 rfl ?_
            refine x_iload_n 2 dX27_marksOf_88 rfl rfl rfl ?_
            obtain ⟨e7, h⟩ := h
            refine y_bald (z := w 168 a2) dX27_marksOf_89 ⟨20000, i168, e7⟩ rfl rfl ?_
            refine x_aload_n 0 dX27_marksOf_90 rfl rfl rfl rfl rfl ?_
            obtain ⟨e8, h⟩ := h
            refine y_get 26 4 (c := 25) (z := 168) dX27_marksOf_91 i163 rfl in_X27 q4113 rfl rfl rfl e8 rfl ?_
            refine x_iload_n 3 dX27_marksOf_94 rfl rfl rfl ?_
            obtain ⟨e9, h⟩ := h
            refine y_bald (z := w 168 a3) dX27_marksOf_95 ⟨20000, i168, e9⟩ rfl rfl ?_
            refine x_iand dX27_marksOf_96 rfl ?_
            refine x_iconst 3 (z := 3) dX27_marksOf_97 rfl (by decide) rfl ?_
            refine x_iand dX27_marksOf_98 rfl ?_
            refine x_istore 4 (ls' := [(2, 163), (0, a1), (0, a2), (0, a3), (0, b_and (b_and (w 168 a2) (w 168 a3)) 3)]) dX27_marksOf_99 rfl rfl rfl ?_
            refine x_iload 4 dX27_marksOf_101 rfl rfl ?_
            refine x_iload 4 dX27_marksOf_103 rfl rfl ?_
            refine x_iconst 2 (z := 2) dX27_marksOf_105 rfl (by decide) rfl ?_
            refine x_iand dX27_marksOf_106 rfl ?_
            refine x_if_le (t := 114) 7 dX27_marksOf_107 rfl rfl (b_ite h (fun hc h => ?_) (fun hc h => ?_))
            · refine x_iconst 0 (z := 0) dX27_marksOf_114 rfl (by decide) rfl ?_
              refine x_ior dX27_marksOf_115 rfl ?_
              exact y_iret dX27_marksOf_116 rfl h
            · refine x_iconst 4 (z := 4) dX27_marksOf_110 rfl (by decide) rfl ?_
              refine x_goto 4 (q := 115) dX27_marksOf_111 rfl ?_
              refine x_ior dX27_marksOf_115 rfl ?_
              exact y_iret dX27_marksOf_116 rfl h
          have e := hc
          exact x_tsI (off := 83) (t := 84) dX27_marksOf_1 (by rw [e]; decide) (by rw [e]; decide) (by rw [e]; rfl) rfl key
        · refine b_itc h (fun hc h => ?_) (fun hn4 h => ?_)
          · have key : b_Y (d + 1) mX27_marksOf n Q X 149 [(2, 163), (0, a1), (0, a2), (0, a3), (9, 0)] [] w := by
              refine x_aload_n 0 dX27_marksOf_149 rfl rfl rfl rfl rfl ?_
              obtain ⟨e10, h⟩ := h
              refine y_get 26 4 (c := 25) (z := 168) dX27_marksOf_150 i163 rfl in_X27 q4113 rfl rfl rfl e10 rfl ?_
              refine x_iload_n 3 dX27_marksOf_153 rfl rfl rfl ?_
              obtain ⟨e11, h⟩ := h
              refine y_bald (z := w 168 a3) dX27_marksOf_154 ⟨20000, i168, e11⟩ rfl rfl ?_
              refine x_iconst 2 (z := 2) dX27_marksOf_155 rfl (by decide) rfl ?_
              refine x_iand dX27_marksOf_156 rfl ?_
              refine x_if_le (t := 165) 8 dX27_marksOf_157 rfl rfl (b_ite h (fun hc h => ?_) (fun hc h => ?_))
              · refine x_iconst 0 (z := 0) dX27_marksOf_165 rfl (by decide) rfl ?_
                exact y_iret dX27_marksOf_166 rfl h
              · refine x_bipush 6 (z := 6) dX27_marksOf_160 rfl (by decide) rfl ?_
                refine x_goto 4 (q := 166) dX27_marksOf_162 rfl ?_
                exact y_iret dX27_marksOf_166 rfl h
            have e := hc
            exact x_tsI (off := 148) (t := 149) dX27_marksOf_1 (by rw [e]; decide) (by rw [e]; decide) (by rw [e]; rfl) rfl key
          · refine b_itc h (fun hc h => ?_) (fun hn5 h => ?_)
            · have key : b_Y (d + 1) mX27_marksOf n Q X 167 [(2, 163), (0, a1), (0, a2), (0, a3), (9, 0)] [] w := by
                refine x_aload_n 0 dX27_marksOf_167 rfl rfl rfl rfl rfl ?_
                obtain ⟨e12, h⟩ := h
                refine y_get 26 4 (c := 25) (z := 168) dX27_marksOf_168 i163 rfl in_X27 q4113 rfl rfl rfl e12 rfl ?_
                refine x_iload_n 3 dX27_marksOf_171 rfl rfl rfl ?_
                obtain ⟨e13, h⟩ := h
                refine y_bald (z := w 168 a3) dX27_marksOf_172 ⟨20000, i168, e13⟩ rfl rfl ?_
                refine x_iconst 2 (z := 2) dX27_marksOf_173 rfl (by decide) rfl ?_
                refine x_iand dX27_marksOf_174 rfl ?_
                refine x_if_le (t := 182) 7 dX27_marksOf_175 rfl rfl (b_ite h (fun hc h => ?_) (fun hc h => ?_))
                · refine x_iconst 0 (z := 0) dX27_marksOf_182 rfl (by decide) rfl ?_
                  exact y_iret dX27_marksOf_183 rfl h
                · refine x_iconst 4 (z := 4) dX27_marksOf_178 rfl (by decide) rfl ?_
                  refine x_goto 4 (q := 183) dX27_marksOf_179 rfl ?_
                  exact y_iret dX27_marksOf_183 rfl h
              have e := hc
              exact x_tsI (off := 166) (t := 167) dX27_marksOf_1 (by rw [e]; decide) (by rw [e]; decide) (by rw [e]; rfl) rfl key
            · refine b_itc h (fun hc h => ?_) (fun hn6 h => ?_)
              · have key : b_Y (d + 1) mX27_marksOf n Q X 117 [(2, 163), (0, a1), (0, a2), (0, a3), (9, 0)] [] w := by
                  refine x_aload_n 0 dX27_marksOf_117 rfl rfl rfl rfl rfl ?_
                  obtain ⟨e14, h⟩ := h
                  refine y_get 26 4 (c := 25) (z := 168) dX27_marksOf_118 i163 rfl in_X27 q4113 rfl rfl rfl e14 rfl ?_
                  refine x_iload_n 2 dX27_marksOf_121 rfl rfl rfl ?_
                  obtain ⟨e15, h⟩ := h
                  refine y_bald (z := w 168 a2) dX27_marksOf_122 ⟨20000, i168, e15⟩ rfl rfl ?_
                  refine x_aload_n 0 dX27_marksOf_123 rfl rfl rfl rfl rfl ?_
                  obtain ⟨e16, h⟩ := h
                  refine y_get 26 4 (c := 25) (z := 168) dX27_marksOf_124 i163 rfl in_X27 q4113 rfl rfl rfl e16 rfl ?_
                  refine x_iload_n 3 dX27_marksOf_127 rfl rfl rfl ?_
                  obtain ⟨e17, h⟩ := h
                  refine y_bald (z := w 168 a3) dX27_marksOf_128 ⟨20000, i168, e17⟩ rfl rfl ?_
                  refine x_iand dX27_marksOf_129 rfl ?_
                  exact y_iret dX27_marksOf_130 rfl h
                have e := hc
                exact x_tsI (off := 116) (t := 117) dX27_marksOf_1 (by rw [e]; decide) (by rw [e]; decide) (by rw [e]; rfl) rfl key
              · have key : b_Y (d + 1) mX27_marksOf n Q X 184 [(2, 163), (0, a1), (0, a2), (0, a3), (9, 0)] [] w := by
                  refine x_bipush 7 (z := 7) dX27_marksOf_184 rfl (by decide) rfl ?_
                  exact y_iret dX27_marksOf_186 rfl h
                exact x_tsO (t := 184) dX27_marksOf_1 (by omega) rfl key
abbrev LX27_tell_113 (d n : Nat) (Q : Int → bW → Prop) (X : String → bW → Prop) (a1 : Int) (a2 : Int) (a3 : Int) (s0 : Int) (s1 : Int) (w : bW) : Prop := b_Y (d + 1) mX27_tell n Q X 113 [(2, 163), (2, a1), (0, a2), (0, a3), (9, 0), (9, 0), (9, 0), (9, 0)] [(0, s0), (0, s1)] w
abbrev LX27_tell_182 (d n : Nat) (Q : Int → bW → Prop) (X : String → bW → Prop) (a3 : Int) (a5 : Int) (a6 : Int) (s0 : Int) (w : bW) : Prop := b_Y (d + 1) mX27_tell n Q X 182 [(2, 163), (9, 0), (9, 0), (0, a3), (9, 0), (0, a5), (0, a6), (9, 0)] [(0, s0)] w
theorem rX27_tell {d n : Nat} {w : bW} {Q : Int → bW → Prop} {X : String → bW → Prop} (hn : 254 ≤ n) (a1 : Int) (a2 : Int) (ha1 : b_is n a1 0 26 20) (h : if a2 < 0 then (Q (-1) w) else ((0 ≤ a2 ∧ a2 < 4096) ∧ (if w (a1 + 4) a2 ≠ 5 then (Q (-1) w) else ((0 ≤ a2 ∧ a2 < 4096) ∧ (if w (a1 + 13) a2 < 0 then (Q (-1) w) else (if w (a1 + 13) a2 ≤ 18 then ((0 ≤ a2 ∧ a2 < 4096) ∧ (if 10 ≤ w (a1 + 13) a2 then (if w (a1 + 13) a2 ≠ 18 then (if 14 ≤ w (a1 + 13) a2 then (LX27_tell_113 d n Q X a1 a2 (w (a1 + 13) a2) 2 (w (a1 + 12) a2) w) else (LX27_tell_113 d n Q X a1 a2 (w (a1 + 13) a2) 1 (w (a1 + 12) a2) w)) else (if w (a1 + 12) a2 < 2 then (Q (-1) w) else (if w (a1 + 12) a2 ≤ 100 then (b_K d mX27_comb [(2, 163), (2, a1), (0, a2), (0, w (a1 + 12) a2)] n w (fun r9 w10 => Q r9 w10) X) else (Q (-1) w)))) else (if w (a1 + 12) a2 ≠ 0 then (Q (-1) w) else (Q (w (a1 + 13) a2) w)))) else (Q (-1) w))))))) : b_K (d + 1) mX27_tell [(2, 163), (2, a1), (0, a2)] n w Q X := by
  have i163 := iz163 (Nat.le_trans (Nat.le_of_ble_eq_true rfl) hn)
  refine k_of (by decide) rfl rfl rfl (ls := [(2, 163), (2, a1), (0, a2), (9, 0), (9, 0), (9, 0), (9, 0), (9, 0)]) rfl ?_
  refine x_iload_n 2 dX27_tell_0 rfl rfl rfl ?_
  refine x_if_lt (t := 34) 33 dX27_tell_1 rfl rfl (b_ite h (fun hc h => ?_) (fun hc h => ?_))
  · refine x_iconst (-1) (z := (-1)) dX27_tell_34 rfl (by decide) rfl ?_
    exact y_iret dX27_tell_35 rfl h
  · refine x_aload_n 1 dX27_tell_4 rfl rfl rfl rfl rfl ?_
    refine y_getO 50 2 (c := 26) dX27_tell_5 ha1 rfl in_X28 q4159 rfl rfl rfl (fun h5 hf => of_X28_2 (Nat.le_trans (Nat.le_of_ble_eq_true rfl) hn) h5 ha1 hf) rfl (fun e1 => ?_)
    refine x_iload_n 2 dX27_tell_8 rfl rfl rfl ?_
    obtain ⟨e2, h⟩ := h
    refine y_bald (z := w (a1 + 4) a2) dX27_tell_9 ⟨4096, e1, e2⟩ rfl rfl ?_
    refine x_iconst 5 (z := 5) dX27_tell_10 rfl (by decide) rfl ?_
    refine x_icmp_ne (t := 34) 23 dX27_tell_11 rfl rfl (b_ite h (fun hc h => ?_) (fun hc h => ?_))
    · refine x_iconst (-1) (z := (-1)) dX27_tell_34 rfl (by decide) rfl ?_
      exact y_iret dX27_tell_35 rfl h
    · refine x_aload_n 1 dX27_tell_14 rfl rfl rfl rfl rfl ?_
      refine y_getO 53 11 (c := 26) dX27_tell_15 ha1 rfl in_X28 q4180 rfl rfl rfl (fun h5 hf => of_X28_11 (Nat.le_trans (Nat.le_of_ble_eq_true rfl) hn) h5 ha1 hf) rfl (fun e3 => ?_)
      refine x_iload_n 2 dX27_tell_18 rfl rfl rfl ?_
      obtain ⟨e4, h⟩ := h
      refine y_iald (z := w (a1 + 13) a2) dX27_tell_19 ⟨4096, e3, e4⟩ rfl rfl ?_
      refine x_if_lt (t := 34) 14 dX27_tell_20 rfl rfl (b_ite h (fun hc h => ?_) (fun hc h => ?_))
      · refine x_iconst (-1) (z := (-1)) dX27_tell_34 rfl (by decide) rfl ?_
        exact y_iret dX27_tell_35 rfl h
      · refine x_aload_n 1 dX27_tell_23 rfl rfl rfl rfl rfl ?_
        refine y_getO 53 11 (c := 26) dX27_tell_24 ha1 rfl in_X28 q4180 rfl rfl rfl (fun h5 hf => of_X28_11 (Nat.le_trans (Nat.le_of_ble_eq_true rfl) hn) h5 ha1 hf) rfl (fun e5 => ?_)
        refine x_iload_n 2 dX27_tell_27 rfl rfl rfl ?_
        refine y_iald (z := w (a1 + 13) a2) dX27_tell_28 ⟨4096, e3, e4⟩ rfl rfl ?_
        refine x_bipush 18 (z := 18) dX27_tell_29 rfl (by decide) rfl ?_
        refine x_icmp_le (t := 36) 5 dX27_tell_31 rfl rfl (b_ite h (fun hc h => ?_) (fun hc h => ?_))
        · refine x_aload_n 1 dX27_tell_36 rfl rfl rfl rfl rfl ?_
          refine y_getO 53 11 (c := 26) dX27_tell_37 ha1 rfl in_X28 q4180 rfl rfl rfl (fun h5 hf => of_X28_11 (Nat.le_trans (Nat.le_of_ble_eq_true rfl) hn) h5 ha1 hf) rfl (fun e6 => ?_)
          refine x_iload_n 2 dX27_tell_40 rfl rfl rfl ?_
          refine y_iald (z := w (a1 + 13) a2) dX27_tell_41 ⟨4096, e3, e4⟩ rfl rfl ?_
          refine x_istore_n 3 (ls' := [(2, 163), (2, a1), (0, a2), (0, w (a1 + 13) a2), (9, 0), (9, 0), (9, 0), (9, 0)]) dX27_tell_42 rfl rfl rfl rfl ?_
          refine x_aload_n 1 dX27_tell_43 rfl rfl rfl rfl rfl ?_
          refine y_getO 56 10 (c := 26) dX27_tell_44 ha1 rfl in_X28 q4177 rfl rfl rfl (fun h5 hf => of_X28_10 (Nat.le_trans (Nat.le_of_ble_eq_true rfl) hn) h5 ha1 hf) rfl (fun e7 => ?_)
          refine x_iload_n 2 dX27_tell_47 rfl rfl rfl ?_
          obtain ⟨e8, h⟩ := h
          refine y_iald (z := w (a1 + 12) a2) dX27_tell_48 ⟨4096, e7, e8⟩ rfl rfl ?_
          refine x_istore 4 (ls' := [(2, 163), (2, a1), (0, a2), (0, w (a1 + 13) a2), (0, w (a1 + 12) a2), (9, 0), (9, 0), (9, 0)]) dX27_tell_49 rfl rfl rfl ?_
          refine x_iload_n 3 dX27_tell_51 rfl rfl rfl ?_
          refine x_bipush 10 (z := 10) dX27_tell_52 rfl (by decide) rfl ?_
          refine x_icmp_ge (t := 68) 14 dX27_tell_54 rfl rfl (b_ite h (fun hc h => ?_) (fun hc h => ?_))
          · refine x_iload_n 3 dX27_tell_68 rfl rfl rfl ?_
            refine x_bipush 18 (z := 18) dX27_tell_69 rfl (by decide) rfl ?_
            refine x_icmp_ne (t := 100) 29 dX27_tell_71 rfl rfl (b_ite h (fun hc h => ?_) (fun hc h => ?_))
            · refine x_iload 4 dX27_tell_100 rfl rfl ?_
              refine x_iload_n 3 dX27_tell_102 rfl rfl rfl ?_
              refine x_bipush 14 (z := 14) dX27_tell_103 rfl (by decide) rfl ?_
              refine x_icmp_ge (t := 112) 7 dX27_tell_105 rfl rfl (b_ite h (fun hc h => ?_) (fun hc h => ?_))
              · refine x_iconst 2 (z := 2) dX27_tell_112 rfl (by decide) rfl ?_
                exact x_fg (fgk (fgk (fgk (fgk (fgd (fgk (fgk (fgk (fg0))))))))) h
              · refine x_iconst 1 (z := 1) dX27_tell_108 rfl (by decide) rfl ?_
                refine x_goto 4 (q := 113) dX27_tell_109 rfl ?_
                exact x_fg (fgk (fgk (fgk (fgk (fgd (fgk (fgk (fgk (fg0))))))))) h
            · refine x_iload 4 dX27_tell_74 rfl rfl ?_
              refine x_iconst 2 (z := 2) dX27_tell_76 rfl (by decide) rfl ?_
              refine x_icmp_lt (t := 87) 10 dX27_tell_77 rfl rfl (b_ite h (fun hc h => ?_) (fun hc h => ?_))
              · refine x_iconst (-1) (z := (-1)) dX27_tell_87 rfl (by decide) rfl ?_
                refine x_goto 11 (q := 99) dX27_tell_88 rfl ?_
                exact y_iret dX27_tell_99 rfl h
              · refine x_iload 4 dX27_tell_80 rfl rfl ?_
                refine x_bipush 100 (z := 100) dX27_tell_82 rfl (by decide) rfl ?_
                refine x_icmp_le (t := 91) 7 dX27_tell_84 rfl rfl (b_ite h (fun hc h => ?_) (fun hc h => ?_))
                · refine x_aload_n 0 dX27_tell_91 rfl rfl rfl rfl rfl ?_
                  refine x_aload_n 1 dX27_tell_92 rfl rfl rfl rfl rfl ?_
                  refine x_iload_n 2 dX27_tell_93 rfl rfl rfl ?_
                  refine x_iload 4 dX27_tell_94 rfl rfl ?_
                  refine y_Vi 59 (M := mX27_comb) (As := [(2, a1), (0, a2), (0, w (a1 + 12) a2)]) (st := []) dX27_tell_96 i163 rfl q3334 q3336 qs205 q394 q3337 rfl hmX27_comb rfl rfl rfl rfl rfl rfl rfl rfl (k_mono h (fun r9 w10 h => ?_))
                  exact y_iret dX27_tell_99 rfl h
                · refine x_iconst (-1) (z := (-1)) dX27_tell_87 rfl (by decide) rfl ?_
                  refine x_goto 11 (q := 99) dX27_tell_88 rfl ?_
                  exact y_iret dX27_tell_99 rfl h
          · refine x_iload 4 dX27_tell_57 rfl rfl ?_
            refine x_if_ne (t := 66) 7 dX27_tell_59 rfl rfl (b_ite h (fun hc h => ?_) (fun hc h => ?_))
            · refine x_iconst (-1) (z := (-1)) dX27_tell_66 rfl (by decide) rfl ?_
              exact y_iret dX27_tell_67 rfl h
            · refine x_iload_n 3 dX27_tell_62 rfl rfl rfl ?_
              refine x_goto 4 (q := 67) dX27_tell_63 rfl ?_
              exact y_iret dX27_tell_67 rfl h
        · refine x_iconst (-1) (z := (-1)) dX27_tell_34 rfl (by decide) rfl ?_
          exact y_iret dX27_tell_35 rfl h
theorem sX27_tell_113 {d n : Nat} {w : bW} {Q : Int → bW → Prop} {X : String → bW → Prop} (hn : 254 ≤ n) (a1 : Int) (a2 : Int) (a3 : Int) (s0 : Int) (s1 : Int) (ha1 : b_is n a1 0 26 20) (h : if s1 = s0 then ((0 ≤ a2 ∧ a2 < 4096) ∧ (b_K d mX27_tell [(2, 163), (2, a1), (0, w (a1 + 9) a2)] n w (fun r3 w4 => if 14 ≤ a3 then ((0 ≤ w4 (a1 + 9) a2 ∧ w4 (a1 + 9) a2 < 4096) ∧ (b_K d mX27_tell [(2, 163), (2, a1), (0, w4 (a1 + 10) (w4 (a1 + 9) a2))] n w4 (fun r8 w9 => if a3 = 12 then (LX27_tell_182 d n Q X a3 r3 r8 1 w9) else (if a3 = 15 then (LX27_tell_182 d n Q X a3 r3 r8 1 w9) else (if a3 ≠ 16 then (LX27_tell_182 d n Q X a3 r3 r8 0 w9) else (LX27_tell_182 d n Q X a3 r3 r8 1 w9)))) X)) else (if a3 = 12 then (LX27_tell_182 d n Q X a3 r3 (-1) 1 w4) else (if a3 = 15 then (LX27_tell_182 d n Q X a3 r3 (-1) 1 w4) else (if a3 ≠ 16 then (LX27_tell_182 d n Q X a3 r3 (-1) 0 w4) else (LX27_tell_182 d n Q X a3 r3 (-1) 1 w4))))) X)) else (Q (-1) w)) : LX27_tell_113 d n Q X a1 a2 a3 s0 s1 w := by
  have i163 := iz163 (Nat.le_trans (Nat.le_of_ble_eq_true rfl) hn)
  refine x_icmp_eq (t := 118) 5 dX27_tell_113 rfl rfl (b_ite h (fun hc h => ?_) (fun hc h => ?_))
  · refine x_aload_n 0 dX27_tell_118 rfl rfl rfl rfl rfl ?_
    refine x_aload_n 1 dX27_tell_119 rfl rfl rfl rfl rfl ?_
    refine x_aload_n 1 dX27_tell_120 rfl rfl rfl rfl rfl ?_
    refine y_getO 63 7 (c := 26) dX27_tell_121 ha1 rfl in_X28 q4170 rfl rfl rfl (fun h5 hf => of_X28_7 (Nat.le_trans (Nat.le_of_ble_eq_true rfl) hn) h5 ha1 hf) rfl (fun e1 => ?_)
    refine x_iload_n 2 dX27_tell_124 rfl rfl rfl ?_
    obtain ⟨e2, h⟩ := h
    refine y_iald (z := w (a1 + 9) a2) dX27_tell_125 ⟨4096, e1, e2⟩ rfl rfl ?_
    refine y_Vi 66 (M := mX27_tell) (As := [(2, a1), (0, w (a1 + 9) a2)]) (st := []) dX27_tell_126 i163 rfl q3339 q3331 q3332 q394 q3333 rfl hmX27_tell rfl rfl rfl rfl rfl rfl rfl rfl (k_mono h (fun r3 w4 h => ?_))
    refine x_istore 5 (ls' := [(2, 163), (2, a1), (0, a2), (0, a3), (9, 0), (0, r3), (9, 0), (9, 0)]) dX27_tell_129 rfl rfl rfl ?_
    refine x_iload_n 3 dX27_tell_131 rfl rfl rfl ?_
    refine x_bipush 14 (z := 14) dX27_tell_132 rfl (by decide) rfl ?_
    refine x_icmp_ge (t := 141) 7 dX27_tell_134 rfl rfl (b_ite h (fun hc h => ?_) (fun hc h => ?_))
    · refine x_aload_n 0 dX27_tell_141 rfl rfl rfl rfl rfl ?_
      refine x_aload_n 1 dX27_tell_142 rfl rfl rfl rfl rfl ?_
      refine x_aload_n 1 dX27_tell_143 rfl rfl rfl rfl rfl ?_
      refine y_getO 70 8 (c := 26) dX27_tell_144 ha1 rfl in_X28 q4173 rfl rfl rfl (fun h5 hf => of_X28_8 (Nat.le_trans (Nat.le_of_ble_eq_true rfl) hn) h5 ha1 hf) rfl (fun e5 => ?_)
      refine x_aload_n 1 dX27_tell_147 rfl rfl rfl rfl rfl ?_
      refine y_getO 63 7 (c := 26) dX27_tell_148 ha1 rfl in_X28 q4170 rfl rfl rfl (fun h5 hf => of_X28_7 (Nat.le_trans (Nat.le_of_ble_eq_true rfl) hn) h5 ha1 hf) rfl (fun e6 => ?_)
      refine x_iload_n 2 dX27_tell_151 rfl rfl rfl ?_
      refine y_iald (z := w4 (a1 + 9) a2) dX27_tell_152 ⟨4096, e1, e2⟩ rfl rfl ?_
      obtain ⟨e7, h⟩ := h
      refine y_iald (z := w4 (a1 + 10) (w4 (a1 + 9) a2)) dX27_tell_153 ⟨4096, e5, e7⟩ rfl rfl ?_
      refine y_Vi 66 (M := mX27_tell) (As := [(2, a1), (0, w4 (a1 + 10) (w4 (a1 + 9) a2))]) (st := []) dX27_tell_154 i163 rfl q3339 q3331 q3332 q394 q3333 rfl hmX27_tell rfl rfl rfl rfl rfl rfl rfl rfl (k_mono h (fun r8 w9 h => ?_))
      refine x_istore 6 (ls' := [(2, 163), (2, a1), (0, a2), (0, a3), (9, 0), (0, r3), (0, r8), (9, 0)]) dX27_tell_157 rfl rfl rfl ?_
      refine x_iload_n 3 dX27_tell_159 rfl rfl rfl ?_
      refine x_bipush 12 (z := 12) dX27_tell_160 rfl (by decide) rfl ?_
      refine x_icmp_eq (t := 177) 15 dX27_tell_162 rfl rfl (b_ite h (fun hc h => ?_) (fun hc h => ?_))
      · refine x_iconst 1 (z := 1) dX27_tell_177 rfl (by decide) rfl ?_
        refine x_goto 4 (q := 182) dX27_tell_178 rfl ?_
        exact x_fg (fgk (fgd (fgd (fgk (fgk (fgk (fgk (fgk (fg0))))))))) h
      · refine x_iload_n 3 dX27_tell_165 rfl rfl rfl ?_
        refine x_bipush 15 (z := 15) dX27_tell_166 rfl (by decide) rfl ?_
        refine x_icmp_eq (t := 177) 9 dX27_tell_168 rfl rfl (b_ite h (fun hc h => ?_) (fun hc h => ?_))
        · refine x_iconst 1 (z := 1) dX27_tell_177 rfl (by decide) rfl ?_
          refine x_goto 4 (q := 182) dX27_tell_178 rfl ?_
          exact x_fg (fgk (fgd (fgd (fgk (fgk (fgk (fgk (fgk (fg0))))))))) h
        · refine x_iload_n 3 dX27_tell_171 rfl rfl rfl ?_
          refine x_bipush 16 (z := 16) dX27_tell_172 rfl (by decide) rfl ?_
          refine x_icmp_ne (t := 181) 7 dX27_tell_174 rfl rfl (b_ite h (fun hc h => ?_) (fun hc h => ?_))
          · refine x_iconst 0 (z := 0) dX27_tell_181 rfl (by decide) rfl ?_
            exact x_fg (fgk (fgd (fgd (fgk (fgk (fgk (fgk (fgk (fg0))))))))) h
          · refine x_iconst 1 (z := 1) dX27_tell_177 rfl (by decide) rfl ?_
            refine x_goto 4 (q := 182) dX27_tell_178 rfl ?_
            exact x_fg (fgk (fgd (fgd (fgk (fgk (fgk (fgk (fgk (fg0))))))))) h
    · refine x_iconst (-1) (z := (-1)) dX27_tell_137 rfl (by decide) rfl ?_
      refine x_goto 19 (q := 157) dX27_tell_138 rfl ?_
      refine x_istore 6 (ls' := [(2, 163), (2, a1), (0, a2), (0, a3), (9, 0), (0, r3), (0, (-1)), (9, 0)]) dX27_tell_157 rfl rfl rfl ?_
      refine x_iload_n 3 dX27_tell_159 rfl rfl rfl ?_
      refine x_bipush 12 (z := 12) dX27_tell_160 rfl (by decide) rfl ?_
      refine x_icmp_eq (t := 177) 15 dX27_tell_162 rfl rfl (b_ite h (fun hc h => ?_) (fun hc h => ?_))
      · refine x_iconst 1 (z := 1) dX27_tell_177 rfl (by decide) rfl ?_
        refine x_goto 4 (q := 182) dX27_tell_178 rfl ?_
        exact x_fg (fgk (fgd (fgd (fgk (fgk (fgk (fgk (fgk (fg0))))))))) h
      · refine x_iload_n 3 dX27_tell_165 rfl rfl rfl ?_
        refine x_bipush 15 (z := 15) dX27_tell_166 rfl (by decide) rfl ?_
        refine x_icmp_eq (t := 177) 9 dX27_tell_168 rfl rfl (b_ite h (fun hc h => ?_) (fun hc h => ?_))
        · refine x_iconst 1 (z := 1) dX27_tell_177 rfl (by decide) rfl ?_
          refine x_goto 4 (q := 182) dX27_tell_178 rfl ?_
          exact x_fg (fgk (fgd (fgd (fgk (fgk (fgk (fgk (fgk (fg0))))))))) h
        · refine x_iload_n 3 dX27_tell_171 rfl rfl rfl ?_
          refine x_bipush 16 (z := 16) dX27_tell_172 rfl (by decide) rfl ?_
          refine x_icmp_ne (t := 181) 7 dX27_tell_174 rfl rfl (b_ite h (fun hc h => ?_) (fun hc h => ?_))
          · refine x_iconst 0 (z := 0) dX27_tell_181 rfl (by decide) rfl ?_
            exact x_fg (fgk (fgd (fgd (fgk (fgk (fgk (fgk (fgk (fg0))))))))) h
          · refine x_iconst 1 (z := 1) dX27_tell_177 rfl (by decide) rfl ?_
            refine x_goto 4 (q := 182) dX27_tell_178 rfl ?_
            exact x_fg (fgk (fgd (fgd (fgk (fgk (fgk (fgk (fgk (fg0))))))))) h
  · refine x_iconst (-1) (z := (-1)) dX27_tell_116 rfl (by decide) rfl ?_
    exact y_iret dX27_tell_117 rfl h
theorem sX27_tell_182 {d n : Nat} {w : bW} {Q : Int → bW → Prop} {X : String → bW → Prop} (hn : 254 ≤ n) (a3 : Int) (a5 : Int) (a6 : Int) (s0 : Int) (h : if a5 < 0 then (Q (-1) w) else (if a3 < 14 then (if s0 = 0 then (b_K d mX27_make [(2, 163), (0, a3), (0, a5), (0, a6)] n w (fun r1 w2 => Q r1 w2) X) else (b_K d mX27_is [(2, 163), (0, a5), (0, 1)] n w (fun r3 w4 => if r3 ≠ 0 then (b_K d mX27_make [(2, 163), (0, a3), (0, a5), (0, a6)] n w4 (fun r5 w6 => Q r5 w6) X) else (Q (-1) w4)) X)) else (if a6 < 0 then (Q (-1) w) else (if s0 = 0 then (b_K d mX27_make [(2, 163), (0, a3), (0, a5), (0, a6)] n w (fun r7 w8 => Q r7 w8) X) else (b_K d mX27_is [(2, 163), (0, a5), (0, 1)] n w (fun r9 w10 => if r9 ≠ 0 then (b_K d mX27_make [(2, 163), (0, a3), (0, a5), (0, a6)] n w10 (fun r11 w12 => Q r11 w12) X) else (Q (-1) w10)) X))))) : LX27_tell_182 d n Q X a3 a5 a6 s0 w := by
  have i163 := iz163 (Nat.le_trans (Nat.le_of_ble_eq_true rfl) hn)
  refine x_istore 7 (ls' := [(2, 163), (9, 0), (9, 0), (0, a3), (9, 0), (0, a5), (0, a6), (0, s0)]) dX27_tell_182 rfl rfl rfl ?_
  refine x_iload 5 dX27_tell_184 rfl rfl ?_
  refine x_if_lt (t := 215) 29 dX27_tell_186 rfl rfl (b_ite h (fun hc h => ?_) (fun hc h => ?_))
  · refine x_iconst (-1) (z := (-1)) dX27_tell_215 rfl (by decide) rfl ?_
    refine x_goto 12 (q := 228) dX27_tell_216 rfl ?_
    exact y_iret dX27_tell_228 rfl h
  · refine x_iload_n 3 dX27_tell_189 rfl rfl rfl ?_
    refine x_bipush 14 (z := 14) dX27_tell_190 rfl (by decide) rfl ?_
    refine x_icmp_lt (t := 200) 8 dX27_tell_192 rfl rfl (b_ite h (fun hc h => ?_) (fun hc h => ?_))
    · refine x_iload 7 dX27_tell_200 rfl rfl ?_
      refine x_if_eq (t := 219) 17 dX27_tell_202 rfl rfl (b_ite h (fun hc h => ?_) (fun hc h => ?_))
      · refine x_aload_n 0 dX27_tell_219 rfl rfl rfl rfl rfl ?_
        refine x_iload_n 3 dX27_tell_220 rfl rfl rfl ?_
        refine x_iload 5 dX27_tell_221 rfl rfl ?_
        refine x_iload 6 dX27_tell_223 rfl rfl ?_
        refine y_Vi 42 (M := mX27_make) (As := [(0, a3), (0, a5), (0, a6)]) (st := []) dX27_tell_225 i163 rfl q3301 q3302 q3303 q394 q3304 rfl hmX27_make rfl rfl rfl rfl rfl rfl rfl rfl (k_mono h (fun r1 w2 h => ?_))
        exact y_iret dX27_tell_228 rfl h
      · refine x_aload_n 0 dX27_tell_205 rfl rfl rfl rfl rfl ?_
        refine x_iload 5 dX27_tell_206 rfl rfl ?_
        refine x_iconst 1 (z := 1) dX27_tell_208 rfl (by decide) rfl ?_
        refine y_Vi 73 (M := mX27_is) (As := [(0, a5), (0, 1)]) (st := []) dX27_tell_209 i163 rfl q3340 q3341 q3342 q394 q3343 rfl hmX27_is rfl rfl rfl rfl rfl rfl rfl rfl (k_mono h (fun r3 w4 h => ?_))
        refine x_if_ne (t := 219) 7 dX27_tell_212 rfl rfl (b_ite h (fun hc h => ?_) (fun hc h => ?_))
        · refine x_aload_n 0 dX27_tell_219 rfl rfl rfl rfl rfl ?_
          refine x_iload_n 3 dX27_tell_220 rfl rfl rfl ?_
          refine x_iload 5 dX27_tell_221 rfl rfl ?_
          refine x_iload 6 dX27_tell_223 rfl rfl ?_
          refine y_Vi 42 (M := mX27_make) (As := [(0, a3), (0, a5), (0, a6)]) (st := []) dX27_tell_225 i163 rfl q3301 q3302 q3303 q394 q3304 rfl hmX27_make rfl rfl rfl rfl rfl rfl rfl rfl (k_mono h (fun r5 w6 h => ?_))
          exact y_iret dX27_tell_228 rfl h
        · refine x_iconst (-1) (z := (-1)) dX27_tell_215 rfl (by decide) rfl ?_
          refine x_goto 12 (q := 228) dX27_tell_216 rfl ?_
          exact y_iret dX27_tell_228 rfl h
    · refine x_iload 6 dX27_tell_195 rfl rfl ?_
      refine x_if_lt (t := 215) 18 dX27_tell_197 rfl rfl (b_ite h (fun hc h => ?_) (fun hc h => ?_))
      · refine x_iconst (-1) (z := (-1)) dX27_tell_215 rfl (by decide) rfl ?_
        refine x_goto 12 (q := 228) dX27_tell_216 rfl ?_
        exact y_iret dX27_tell_228 rfl h
      · refine x_iload 7 dX27_tell_200 rfl rfl ?_
        refine x_if_eq (t := 219) 17 dX27_tell_202 rfl rfl (b_ite h (fun hc h => ?_) (fun hc h => ?_))
        · refine x_aload_n 0 dX27_tell_219 rfl rfl rfl rfl rfl ?_
          refine x_iload_n 3 dX27_tell_220 rfl rfl rfl ?_
          refine x_iload 5 dX27_tell_221 rfl rfl ?_
          refine x_iload 6 dX27_tell_223 rfl rfl ?_
          refine y_Vi 42 (M := mX27_make) (As := [(0, a3), (0, a5), (0, a6)]) (st := []) dX27_tell_225 i163 rfl q3301 q3302 q3303 q394 q3304 rfl hmX27_make rfl rfl rfl rfl rfl rfl rfl rfl (k_mono h (fun r7 w8 h => ?_))
          exact y_iret dX27_tell_228 rfl h
        · refine x_aload_n 0 dX27_tell_205 rfl rfl rfl rfl rfl ?_
          refine x_iload 5 dX27_tell_206 rfl rfl ?_
          refine x_iconst 1 (z := 1) dX27_tell_208 rfl (by decide) rfl ?_
          refine y_Vi 73 (M := mX27_is) (As := [(0, a5), (0, 1)]) (st := []) dX27_tell_209 i163 rfl q3340 q3341 q3342 q394 q3343 rfl hmX27_is rfl rfl rfl rfl rfl rfl rfl rfl (k_mono h (fun r9 w10 h => ?_))
          refine x_if_ne (t := 219) 7 dX27_tell_212 rfl rfl (b_ite h (fun hc h => ?_) (fun hc h => ?_))
          · refine x_aload_n 0 dX27_tell_219 rfl rfl rfl rfl rfl ?_
            refine x_iload_n 3 dX27_tell_220 rfl rfl rfl ?_
            refine x_iload 5 dX27_tell_221 rfl rfl ?_
            refine x_iload 6 dX27_tell_223 rfl rfl ?_
            refine y_Vi 42 (M := mX27_make) (As := [(0, a3), (0, a5), (0, a6)]) (st := []) dX27_tell_225 i163 rfl q3301 q3302 q3303 q394 q3304 rfl hmX27_make rfl rfl rfl rfl rfl rfl rfl rfl (k_mono h (fun r11 w12 h => ?_))
            exact y_iret dX27_tell_228 rfl h
          · refine x_iconst (-1) (z := (-1)) dX27_tell_215 rfl (by decide) rfl ?_
            refine x_goto 12 (q := 228) dX27_tell_216 rfl ?_
            exact y_iret dX27_tell_228 rfl h
abbrev LX27_comb_20 (d n : Nat) (Q : Int → bW → Prop) (X : String → bW → Prop) (a1 : Int) (a2 : Int) (a4 : Int) (a5 : Int) (w : bW) : Prop := b_Y (d + 1) mX27_comb n Q X 20 [(2, 163), (2, a1), (0, a2), (9, 0), (0, a4), (0, a5), (9, 0)] [] w
theorem rX27_comb {d n : Nat} {w : bW} {Q : Int → bW → Prop} {X : String → bW → Prop} (hn : 164 ≤ n) (a1 : Int) (a2 : Int) (a3 : Int) (ha1 : b_is n a1 0 26 20) (h : b_K d mX28_child [(2, a1), (0, a2), (0, b_i (a3 - 1))] n w (fun r1 w2 => b_K d mX27_tell [(2, 163), (2, a1), (0, r1)] n w2 (fun r3 w4 => LX27_comb_20 d n Q X a1 a2 r3 (b_i (a3 - 2)) w4) X) X) : b_K (d + 1) mX27_comb [(2, 163), (2, a1), (0, a2), (0, a3)] n w Q X := by
  have i163 := iz163 (Nat.le_trans (Nat.le_of_ble_eq_true rfl) hn)
  refine k_of (by decide) rfl rfl rfl (ls := [(2, 163), (2, a1), (0, a2), (0, a3), (9, 0), (9, 0), (9, 0)]) rfl ?_
  refine x_aload_n 0 dX27_comb_0 rfl rfl rfl rfl rfl ?_
  refine x_aload_n 1 dX27_comb_1 rfl rfl rfl rfl rfl ?_
  refine x_aload_n 1 dX27_comb_2 rfl rfl rfl rfl rfl ?_
  refine x_iload_n 2 dX27_comb_3 rfl rfl rfl ?_
  refine x_iload_n 3 dX27_comb_4 rfl rfl rfl ?_
  refine x_iconst 1 (z := 1) dX27_comb_5 rfl (by decide) rfl ?_
  refine x_isub dX27_comb_6 rfl ?_
  refine y_Vi 77 (M := mX28_child) (As := [(0, a2), (0, b_i (a3 - 1))]) (st := [(2, a1), (2, 163)]) dX27_comb_7 ha1 rfl q3338 q3320 q3321 q395 q3322 rfl hmX28_child rfl rfl rfl rfl rfl rfl rfl rfl (k_mono h (fun r1 w2 h => ?_))
  refine y_Vi 66 (M := mX27_tell) (As := [(2, a1), (0, r1)]) (st := []) dX27_comb_10 i163 rfl q3339 q3331 q3332 q394 q3333 rfl hmX27_tell rfl rfl rfl rfl rfl rfl rfl rfl (k_mono h (fun r3 w4 h => ?_))
  refine x_istore 4 (ls' := [(2, 163), (2, a1), (0, a2), (0, a3), (0, r3), (9, 0), (9, 0)]) dX27_comb_13 rfl rfl rfl ?_
  refine x_iload_n 3 dX27_comb_15 rfl rfl rfl ?_
  refine x_iconst 2 (z := 2) dX27_comb_16 rfl (by decide) rfl ?_
  refine x_isub dX27_comb_17 rfl ?_
  refine x_istore 5 (ls' := [(2, 163), (2, a1), (0, a2), (0, a3), (0, r3), (0, b_i (a3 - 2)), (9, 0)]) dX27_comb_18 rfl rfl rfl ?_
  exact x_fg (fgk (fgk (fgk (fgd (fgk (fgk (fgk (fg0)))))))) h
theorem sX27_comb_20 {d n : Nat} {w : bW} {Q : Int → bW → Prop} {X : String → bW → Prop} (hn : 164 ≤ n) (a1 : Int) (a2 : Int) (a4 : Int) (a5 : Int) (ha1 : b_is n a1 0 26 20) (h : if a5 < 0 then (Q a4 w) else (if a4 < 0 then (Q a4 w) else (b_K d mX28_child [(2, a1), (0, a2), (0, a5)] n w (fun r1 w2 => b_K d mX27_tell [(2, 163), (2, a1), (0, r1)] n w2 (fun r3 w4 => if 0 ≤ r3 then (b_K d mX27_make [(2, 163), (0, 18), (0, r3), (0, a4)] n w4 (fun r5 w6 => LX27_comb_20 d n Q X a1 a2 r5 (b_i (a5 + (-1))) w6) X) else (LX27_comb_20 d n Q X a1 a2 (-1) (b_i (a5 + (-1))) w4)) X) X))) : LX27_comb_20 d n Q X a1 a2 a4 a5 w := by
  have i163 := iz163 (Nat.le_trans (Nat.le_of_ble_eq_true rfl) hn)
  refine x_iload 5 dX27_comb_20 rfl rfl ?_
  refine x_if_lt (t := 71) 49 dX27_comb_22 rfl rfl (b_ite h (fun hc h => ?_) (fun hc h => ?_))
  · refine x_iload 4 dX27_comb_71 rfl rfl ?_
    exact y_iret dX27_comb_73 rfl h
  · refine x_iload 4 dX27_comb_25 rfl rfl ?_
    refine x_if_lt (t := 71) 44 dX27_comb_27 rfl rfl (b_ite h (fun hc h => ?_) (fun hc h => ?_))
    · refine x_iload 4 dX27_comb_71 rfl rfl ?_
      exact y_iret dX27_comb_73 rfl h
    · refine x_aload_n 0 dX27_comb_30 rfl rfl rfl rfl rfl ?_
      refine x_aload_n 1 dX27_comb_31 rfl rfl rfl rfl rfl ?_
      refine x_aload_n 1 dX27_comb_32 rfl rfl rfl rfl rfl ?_
      refine x_iload_n 2 dX27_comb_33 rfl rfl rfl ?_
      refine x_iload 5 dX27_comb_34 rfl rfl ?_
      refine y_Vi 77 (M := mX28_child) (As := [(0, a2), (0, a5)]) (st := [(2, a1), (2, 163)]) dX27_comb_36 ha1 rfl q3338 q3320 q3321 q395 q3322 rfl hmX28_child rfl rfl rfl rfl rfl rfl rfl rfl (k_mono h (fun r1 w2 h => ?_))
      refine y_Vi 66 (M := mX27_tell) (As := [(2, a1), (0, r1)]) (st := []) dX27_comb_39 i163 rfl q3339 q3331 q3332 q394 q3333 rfl hmX27_tell rfl rfl rfl rfl rfl rfl rfl rfl (k_mono h (fun r3 w4 h => ?_))
      refine x_istore 6 (ls' := [(2, 163), (2, a1), (0, a2), (9, 0), (0, a4), (0, a5), (0, r3)]) dX27_comb_42 rfl rfl rfl ?_
      refine x_iload 6 dX27_comb_44 rfl rfl ?_
      refine x_if_ge (t := 53) 7 dX27_comb_46 rfl rfl (b_ite h (fun hc h => ?_) (fun hc h => ?_))
      · refine x_aload_n 0 dX27_comb_53 rfl rfl rfl rfl rfl ?_
        refine x_bipush 18 (z := 18) dX27_comb_54 rfl (by decide) rfl ?_
        refine x_iload 6 dX27_comb_56 rfl rfl ?_
        refine x_iload 4 dX27_comb_58 rfl rfl ?_
        refine y_Vi 42 (M := mX27_make) (As := [(0, 18), (0, r3), (0, a4)]) (st := []) dX27_comb_60 i163 rfl q3301 q3302 q3303 q394 q3304 rfl hmX27_make rfl rfl rfl rfl rfl rfl rfl rfl (k_mono h (fun r5 w6 h => ?_))
        refine x_istore 4 (ls' := [(2, 163), (2, a1), (0, a2), (9, 0), (0, r5), (0, a5), (0, r3)]) dX27_comb_63 rfl rfl rfl ?_
        refine x_iinc 5 (-1) (ls' := [(2, 163), (2, a1), (0, a2), (9, 0), (0, r5), (0, b_i (a5 + (-1))), (0, r3)]) dX27_comb_65 rfl rfl rfl rfl ?_
        refine x_goto (-48) (q := 20) dX27_comb_68 rfl ?_
        exact x_fg (fgk (fgk (fgk (fgk (fgk (fgk (fgd (fg0)))))))) h
      · refine x_iconst (-1) (z := (-1)) dX27_comb_49 rfl (by decide) rfl ?_
        refine x_goto 13 (q := 63) dX27_comb_50 rfl ?_
        refine x_istore 4 (ls' := [(2, 163), (2, a1), (0, a2), (9, 0), (0, (-1)), (0, a5), (0, r3)]) dX27_comb_63 rfl rfl rfl ?_
        refine x_iinc 5 (-1) (ls' := [(2, 163), (2, a1), (0, a2), (9, 0), (0, (-1)), (0, b_i (a5 + (-1))), (0, r3)]) dX27_comb_65 rfl rfl rfl rfl ?_
        refine x_goto (-48) (q := 20) dX27_comb_68 rfl ?_
        exact x_fg (fgk (fgk (fgk (fgk (fgk (fgk (fgd (fg0)))))))) h
theorem rX27_is {d n : Nat} {w : bW} {Q : Int → bW → Prop} {X : String → bW → Prop} (hn : 169 ≤ n) (a1 : Int) (a2 : Int) (h : if a1 < 0 then (Q 0 w) else ((w 163 4 = 168) ∧ ((0 ≤ a1 ∧ a1 < 20000) ∧ (if b_and (w 168 a1) a2 ≤ 0 then (Q 0 w) else (Q 1 w))))) : b_K (d + 1) mX27_is [(2, 163), (0, a1), (0, a2)] n w Q X := by
  have i163 := iz163 (Nat.le_trans (Nat.le_of_ble_eq_true rfl) hn)
  have i168 := iz168 (Nat.le_trans (Nat.le_of_ble_eq_true rfl) hn)
  refine k_of (by decide) rfl rfl rfl (ls := [(2, 163), (0, a1), (0, a2)]) rfl ?_
  refine x_iload_n 1 dX27_is_0 rfl rfl rfl ?_
  refine x_if_lt (t := 19) 18 dX27_is_1 rfl rfl (b_ite h (fun hc h => ?_) (fun hc h => ?_))
  · refine x_iconst 0 (z := 0) dX27_is_19 rfl (by decide) rfl ?_
    exact y_zret dX27_is_20 rfl (by decide) h
  · refine x_aload_n 0 dX27_is_4 rfl rfl rfl rfl rfl ?_
    obtain ⟨e1, h⟩ := h
    refine y_get 26 4 (c := 25) (z := 168) dX27_is_5 i163 rfl in_X27 q4113 rfl rfl rfl e1 rfl ?_
    refine x_iload_n 1 dX27_is_8 rfl rfl rfl ?_
    obtain ⟨e2, h⟩ := h
    refine y_bald (z := w 168 a1) dX27_is_9 ⟨20000, i168, e2⟩ rfl rfl ?_
    refine x_iload_n 2 dX27_is_10 rfl rfl rfl ?_
    refine x_iand dX27_is_11 rfl ?_
    refine x_if_le (t := 19) 7 dX27_is_12 rfl rfl (b_ite h (fun hc h => ?_) (fun hc h => ?_))
    · refine x_iconst 0 (z := 0) dX27_is_19 rfl (by decide) rfl ?_
      exact y_zret dX27_is_20 rfl (by decide) h
    · refine x_iconst 1 (z := 1) dX27_is_15 rfl (by decide) rfl ?_
      refine x_goto 4 (q := 20) dX27_is_16 rfl ?_
      exact y_zret dX27_is_20 rfl (by decide) h
theorem rX27_one {d n : Nat} {w : bW} {Q : Int → bW → Prop} {X : String → bW → Prop} (hn : 164 ≤ n) (a1 : Int) (a2 : Int) (h : b_K d mX27_make [(2, 163), (0, a1), (0, a2), (0, (-1))] n w (fun r1 w2 => Q r1 w2) X) : b_K (d + 1) mX27_one [(2, 163), (0, a1), (0, a2)] n w Q X := by
  have i163 := iz163 (Nat.le_trans (Nat.le_of_ble_eq_true rfl) hn)
  refine k_of (by decide) rfl rfl rfl (ls := [(2, 163), (0, a1), (0, a2)]) rfl ?_
  refine x_aload_n 0 dX27_one_0 rfl rfl rfl rfl rfl ?_
  refine x_iload_n 1 dX27_one_1 rfl rfl rfl ?_
  refine x_iload_n 2 dX27_one_2 rfl rfl rfl ?_
  refine x_iconst (-1) (z := (-1)) dX27_one_3 rfl (by decide) rfl ?_
  refine y_Vi 42 (M := mX27_make) (As := [(0, a1), (0, a2), (0, (-1))]) (st := []) dX27_one_4 i163 rfl q3301 q3302 q3303 q394 q3304 rfl hmX27_make rfl rfl rfl rfl rfl rfl rfl rfl (k_mono h (fun r1 w2 h => ?_))
  exact y_iret dX27_one_7 rfl h
theorem rX27_isKind {d n : Nat} {w : bW} {Q : Int → bW → Prop} {X : String → bW → Prop} (hn : 165 ≤ n) (a1 : Int) (a2 : Int) (h : if a1 < 0 then (Q 0 w) else ((w 163 0 = 164) ∧ ((0 ≤ a1 ∧ a1 < 20000) ∧ (if w 164 a1 ≠ a2 then (Q 0 w) else (Q 1 w))))) : b_K (d + 1) mX27_isKind [(2, 163), (0, a1), (0, a2)] n w Q X := by
  have i163 := iz163 (Nat.le_trans (Nat.le_of_ble_eq_true rfl) hn)
  have i164 := iz164 (Nat.le_trans (Nat.le_of_ble_eq_true rfl) hn)
  refine k_of (by decide) rfl rfl rfl (ls := [(2, 163), (0, a1), (0, a2)]) rfl ?_
  refine x_iload_n 1 dX27_isKind_0 rfl rfl rfl ?_
  refine x_if_lt (t := 18) 17 dX27_isKind_1 rfl rfl (b_ite h (fun hc h => ?_) (fun hc h => ?_))
  · refine x_iconst 0 (z := 0) dX27_isKind_18 rfl (by decide) rfl ?_
    exact y_zret dX27_isKind_19 rfl (by decide) h
  · refine x_aload_n 0 dX27_isKind_4 rfl rfl rfl rfl rfl ?_
    obtain ⟨e1, h⟩ := h
    refine y_get 9 0 (c := 25) (z := 164) dX27_isKind_5 i163 rfl in_X27 q4106 rfl rfl rfl e1 rfl ?_
    refine x_iload_n 1 dX27_isKind_8 rfl rfl rfl ?_
    obtain ⟨e2, h⟩ := h
    refine y_bald (z := w 164 a1) dX27_isKind_9 ⟨20000, i164, e2⟩ rfl rfl ?_
    refine x_iload_n 2 dX27_isKind_10 rfl rfl rfl ?_
    refine x_icmp_ne (t := 18) 7 dX27_isKind_11 rfl rfl (b_ite h (fun hc h => ?_) (fun hc h => ?_))
    · refine x_iconst 0 (z := 0) dX27_isKind_18 rfl (by decide) rfl ?_
      exact y_zret dX27_isKind_19 rfl (by decide) h
    · refine x_iconst 1 (z := 1) dX27_isKind_14 rfl (by decide) rfl ?_
      refine x_goto 4 (q := 19) dX27_isKind_15 rfl ?_
      exact y_zret dX27_isKind_19 rfl (by decide) h
end RulesX27
