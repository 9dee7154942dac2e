section RulesX3
set_option maxRecDepth 100000
abbrev LX3_find_3 (d n : Nat) (Q : Int → bW → Prop) (X : String → bW → Prop) (a1 : Int) (a2 : Int) (a3 : Int) (a4 : Int) (w : bW) : Prop := b_Y (d + 1) mX3_find n Q X 3 [(2, 4), (2, a1), (0, a2), (0, a3), (0, a4)] [] w
theorem rX3_find {d n : Nat} {w : bW} {Q : Int → bW → Prop} {X : String → bW → Prop} (hn : 5 ≤ n) (a1 : Int) (a2 : Int) (a3 : Int) (h : LX3_find_3 d n Q X a1 a2 a3 0 w) : b_K (d + 1) mX3_find [(2, 4), (2, a1), (0, a2), (0, a3)] n w Q X := by
  refine k_of (by decide) rfl rfl rfl (ls := [(2, 4), (2, a1), (0, a2), (0, a3), (9, 0)]) rfl ?_
  refine x_iconst 0 (z := 0) dX3_find_0 rfl (by decide) rfl ?_
  refine x_istore 4 (ls' := [(2, 4), (2, a1), (0, a2), (0, a3), (0, 0)]) dX3_find_1 rfl rfl rfl ?_
  exact x_fg (fgk (fgk (fgk (fgk (fgk (fg0)))))) h
theorem sX3_find_3 {d n : Nat} {w : bW} {Q : Int → bW → Prop} {X : String → bW → Prop} (hn : 5 ≤ n) (a1 : Int) (a2 : Int) (a3 : Int) (a4 : Int) (h : if w 4 1 ≤ a4 then (if w 4 1 ≤ a4 then (Q (-1) w) else (Q a4 w)) else (b_K d mX3_is [(2, 4), (0, a4), (2, a1), (0, a2), (0, a3)] n w (fun r1 w2 => if r1 ≠ 0 then (if w2 4 1 ≤ a4 then (Q (-1) w2) else (Q a4 w2)) else (LX3_find_3 d n Q X a1 a2 a3 (b_i (a4 + 1)) w2)) X)) : LX3_find_3 d n Q X a1 a2 a3 a4 w := by
  have i4 := iz4 (Nat.le_trans (Nat.le_of_ble_eq_true rfl) hn)
  refine x_iload 4 dX3_find_3 rfl rfl ?_
  refine x_aload_n 0 dX3_find_5 rfl rfl rfl rfl rfl ?_
  refine y_get 21 1 (c := 2) (z := w 4 1) dX3_find_6 i4 rfl in_X3 q581 rfl rfl rfl rfl rfl ?_
  refine x_icmp_ge (t := 30) 21 dX3_find_9 rfl rfl (b_ite h (fun hc h => ?_) (fun hc h => ?_))
  · refine x_iload 4 dX3_find_30 rfl rfl ?_
    refine x_aload_n 0 dX3_find_32 rfl rfl rfl rfl rfl ?_
    refine y_get 21 1 (c := 2) (z := w 4 1) dX3_find_33 i4 rfl in_X3 q581 rfl rfl rfl rfl rfl ?_
    refine x_icmp_ge (t := 44) 8 dX3_find_36 rfl rfl (b_ite h (fun hc h => ?_) (fun hc h => ?_))
    · refine x_iconst (-1) (z := (-1)) dX3_find_44 rfl (by decide) rfl ?_
      exact y_iret dX3_find_45 rfl h
    · refine x_iload 4 dX3_find_39 rfl rfl ?_
      refine x_goto 4 (q := 45) dX3_find_41 rfl ?_
      exact y_iret dX3_find_45 rfl h
  · refine x_aload_n 0 dX3_find_12 rfl rfl rfl rfl rfl ?_
    refine x_iload 4 dX3_find_13 rfl rfl ?_
    refine x_aload_n 1 dX3_find_15 rfl rfl rfl rfl rfl ?_
    refine x_iload_n 2 dX3_find_16 rfl rfl rfl ?_
    refine x_iload_n 3 dX3_find_17 rfl rfl rfl ?_
    refine y_Vi 33 (M := mX3_is) (As := [(0, a4), (2, a1), (0, a2), (0, a3)]) (st := []) dX3_find_18 i4 rfl q1788 q1790 qs17 q364 q1791 rfl hmX3_is rfl rfl rfl rfl rfl rfl rfl rfl (k_mono h (fun r1 w2 h => ?_))
    refine x_if_ne (t := 30) 9 dX3_find_21 rfl rfl (b_ite h (fun hc h => ?_) (fun hc h => ?_))
    · refine x_iload 4 dX3_find_30 rfl rfl ?_
      refine x_aload_n 0 dX3_find_32 rfl rfl rfl rfl rfl ?_
      refine y_get 21 1 (c := 2) (z := w2 4 1) dX3_find_33 i4 rfl in_X3 q581 rfl rfl rfl rfl rfl ?_
      refine x_icmp_ge (t := 44) 8 dX3_find_36 rfl rfl (b_ite h (fun hc h => ?_) (fun hc h => ?_))
      · refine x_iconst (-1) (z := (-1)) dX3_find_44 rfl (by decide) rfl ?_
        exact y_iret dX3_find_45 rfl h
      · refine x_iload 4 dX3_find_39 rfl rfl ?_
        refine x_goto 4 (q := 45) dX3_find_41 rfl ?_
        exact y_iret dX3_find_45 rfl h
    · refine x_iinc 4 1 (ls' := [(2, 4), (2, a1), (0, a2), (0, a3), (0, b_i (a4 + 1))]) dX3_find_24 rfl rfl rfl rfl ?_
      refine x_goto (-24) (q := 3) dX3_find_27 rfl ?_
      exact x_fg (fgk (fgk (fgk (fgk (fgk (fg0)))))) h
abbrev LX3_is_38 (d n : Nat) (Q : Int → bW → Prop) (X : String → bW → Prop) (a1 : Int) (a2 : Int) (a3 : Int) (a5 : Int) (a6 : Int) (w : bW) : Prop := b_Y (d + 1) mX3_is n Q X 38 [(2, 4), (0, a1), (2, a2), (0, a3), (9, 0), (0, a5), (0, a6)] [] w
theorem rX3_is {d n : Nat} {w : bW} {Q : Int → bW → Prop} {X : String → bW → Prop} (hn : 143 ≤ n) (a1 : Int) (a2 : Int) (a3 : Int) (a4 : Int) (h : (0 ≤ b_i (a1 + 1) ∧ b_i (a1 + 1) < 128) ∧ ((0 ≤ a1 ∧ a1 < 128) ∧ (if b_i (a4 - a3) ≠ b_i ((b_i ((w 5 (b_i (a1 + 1))) - (w 5 a1))) - 1) then (LX3_is_38 d n Q X a1 a2 a3 (b_i ((b_i ((w 5 (b_i (a1 + 1))) - (w 5 a1))) - 1)) (b_i ((b_i ((b_i ((w 5 (b_i (a1 + 1))) - (w 5 a1))) - 1)) + 1)) w) else (LX3_is_38 d n Q X a1 a2 a3 (b_i ((b_i ((w 5 (b_i (a1 + 1))) - (w 5 a1))) - 1)) 0 w)))) : b_K (d + 1) mX3_is [(2, 4), (0, a1), (2, a2), (0, a3), (0, a4)] n w Q X := by
  have i4 := iz4 (Nat.le_trans (Nat.le_of_ble_eq_true rfl) hn)
  have i5 := iz5 (Nat.le_trans (Nat.le_of_ble_eq_true rfl) hn)
  refine k_of (by decide) rfl rfl rfl (ls := [(2, 4), (0, a1), (2, a2), (0, a3), (0, a4), (9, 0), (9, 0)]) rfl ?_
  refine x_aload_n 0 dX3_is_0 rfl rfl rfl rfl rfl ?_
  refine y_getF 9 0 (c := 2) (z := 5) dX3_is_1 i4 rfl in_X3 q580 rfl rfl rfl fn_4_0 (Nat.le_trans (Nat.le_of_ble_eq_true rfl) hn) rfl ?_
  refine x_iload_n 1 dX3_is_4 rfl rfl rfl ?_
  refine x_iconst 1 (z := 1) dX3_is_5 rfl (by decide) rfl ?_
  refine x_iadd dX3_is_6 rfl ?_
  obtain ⟨e1, h⟩ := h
  refine y_iald (z := w 5 (b_i (a1 + 1))) dX3_is_7 ⟨128, i5, e1⟩ rfl rfl ?_
  refine x_aload_n 0 dX3_is_8 rfl rfl rfl rfl rfl ?_
  refine y_getF 9 0 (c := 2) (z := 5) dX3_is_9 i4 rfl in_X3 q580 rfl rfl rfl fn_4_0 (Nat.le_trans (Nat.le_of_ble_eq_true rfl) hn) rfl ?_
  refine x_iload_n 1 dX3_is_12 rfl rfl rfl ?_
  obtain ⟨e2, h⟩ := h
  refine y_iald (z := w 5 a1) dX3_is_13 ⟨128, i5, e2⟩ rfl rfl ?_
  refine x_isub dX3_is_14 rfl ?_
  refine x_iconst 1 (z := 1) dX3_is_15 rfl (by decide) rfl ?_
  refine x_isub dX3_is_16 rfl ?_
  refine x_istore 5 (ls' := [(2, 4), (0, a1), (2, a2), (0, a3), (0, a4), (0, b_i ((b_i ((w 5 (b_i (a1 + 1))) - (w 5 a1))) - 1)), (9, 0)]) dX3_is_17 rfl rfl rfl ?_
  refine x_iload 4 dX3_is_19 rfl rfl ?_
  refine x_iload_n 3 dX3_is_21 rfl rfl rfl ?_
  refine x_isub dX3_is_22 rfl ?_
  refine x_iload 5 dX3_is_23 rfl rfl ?_
  refine x_icmp_ne (t := 32) 7 dX3_is_25 rfl rfl (b_ite h (fun hc h => ?_) (fun hc h => ?_))
  · refine x_iload 5 dX3_is_32 rfl rfl ?_
    refine x_iconst 1 (z := 1) dX3_is_34 rfl (by decide) rfl ?_
    refine x_iadd dX3_is_35 rfl ?_
    refine x_istore 6 (ls' := [(2, 4), (0, a1), (2, a2), (0, a3), (0, a4), (0, b_i ((b_i ((w 5 (b_i (a1 + 1))) - (w 5 a1))) - 1)), (0, b_i ((b_i ((b_i ((w 5 (b_i (a1 + 1))) - (w 5 a1))) - 1)) + 1))]) dX3_is_36 rfl rfl rfl ?_
    exact x_fg (fgk (fgk (fgk (fgk (fgd (fgk (fgk (fg0)))))))) h
  · refine x_iconst 0 (z := 0) dX3_is_28 rfl (by decide) rfl ?_
    refine x_goto 7 (q := 36) dX3_is_29 rfl ?_
    refine x_istore 6 (ls' := [(2, 4), (0, a1), (2, a2), (0, a3), (0, a4), (0, b_i ((b_i ((w 5 (b_i (a1 + 1))) - (w 5 a1))) - 1)), (0, 0)]) dX3_is_36 rfl rfl rfl ?_
    exact x_fg (fgk (fgk (fgk (fgk (fgd (fgk (fgk (fg0)))))))) h
theorem sX3_is_38 {d n : Nat} {w : bW} {Q : Int → bW → Prop} {X : String → bW → Prop} (hn : 143 ≤ n) (a1 : Int) (a2 : Int) (a3 : Int) (a5 : Int) (a6 : Int) (h : if a5 ≤ a6 then (if a6 ≠ a5 then (Q 0 w) else (Q 1 w)) else ((0 ≤ a1 ∧ a1 < 128) ∧ (b_K d mJ4_charAt [(4, 1), (0, b_i ((w 5 a1) + a6))] n w (fun r2 w3 => b_ai n a2 1 1 (b_i (a3 + a6)) ∧ (if r2 ≠ w3 a2 (b_i (a3 + a6)) then (if a6 ≠ a5 then (Q 0 w3) else (Q 1 w3)) else (LX3_is_38 d n Q X a1 a2 a3 a5 (b_i (a6 + 1)) w3))) X))) : LX3_is_38 d n Q X a1 a2 a3 a5 a6 w := by
  have i4 := iz4 (Nat.le_trans (Nat.le_of_ble_eq_true rfl) hn)
  have i5 := iz5 (Nat.le_trans (Nat.le_of_ble_eq_true rfl) hn)
  refine x_iload 6 dX3_is_38 rfl rfl ?_
  refine x_iload 5 dX3_is_40 rfl rfl ?_
  refine x_icmp_ge (t := 74) 32 dX3_is_42 rfl rfl (b_ite h (fun hc h => ?_) (fun hc h => ?_))
  · refine x_iload 6 dX3_is_74 rfl rfl ?_
    refine x_iload 5 dX3_is_76 rfl rfl ?_
    refine x_icmp_ne (t := 85) 7 dX3_is_78 rfl rfl (b_ite h (fun hc h => ?_) (fun hc h => ?_))
    · refine x_iconst 0 (z := 0) dX3_is_85 rfl (by decide) rfl ?_
      exact y_zret dX3_is_86 rfl (by decide) h
    · refine x_iconst 1 (z := 1) dX3_is_81 rfl (by decide) rfl ?_
      refine x_goto 4 (q := 86) dX3_is_82 rfl ?_
      exact y_zret dX3_is_86 rfl (by decide) h
  · obtain ⟨_, hsr⟩ := sr_X3_13
    refine x_ldcs 13 (k0 := 1) dX3_is_45 hsr rfl ?_
    refine x_aload_n 0 dX3_is_47 rfl rfl rfl rfl rfl ?_
    refine y_getF 9 0 (c := 2) (z := 5) dX3_is_48 i4 rfl in_X3 q580 rfl rfl rfl fn_4_0 (Nat.le_trans (Nat.le_of_ble_eq_true rfl) hn) rfl ?_
    refine x_iload_n 1 dX3_is_51 rfl rfl rfl ?_
    obtain ⟨e1, h⟩ := h
    refine y_iald (z := w 5 a1) dX3_is_52 ⟨128, i5, e1⟩ rfl rfl ?_
    refine x_iload 6 dX3_is_53 rfl rfl ?_
    refine x_iadd dX3_is_55 rfl ?_
    refine y_Ti 29 (M := mJ4_charAt) (As := [(0, b_i ((w 5 a1) + a6))]) (st := []) dX3_is_56 (by decide) q1792 q981 q982 q365 q983 rfl hmJ4_charAt rfl rfl rfl rfl rfl rfl rfl rfl (k_mono h (fun r2 w3 h => ?_))
    refine x_aload_n 2 dX3_is_59 rfl rfl rfl rfl rfl ?_
    refine x_iload_n 3 dX3_is_60 rfl rfl rfl ?_
    refine x_iload 6 dX3_is_61 rfl rfl ?_
    refine x_iadd dX3_is_63 rfl ?_
    obtain ⟨e4, h⟩ := h
    refine y_bald (z := w3 a2 (b_i (a3 + a6))) dX3_is_64 e4 rfl rfl ?_
    refine x_icmp_ne (t := 74) 9 dX3_is_65 rfl rfl (b_ite h (fun hc h => ?_) (fun hc h => ?_))
    · refine x_iload 6 dX3_is_74 rfl rfl ?_
      refine x_iload 5 dX3_is_76 rfl rfl ?_
      refine x_icmp_ne (t := 85) 7 dX3_is_78 rfl rfl (b_ite h (fun hc h => ?_) (fun hc h => ?_))
      · refine x_iconst 0 (z := 0) dX3_is_85 rfl (by decide) rfl ?_
        exact y_zret dX3_is_86 rfl (by decide) h
      · refine x_iconst 1 (z := 1) dX3_is_81 rfl (by decide) rfl ?_
        refine x_goto 4 (q := 86) dX3_is_82 rfl ?_
        exact y_zret dX3_is_86 rfl (by decide) h
    · refine x_iinc 6 1 (ls' := [(2, 4), (0, a1), (2, a2), (0, a3), (9, 0), (0, a5), (0, b_i (a6 + 1))]) dX3_is_68 rfl rfl rfl rfl ?_
      refine x_goto (-33) (q := 38) dX3_is_71 rfl ?_
      exact x_fg (fgk (fgk (fgk (fgk (fgk (fgk (fgk (fg0)))))))) h
end RulesX3
