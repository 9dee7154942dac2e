section RulesX29
set_option maxRecDepth 100000
abbrev LX29_find_3 (d n : Nat) (Q : Int → bW → Prop) (X : String → bW → Prop) (a0 : Int) (a1 : Int) (a2 : Int) (a3 : Int) (a4 : Int) (w : bW) : Prop := b_Y (d + 1) mX29_find n Q X 3 [(2, a0), (2, a1), (0, a2), (0, a3), (0, a4), (9, 0), (9, 0)] [] w
abbrev LX29_find_60 (d n : Nat) (Q : Int → bW → Prop) (X : String → bW → Prop) (a0 : Int) (a1 : Int) (a2 : Int) (a3 : Int) (a4 : Int) (a5 : Int) (a6 : Int) (w : bW) : Prop := b_Y (d + 1) mX29_find n Q X 60 [(2, a0), (2, a1), (0, a2), (0, a3), (0, a4), (0, a5), (0, a6)] [] w
theorem rX29_find {d n : Nat} {w : bW} {Q : Int → bW → Prop} {X : String → bW → Prop} (hn : 254 ≤ n) (t : Int) (a1 : Int) (a2 : Int) (a3 : Int) (ht : b_is n t 0 27 1) (h : LX29_find_3 d n Q X t a1 a2 a3 0 w) : b_K (d + 1) mX29_find [(2, t), (2, a1), (0, a2), (0, a3)] n w Q X := by
  refine k_of (by decide) rfl rfl rfl (ls := [(2, t), (2, a1), (0, a2), (0, a3), (9, 0), (9, 0), (9, 0)]) rfl ?_
  refine x_iconst 0 (z := 0) dX29_find_0 rfl (by decide) rfl ?_
  refine x_istore 4 (ls' := [(2, t), (2, a1), (0, a2), (0, a3), (0, 0), (9, 0), (9, 0)]) dX29_find_1 rfl rfl rfl ?_
  exact x_fg (fgk (fgk (fgk (fgk (fgk (fgk (fgk (fg0)))))))) h
theorem sX29_find_3 {d n : Nat} {w : bW} {Q : Int → bW → Prop} {X : String → bW → Prop} (hn : 254 ≤ n) (a0 : Int) (a1 : Int) (a2 : Int) (a3 : Int) (a4 : Int) (ha0 : b_is n a0 0 27 1) (h : if 107 ≤ a4 then (Q (-1) w) else ((0 ≤ b_i (a4 + 1) ∧ b_i (a4 + 1) < 108) ∧ ((0 ≤ a4 ∧ a4 < 108) ∧ (if b_i ((b_i ((w (a0 + 1) (b_i (a4 + 1))) - (w (a0 + 1) a4))) - 1) ≠ b_i (a3 - a2) then (LX29_find_3 d n Q X a0 a1 a2 a3 (b_i (a4 + 1)) w) else (b_ai n a1 1 1 a2 ∧ (b_K d mJ4_charAt [(4, 5), (0, w (a0 + 1) a4)] n w (fun r7 w8 => if w a1 a2 ≠ r7 then (LX29_find_3 d n Q X a0 a1 a2 a3 (b_i (a4 + 1)) w8) else (LX29_find_60 d n Q X a0 a1 a2 a3 a4 (b_i ((b_i ((w (a0 + 1) (b_i (a4 + 1))) - (w (a0 + 1) a4))) - 1)) 1 w8)) X)))))) : LX29_find_3 d n Q X a0 a1 a2 a3 a4 w := by
  refine x_iload 4 dX29_find_3 rfl rfl ?_
  refine x_bipush 107 (z := 107) dX29_find_5 rfl (by decide) rfl ?_
  refine x_icmp_ge (t := 113) 106 dX29_find_7 rfl rfl (b_ite h (fun hc h => ?_) (fun hc h => ?_))
  · refine x_iconst (-1) (z := (-1)) dX29_find_113 rfl (by decide) rfl ?_
    exact y_iret dX29_find_114 rfl h
  · refine x_aload_n 0 dX29_find_10 rfl rfl rfl rfl rfl ?_
    refine y_getO 9 0 (c := 27) dX29_find_11 ha0 rfl in_X29 q4144 rfl rfl rfl (fun h5 hf => of_X29_0 (Nat.le_trans (Nat.le_of_ble_eq_true rfl) hn) h5 ha0 hf) rfl (fun e1 => ?_)
    refine x_iload 4 dX29_find_14 rfl rfl ?_
    refine x_iconst 1 (z := 1) dX29_find_16 rfl (by decide) rfl ?_
    refine x_iadd dX29_find_17 rfl ?_
    obtain ⟨e2, h⟩ := h
    refine y_iald (z := w (a0 + 1) (b_i (a4 + 1))) dX29_find_18 ⟨108, e1, e2⟩ rfl rfl ?_
    refine x_aload_n 0 dX29_find_19 rfl rfl rfl rfl rfl ?_
    refine y_getO 9 0 (c := 27) dX29_find_20 ha0 rfl in_X29 q4144 rfl rfl rfl (fun h5 hf => of_X29_0 (Nat.le_trans (Nat.le_of_ble_eq_true rfl) hn) h5 ha0 hf) rfl (fun e3 => ?_)
    refine x_iload 4 dX29_find_23 rfl rfl ?_
    obtain ⟨e4, h⟩ := h
    refine y_iald (z := w (a0 + 1) a4) dX29_find_25 ⟨108, e3, e4⟩ rfl rfl ?_
    refine x_isub dX29_find_26 rfl ?_
    refine x_iconst 1 (z := 1) dX29_find_27 rfl (by decide) rfl ?_
    refine x_isub dX29_find_28 rfl ?_
    refine x_istore 5 (ls' := [(2, a0), (2, a1), (0, a2), (0, a3), (0, a4), (0, b_i ((b_i ((w (a0 + 1) (b_i (a4 + 1))) - (w (a0 + 1) a4))) - 1)), (9, 0)]) dX29_find_29 rfl rfl rfl ?_
    refine x_iload 5 dX29_find_31 rfl rfl ?_
    refine x_iload_n 3 dX29_find_33 rfl rfl rfl ?_
    refine x_iload_n 2 dX29_find_34 rfl rfl rfl ?_
    refine x_isub dX29_find_35 rfl ?_
    refine x_icmp_ne (t := 107) 71 dX29_find_36 rfl rfl (b_ite h (fun hc h => ?_) (fun hc h => ?_))
    · refine x_iinc 4 1 (ls' := [(2, a0), (2, a1), (0, a2), (0, a3), (0, b_i (a4 + 1)), (0, b_i ((b_i ((w (a0 + 1) (b_i (a4 + 1))) - (w (a0 + 1) a4))) - 1)), (9, 0)]) dX29_find_107 rfl rfl rfl rfl ?_
      refine x_goto (-107) (q := 3) dX29_find_110 rfl ?_
      exact x_fg (fgk (fgk (fgk (fgk (fgk (fgd (fgk (fg0)))))))) h
    · refine x_aload_n 1 dX29_find_39 rfl rfl rfl rfl rfl ?_
      refine x_iload_n 2 dX29_find_40 rfl rfl rfl ?_
      obtain ⟨e5, h⟩ := h
      refine y_bald (z := w a1 a2) dX29_find_41 e5 rfl rfl ?_
      obtain ⟨_, hsr⟩ := sr_X29_15
      refine x_ldcs 15 (k0 := 5) dX29_find_42 hsr rfl ?_
      refine x_aload_n 0 dX29_find_44 rfl rfl rfl rfl rfl ?_
      refine y_getO 9 0 (c := 27) dX29_find_45 ha0 rfl in_X29 q4144 rfl rfl rfl (fun h5 hf => of_X29_0 (Nat.le_trans (Nat.le_of_ble_eq_true rfl) hn) h5 ha0 hf) rfl (fun e6 => ?_)
      refine x_iload 4 dX29_find_48 rfl rfl ?_
      refine y_iald (z := w (a0 + 1) a4) dX29_find_50 ⟨108, e3, e4⟩ rfl rfl ?_
      refine y_Ti 23 (M := mJ4_charAt) (As := [(0, w (a0 + 1) a4)]) (st := [(0, w a1 a2)]) dX29_find_51 (by decide) q3243 q981 q982 q365 q983 rfl hmJ4_charAt rfl rfl rfl rfl rfl rfl rfl rfl (k_mono h (fun r7 w8 h => ?_))
      refine x_icmp_ne (t := 107) 53 dX29_find_54 rfl rfl (b_ite h (fun hc h => ?_) (fun hc h => ?_))
      · refine x_iinc 4 1 (ls' := [(2, a0), (2, a1), (0, a2), (0, a3), (0, b_i (a4 + 1)), (0, b_i ((b_i ((w (a0 + 1) (b_i (a4 + 1))) - (w (a0 + 1) a4))) - 1)), (9, 0)]) dX29_find_107 rfl rfl rfl rfl ?_
        refine x_goto (-107) (q := 3) dX29_find_110 rfl ?_
        exact x_fg (fgk (fgk (fgk (fgk (fgk (fgd (fgk (fg0)))))))) h
      · refine x_iconst 1 (z := 1) dX29_find_57 rfl (by decide) rfl ?_
        refine x_istore 6 (ls' := [(2, a0), (2, a1), (0, a2), (0, a3), (0, a4), (0, b_i ((b_i ((w (a0 + 1) (b_i (a4 + 1))) - (w (a0 + 1) a4))) - 1)), (0, 1)]) dX29_find_58 rfl rfl rfl ?_
        exact x_fg (fgk (fgk (fgk (fgk (fgk (fgk (fgk (fg0)))))))) h
theorem sX29_find_60 {d n : Nat} {w : bW} {Q : Int → bW → Prop} {X : String → bW → Prop} (hn : 254 ≤ n) (a0 : Int) (a1 : Int) (a2 : Int) (a3 : Int) (a4 : Int) (a5 : Int) (a6 : Int) (ha0 : b_is n a0 0 27 1) (h : if a5 ≤ a6 then (if a6 ≠ a5 then (LX29_find_3 d n Q X a0 a1 a2 a3 (b_i (a4 + 1)) w) else (Q a4 w)) else (b_ai n a1 1 1 (b_i (a2 + a6)) ∧ ((0 ≤ a4 ∧ a4 < 108) ∧ (b_K d mJ4_charAt [(4, 5), (0, b_i ((w (a0 + 1) a4) + a6))] n w (fun r4 w5 => if w a1 (b_i (a2 + a6)) ≠ r4 then (if a6 ≠ a5 then (LX29_find_3 d n Q X a0 a1 a2 a3 (b_i (a4 + 1)) w5) else (Q a4 w5)) else (LX29_find_60 d n Q X a0 a1 a2 a3 a4 a5 (b_i (a6 + 1)) w5)) X)))) : LX29_find_60 d n Q X a0 a1 a2 a3 a4 a5 a6 w := by
  refine x_iload 6 dX29_find_60 rfl rfl ?_
  refine x_iload 5 dX29_find_62 rfl rfl ?_
  refine x_icmp_ge (t := 97) 33 dX29_find_64 rfl rfl (b_ite h (fun hc h => ?_) (fun hc h => ?_))
  · refine x_iload 6 dX29_find_97 rfl rfl ?_
    refine x_iload 5 dX29_find_99 rfl rfl ?_
    refine x_icmp_ne (t := 107) 6 dX29_find_101 rfl rfl (b_ite h (fun hc h => ?_) (fun hc h => ?_))
    · refine x_iinc 4 1 (ls' := [(2, a0), (2, a1), (0, a2), (0, a3), (0, b_i (a4 + 1)), (0, a5), (0, a6)]) dX29_find_107 rfl rfl rfl rfl ?_
      refine x_goto (-107) (q := 3) dX29_find_110 rfl ?_
      exact x_fg (fgk (fgk (fgk (fgk (fgk (fgd (fgd (fg0)))))))) h
    · refine x_iload 4 dX29_find_104 rfl rfl ?_
      exact y_iret dX29_find_106 rfl h
  · refine x_aload_n 1 dX29_find_67 rfl rfl rfl rfl rfl ?_
    refine x_iload_n 2 dX29_find_68 rfl rfl rfl ?_
    refine x_iload 6 dX29_find_69 rfl rfl ?_
    refine x_iadd dX29_find_71 rfl ?_
    obtain ⟨e1, h⟩ := h
    refine y_bald (z := w a1 (b_i (a2 + a6))) dX29_find_72 e1 rfl rfl ?_
    obtain ⟨_, hsr⟩ := sr_X29_15
    refine x_ldcs 15 (k0 := 5) dX29_find_73 hsr rfl ?_
    refine x_aload_n 0 dX29_find_75 rfl rfl rfl rfl rfl ?_
    refine y_getO 9 0 (c := 27) dX29_find_76 ha0 rfl in_X29 q4144 rfl rfl rfl (fun h5 hf => of_X29_0 (Nat.le_trans (Nat.le_of_ble_eq_true rfl) hn) h5 ha0 hf) rfl (fun e2 => ?_)
    refine x_iload 4 dX29_find_79 rfl rfl ?_
    obtain ⟨e3, h⟩ := h
    refine y_iald (z := w (a0 + 1) a4) dX29_find_81 ⟨108, e2, e3⟩ rfl rfl ?_
    refine x_iload 6 dX29_find_82 rfl rfl ?_
    refine x_iadd dX29_find_84 rfl ?_
    refine y_Ti 23 (M := mJ4_charAt) (As := [(0, b_i ((w (a0 + 1) a4) + a6))]) (st := [(0, w a1 (b_i (a2 + a6)))]) dX29_find_85 (by decide) q3243 q981 q982 q365 q983 rfl hmJ4_charAt rfl rfl rfl rfl rfl rfl rfl rfl (k_mono h (fun r4 w5 h => ?_))
    refine x_icmp_ne (t := 97) 9 dX29_find_88 rfl rfl (b_ite h (fun hc h => ?_) (fun hc h => ?_))
    · refine x_iload 6 dX29_find_97 rfl rfl ?_
      refine x_iload 5 dX29_find_99 rfl rfl ?_
      refine x_icmp_ne (t := 107) 6 dX29_find_101 rfl rfl (b_ite h (fun hc h => ?_) (fun hc h => ?_))
      · refine x_iinc 4 1 (ls' := [(2, a0), (2, a1), (0, a2), (0, a3), (0, b_i (a4 + 1)), (0, a5), (0, a6)]) dX29_find_107 rfl rfl rfl rfl ?_
        refine x_goto (-107) (q := 3) dX29_find_110 rfl ?_
        exact x_fg (fgk (fgk (fgk (fgk (fgk (fgd (fgd (fg0)))))))) h
      · refine x_iload 4 dX29_find_104 rfl rfl ?_
        exact y_iret dX29_find_106 rfl h
    · refine x_iinc 6 1 (ls' := [(2, a0), (2, a1), (0, a2), (0, a3), (0, a4), (0, a5), (0, b_i (a6 + 1))]) dX29_find_91 rfl rfl rfl rfl ?_
      refine x_goto (-34) (q := 60) dX29_find_94 rfl ?_
      exact x_fg (fgk (fgk (fgk (fgk (fgk (fgk (fgk (fg0)))))))) h
end RulesX29
