section RulesX26
set_option maxRecDepth 100000
abbrev LX26_read_33 (d n : Nat) (Q : Int → bW → Prop) (X : String → bW → Prop) (a0 : Int) (a1 : Int) (a3 : Int) (a4 : Int) (a5 : Int) (w : bW) : Prop := b_Y (d + 1) mX26_read n Q X 33 [(2, a0), (2, a1), (9, 0), (0, a3), (0, a4), (0, a5)] [] w
theorem rX26_read {d n : Nat} {w : bW} {Q : Int → bW → Prop} {X : String → bW → Prop} (t : Int) (a1 : Int) (a2 : Int) (a3 : Int) (ht : b_is n t 0 24 3) (h : b_K d mX26_zero [(2, t)] n w (fun r1 w2 => b_ai n a1 1 1 a2 ∧ (if w2 a1 a2 ≠ 45 then (LX26_read_33 d n Q X t a1 a3 0 a2 w2) else (LX26_read_33 d n Q X t a1 a3 1 (b_i (a2 + 1)) w2))) X) : b_K (d + 1) mX26_read [(2, t), (2, a1), (0, a2), (0, a3)] n w Q X := by
  refine k_of (by decide) rfl rfl rfl (ls := [(2, t), (2, a1), (0, a2), (0, a3), (9, 0), (9, 0)]) rfl ?_
  refine x_aload_n 0 dX26_read_0 rfl rfl rfl rfl rfl ?_
  refine y_Vv 21 (M := mX26_zero) (As := []) (st := []) dX26_read_1 ht rfl q3217 q3218 q3219 q393 q3220 rfl hmX26_zero rfl rfl rfl rfl rfl rfl rfl (k_mono h (fun r1 w2 h => ?_))
  refine x_aload_n 1 dX26_read_4 rfl rfl rfl rfl rfl ?_
  refine x_iload_n 2 dX26_read_5 rfl rfl rfl ?_
  obtain ⟨e3, h⟩ := h
  refine y_bald (z := w2 a1 a2) dX26_read_6 e3 rfl rfl ?_
  refine x_bipush 45 (z := 45) dX26_read_7 rfl (by decide) rfl ?_
  refine x_icmp_ne (t := 16) 7 dX26_read_9 rfl rfl (b_ite h (fun hc h => ?_) (fun hc h => ?_))
  · refine x_iconst 0 (z := 0) dX26_read_16 rfl (by decide) rfl ?_
    refine x_istore 4 (ls' := [(2, t), (2, a1), (0, a2), (0, a3), (0, 0), (9, 0)]) dX26_read_17 rfl rfl rfl ?_
    refine x_iload 4 dX26_read_19 rfl rfl ?_
    refine x_if_eq (t := 30) 9 dX26_read_21 rfl rfl (b_ifT (by decide) ?_)
    refine x_iload_n 2 dX26_read_30 rfl rfl rfl ?_
    refine x_istore 5 (ls' := [(2, t), (2, a1), (0, a2), (0, a3), (0, 0), (0, a2)]) dX26_read_31 rfl rfl rfl ?_
    exact x_fg (fgk (fgk (fgd (fgk (fgk (fgk (fg0))))))) h
  · refine x_iconst 1 (z := 1) dX26_read_12 rfl (by decide) rfl ?_
    refine x_goto 4 (q := 17) dX26_read_13 rfl ?_
    refine x_istore 4 (ls' := [(2, t), (2, a1), (0, a2), (0, a3), (0, 1), (9, 0)]) dX26_read_17 rfl rfl rfl ?_
    refine x_iload 4 dX26_read_19 rfl rfl ?_
    refine x_if_eq (t := 30) 9 dX26_read_21 rfl rfl (b_ifF (by decide) ?_)
    refine x_iload_n 2 dX26_read_24 rfl rfl rfl ?_
    refine x_iconst 1 (z := 1) dX26_read_25 rfl (by decide) rfl ?_
    refine x_iadd dX26_read_26 rfl ?_
    refine x_goto 4 (q := 31) dX26_read_27 rfl ?_
    refine x_istore 5 (ls' := [(2, t), (2, a1), (0, a2), (0, a3), (0, 1), (0, b_i (a2 + 1))]) dX26_read_31 rfl rfl rfl ?_
    exact x_fg (fgk (fgk (fgd (fgk (fgk (fgk (fg0))))))) h
theorem sX26_read_33 {d n : Nat} {w : bW} {Q : Int → bW → Prop} {X : String → bW → Prop} (a0 : Int) (a1 : Int) (a3 : Int) (a4 : Int) (a5 : Int) (ha0 : b_is n a0 0 24 3) (h : if a3 ≤ a5 then ((a4 = 0 ∨ a4 = 1) ∧ (b_K d mX26_trim [(2, a0)] n (b_up w a0 2 a4) (fun r2 w3 => b_K d mX26_isLarge [(2, a0)] n w3 (fun r4 w5 => if r4 ≠ 0 then (Q 0 w5) else (Q 1 w5)) X) X)) else (b_ai n a1 1 1 a5 ∧ (b_K d mX26_tenth [(2, a0), (0, b_i ((w a1 a5) - 48))] n w (fun r7 w8 => if w8 a0 1 ≤ 66 then (LX26_read_33 d n Q X a0 a1 a3 a4 (b_i (a5 + 1)) w8) else (Q 0 w8)) X))) : LX26_read_33 d n Q X a0 a1 a3 a4 a5 w := by
  refine x_iload 5 dX26_read_33 rfl rfl ?_
  refine x_iload_n 3 dX26_read_35 rfl rfl rfl ?_
  refine x_icmp_ge (t := 67) 31 dX26_read_36 rfl rfl (b_ite h (fun hc h => ?_) (fun hc h => ?_))
  · refine x_aload_n 0 dX26_read_67 rfl rfl rfl rfl rfl ?_
    refine x_iload 4 dX26_read_68 rfl rfl ?_
    obtain ⟨e1, h⟩ := h
    refine x_put 17 2 (c := 24) dX26_read_70 ha0 rfl in_X26 tyX26_ok nmX26 q4089 rfl rfl rfl (Or.inl rfl) (Or.inr (Or.inl ⟨rfl, rfl, e1⟩)) rfl ?_
    refine x_aload_n 0 dX26_read_73 rfl rfl rfl rfl rfl ?_
    refine y_Vv 39 (M := mX26_trim) (As := []) (st := []) dX26_read_74 ha0 rfl q3226 q3227 q3228 q393 q3229 rfl hmX26_trim rfl rfl rfl rfl rfl rfl rfl (k_mono h (fun r2 w3 h => ?_))
    refine x_aload_n 0 dX26_read_77 rfl rfl rfl rfl rfl ?_
    refine y_Vi 57 (M := mX26_isLarge) (As := []) (st := []) dX26_read_78 ha0 rfl q3230 q3231 q3232 q393 q3233 rfl hmX26_isLarge rfl rfl rfl rfl rfl rfl rfl rfl (k_mono h (fun r4 w5 h => ?_))
    refine x_if_ne (t := 88) 7 dX26_read_81 rfl rfl (b_ite h (fun hc h => ?_) (fun hc h => ?_))
    · refine x_iconst 0 (z := 0) dX26_read_88 rfl (by decide) rfl ?_
      exact y_zret dX26_read_89 rfl (by decide) h
    · refine x_iconst 1 (z := 1) dX26_read_84 rfl (by decide) rfl ?_
      refine x_goto 4 (q := 89) dX26_read_85 rfl ?_
      exact y_zret dX26_read_89 rfl (by decide) h
  · refine x_aload_n 0 dX26_read_39 rfl rfl rfl rfl rfl ?_
    refine x_aload_n 1 dX26_read_40 rfl rfl rfl rfl rfl ?_
    refine x_iload 5 dX26_read_41 rfl rfl ?_
    obtain ⟨e6, h⟩ := h
    refine y_bald (z := w a1 a5) dX26_read_43 e6 rfl rfl ?_
    refine x_bipush 48 (z := 48) dX26_read_44 rfl (by decide) rfl ?_
    refine x_isub dX26_read_46 rfl ?_
    refine y_Vv 53 (M := mX26_tenth) (As := [(0, b_i ((w a1 a5) - 48))]) (st := []) dX26_read_47 ha0 rfl q3221 q3222 q3223 q393 q3224 rfl hmX26_tenth rfl rfl rfl rfl rfl rfl rfl (k_mono h (fun r7 w8 h => ?_))
    refine x_aload_n 0 dX26_read_50 rfl rfl rfl rfl rfl ?_
    refine y_get 13 1 (c := 24) (z := w8 a0 1) dX26_read_51 ha0 rfl in_X26 q4087 rfl rfl rfl rfl rfl ?_
    refine x_bipush 66 (z := 66) dX26_read_54 rfl (by decide) rfl ?_
    refine x_icmp_le (t := 61) 5 dX26_read_56 rfl rfl (b_ite h (fun hc h => ?_) (fun hc h => ?_))
    · refine x_iinc 5 1 (ls' := [(2, a0), (2, a1), (9, 0), (0, a3), (0, a4), (0, b_i (a5 + 1))]) dX26_read_61 rfl rfl rfl rfl ?_
      refine x_goto (-31) (q := 33) dX26_read_64 rfl ?_
      exact x_fg (fgk (fgk (fgk (fgk (fgk (fgk (fg0))))))) h
    · refine x_iconst 0 (z := 0) dX26_read_59 rfl (by decide) rfl ?_
      exact y_zret dX26_read_60 rfl (by decide) h
theorem rX26_zero {d n : Nat} {w : bW} {Q : Int → bW → Prop} {X : String → bW → Prop} (t : Int) (ht : b_is n t 0 24 3) (h : Q 0 (b_up (b_up w t 1 0) t 2 0)) : b_K (d + 1) mX26_zero [(2, t)] n w Q X := by
  refine k_of (by decide) rfl rfl rfl (ls := [(2, t)]) rfl ?_
  refine x_aload_n 0 dX26_zero_0 rfl rfl rfl rfl rfl ?_
  refine x_iconst 0 (z := 0) dX26_zero_1 rfl (by decide) rfl ?_
  refine x_put 13 1 (c := 24) dX26_zero_2 ht rfl in_X26 tyX26_ok nmX26 q4087 rfl rfl rfl (Or.inl rfl) (Or.inl ⟨rfl, rfl⟩) rfl ?_
  refine x_aload_n 0 dX26_zero_5 rfl rfl rfl rfl rfl ?_
  refine x_iconst 0 (z := 0) dX26_zero_6 rfl (by decide) rfl ?_
  refine x_put 17 2 (c := 24) dX26_zero_7 ht rfl in_X26 tyX26_ok nmX26 q4089 rfl rfl rfl (Or.inl rfl) (Or.inr (Or.inl ⟨rfl, rfl, by decide⟩)) rfl ?_
  exact y_vret dX26_zero_10 rfl h
abbrev LX26_tenth_4 (d n : Nat) (Q : Int → bW → Prop) (X : String → bW → Prop) (a0 : Int) (a2 : Int) (a3 : Int) (w : bW) : Prop := b_Y (d + 1) mX26_tenth n Q X 4 [(2, a0), (9, 0), (0, a2), (0, a3), (9, 0)] [] w
theorem rX26_tenth {d n : Nat} {w : bW} {Q : Int → bW → Prop} {X : String → bW → Prop} (hn : 254 ≤ n) (t : Int) (a1 : Int) (ht : b_is n t 0 24 3) (h : LX26_tenth_4 d n Q X t a1 0 w) : b_K (d + 1) mX26_tenth [(2, t), (0, a1)] n w Q X := by
  refine k_of (by decide) rfl rfl rfl (ls := [(2, t), (0, a1), (9, 0), (9, 0), (9, 0)]) rfl ?_
  refine x_iload_n 1 dX26_tenth_0 rfl rfl rfl ?_
  refine x_istore_n 2 (ls' := [(2, t), (0, a1), (0, a1), (9, 0), (9, 0)]) dX26_tenth_1 rfl rfl rfl rfl ?_
  refine x_iconst 0 (z := 0) dX26_tenth_2 rfl (by decide) rfl ?_
  refine x_istore_n 3 (ls' := [(2, t), (0, a1), (0, a1), (0, 0), (9, 0)]) dX26_tenth_3 rfl rfl rfl rfl ?_
  exact x_fg (fgk (fgd (fgk (fgk (fgk (fg0)))))) h
theorem sX26_tenth_4 {d n : Nat} {w : bW} {Q : Int → bW → Prop} {X : String → bW → Prop} (hn : 254 ≤ n) (a0 : Int) (a2 : Int) (a3 : Int) (ha0 : b_is n a0 0 24 3) (h : if w a0 1 ≤ a3 then (if a2 ≤ 0 then (Q 0 w) else ((0 ≤ w a0 1 ∧ w a0 1 < 180) ∧ (Q 0 (b_up (b_up w (a0 + 1) (w a0 1) a2) a0 1 (b_i (((b_up w (a0 + 1) (w a0 1) a2) a0 1) + 1)))))) else ((0 ≤ a3 ∧ a3 < 180) ∧ (LX26_tenth_4 d n Q X a0 (b_div (b_i ((b_i (10 * (w (a0 + 1) a3))) + a2)) 65536) (b_i (a3 + 1)) (b_up w (a0 + 1) a3 (b_rem (b_i ((b_i (10 * (w (a0 + 1) a3))) + a2)) 65536))))) : LX26_tenth_4 d n Q X a0 a2 a3 w := by
  refine x_iload_n 3 dX26_tenth_4 rfl rfl rfl ?_
  refine x_aload_n 0 dX26_tenth_5 rfl rfl rfl rfl rfl ?_
  refine y_get 13 1 (c := 24) (z := w a0 1) dX26_tenth_6 ha0 rfl in_X26 q4087 rfl rfl rfl rfl rfl ?_
  refine x_icmp_ge (t := 48) 39 dX26_tenth_9 rfl rfl (b_ite h (fun hc h => ?_) (fun hc h => ?_))
  · refine x_iload_n 2 dX26_tenth_48 rfl rfl rfl ?_
    refine x_if_le (t := 72) 23 dX26_tenth_49 rfl rfl (b_ite h (fun hc h => ?_) (fun hc h => ?_))
    · exact y_vret dX26_tenth_72 rfl h
    · refine x_aload_n 0 dX26_tenth_52 rfl rfl rfl rfl rfl ?_
      refine y_getO 7 0 (c := 24) dX26_tenth_53 ha0 rfl in_X26 q4085 rfl rfl rfl (fun h5 hf => of_X26_0 (Nat.le_trans (Nat.le_of_ble_eq_true rfl) hn) h5 ha0 hf) rfl (fun e1 => ?_)
      refine x_aload_n 0 dX26_tenth_56 rfl rfl rfl rfl rfl ?_
      refine y_get 13 1 (c := 24) (z := w a0 1) dX26_tenth_57 ha0 rfl in_X26 q4087 rfl rfl rfl rfl rfl ?_
      refine x_iload_n 2 dX26_tenth_60 rfl rfl rfl ?_
      obtain ⟨e2, h⟩ := h
      refine y_iast (x' := a2) dX26_tenth_61 ⟨180, e1, e2⟩ rfl rfl ?_
      refine x_aload_n 0 dX26_tenth_62 rfl rfl rfl rfl rfl ?_
      refine x_dup dX26_tenth_63 rfl rfl ?_
      refine y_get 13 1 (c := 24) (z := (b_up w (a0 + 1) (w a0 1) a2) a0 1) dX26_tenth_64 ha0 rfl in_X26 q4087 rfl rfl rfl rfl rfl ?_
      refine x_iconst 1 (z := 1) dX26_tenth_67 rfl (by decide) rfl ?_
      refine x_iadd dX26_tenth_68 rfl ?_
      refine x_put 13 1 (c := 24) dX26_tenth_69 ha0 rfl in_X26 tyX26_ok nmX26 q4087 rfl rfl rfl (Or.inl rfl) (Or.inl ⟨rfl, rfl⟩) rfl ?_
      exact y_vret dX26_tenth_72 rfl h
  · refine x_bipush 10 (z := 10) dX26_tenth_12 rfl (by decide) rfl ?_
    refine x_aload_n 0 dX26_tenth_14 rfl rfl rfl rfl rfl ?_
    refine y_getO 7 0 (c := 24) dX26_tenth_15 ha0 rfl in_X26 q4085 rfl rfl rfl (fun h5 hf => of_X26_0 (Nat.le_trans (Nat.le_of_ble_eq_true rfl) hn) h5 ha0 hf) rfl (fun e3 => ?_)
    refine x_iload_n 3 dX26_tenth_18 rfl rfl rfl ?_
    obtain ⟨e4, h⟩ := h
    refine y_iald (z := w (a0 + 1) a3) dX26_tenth_19 ⟨180, e3, e4⟩ rfl rfl ?_
    refine x_imul dX26_tenth_20 rfl ?_
    refine x_iload_n 2 dX26_tenth_21 rfl rfl rfl ?_
    refine x_iadd dX26_tenth_22 rfl ?_
    refine x_istore 4 (ls' := [(2, a0), (9, 0), (0, a2), (0, a3), (0, b_i ((b_i (10 * (w (a0 + 1) a3))) + a2))]) dX26_tenth_23 rfl rfl rfl ?_
    refine x_aload_n 0 dX26_tenth_25 rfl rfl rfl rfl rfl ?_
    refine y_getO 7 0 (c := 24) dX26_tenth_26 ha0 rfl in_X26 q4085 rfl rfl rfl (fun h5 hf => of_X26_0 (Nat.le_trans (Nat.le_of_ble_eq_true rfl) hn) h5 ha0 hf) rfl (fun e5 => ?_)
    refine x_iload_n 3 dX26_tenth_29 rfl rfl rfl ?_
    refine x_iload 4 dX26_tenth_30 rfl rfl ?_
    refine x_ldc 38 (x := 65536) dX26_tenth_32 q3225 rfl (by decide) rfl ?_
    refine x_irem dX26_tenth_34 (by decide) rfl ?_
    refine y_iast (x' := b_rem (b_i ((b_i (10 * (w (a0 + 1) a3))) + a2)) 65536) dX26_tenth_35 ⟨180, e3, e4⟩ rfl rfl ?_
    refine x_iload 4 dX26_tenth_36 rfl rfl ?_
    refine x_ldc 38 (x := 65536) dX26_tenth_38 q3225 rfl (by decide) rfl ?_
    refine x_idiv dX26_tenth_40 (by decide) rfl ?_
    refine x_istore_n 2 (ls' := [(2, a0), (9, 0), (0, b_div (b_i ((b_i (10 * (w (a0 + 1) a3))) + a2)) 65536), (0, a3), (0, b_i ((b_i (10 * (w (a0 + 1) a3))) + a2))]) dX26_tenth_41 rfl rfl rfl rfl ?_
    refine x_iinc 3 1 (ls' := [(2, a0), (9, 0), (0, b_div (b_i ((b_i (10 * (w (a0 + 1) a3))) + a2)) 65536), (0, b_i (a3 + 1)), (0, b_i ((b_i (10 * (w (a0 + 1) a3))) + a2))]) dX26_tenth_42 rfl rfl rfl rfl ?_
    refine x_goto (-41) (q := 4) dX26_tenth_45 rfl ?_
    exact x_fg (fgk (fgk (fgk (fgk (fgd (fg0)))))) h
abbrev LX26_trim_0 (d n : Nat) (Q : Int → bW → Prop) (X : String → bW → Prop) (a0 : Int) (w : bW) : Prop := b_Y (d + 1) mX26_trim n Q X 0 [(2, a0)] [] w
theorem rX26_trim {d n : Nat} {w : bW} {Q : Int → bW → Prop} {X : String → bW → Prop} (hn : 254 ≤ n) (t : Int) (ht : b_is n t 0 24 3) (h : LX26_trim_0 d n Q X t w) : b_K (d + 1) mX26_trim [(2, t)] n w Q X := by
  refine k_of (by decide) rfl rfl rfl (ls := [(2, t)]) rfl ?_
  exact x_fg (fgk (fg0)) h
theorem sX26_trim_0 {d n : Nat} {w : bW} {Q : Int → bW → Prop} {X : String → bW → Prop} (hn : 254 ≤ n) (a0 : Int) (ha0 : b_is n a0 0 24 3) (h : if w a0 1 ≤ 0 then (if w a0 2 = 0 then (Q 0 (b_up w a0 2 0)) else (if w a0 1 ≤ 0 then (Q 0 (b_up w a0 2 0)) else (Q 0 (b_up w a0 2 1)))) else ((0 ≤ b_i ((w a0 1) - 1) ∧ b_i ((w a0 1) - 1) < 180) ∧ (if w (a0 + 1) (b_i ((w a0 1) - 1)) ≠ 0 then (if w a0 2 = 0 then (Q 0 (b_up w a0 2 0)) else (if w a0 1 ≤ 0 then (Q 0 (b_up w a0 2 0)) else (Q 0 (b_up w a0 2 1)))) else (LX26_trim_0 d n Q X a0 (b_up w a0 1 (b_i ((w a0 1) - 1))))))) : LX26_trim_0 d n Q X a0 w := by
  refine x_aload_n 0 dX26_trim_0 rfl rfl rfl rfl rfl ?_
  refine y_get 13 1 (c := 24) (z := w a0 1) dX26_trim_1 ha0 rfl in_X26 q4087 rfl rfl rfl rfl rfl ?_
  refine x_if_le (t := 34) 30 dX26_trim_4 rfl rfl (b_ite h (fun hc h => ?_) (fun hc h => ?_))
  · refine x_aload_n 0 dX26_trim_34 rfl rfl rfl rfl rfl ?_
    refine x_aload_n 0 dX26_trim_35 rfl rfl rfl rfl rfl ?_
    refine y_get 17 2 (c := 24) (z := w a0 2) dX26_trim_36 ha0 rfl in_X26 q4089 rfl rfl rfl rfl rfl ?_
    refine x_if_eq (t := 53) 14 dX26_trim_39 rfl rfl (b_ite h (fun hc h => ?_) (fun hc h => ?_))
    · refine x_iconst 0 (z := 0) dX26_trim_53 rfl (by decide) rfl ?_
      refine x_put 17 2 (c := 24) dX26_trim_54 ha0 rfl in_X26 tyX26_ok nmX26 q4089 rfl rfl rfl (Or.inl rfl) (Or.inr (Or.inl ⟨rfl, rfl, by decide⟩)) rfl ?_
      exact y_vret dX26_trim_57 rfl h
    · refine x_aload_n 0 dX26_trim_42 rfl rfl rfl rfl rfl ?_
      refine y_get 13 1 (c := 24) (z := w a0 1) dX26_trim_43 ha0 rfl in_X26 q4087 rfl rfl rfl rfl rfl ?_
      refine x_if_le (t := 53) 7 dX26_trim_46 rfl rfl (b_ite h (fun hc h => ?_) (fun hc h => ?_))
      · refine x_iconst 0 (z := 0) dX26_trim_53 rfl (by decide) rfl ?_
        refine x_put 17 2 (c := 24) dX26_trim_54 ha0 rfl in_X26 tyX26_ok nmX26 q4089 rfl rfl rfl (Or.inl rfl) (Or.inr (Or.inl ⟨rfl, rfl, by decide⟩)) rfl ?_
        exact y_vret dX26_trim_57 rfl h
      · refine x_iconst 1 (z := 1) dX26_trim_49 rfl (by decide) rfl ?_
        refine x_goto 4 (q := 54) dX26_trim_50 rfl ?_
        refine x_put 17 2 (c := 24) dX26_trim_54 ha0 rfl in_X26 tyX26_ok nmX26 q4089 rfl rfl rfl (Or.inl rfl) (Or.inr (Or.inl ⟨rfl, rfl, by decide⟩)) rfl ?_
        exact y_vret dX26_trim_57 rfl h
  · refine x_aload_n 0 dX26_trim_7 rfl rfl rfl rfl rfl ?_
    refine y_getO 7 0 (c := 24) dX26_trim_8 ha0 rfl in_X26 q4085 rfl rfl rfl (fun h5 hf => of_X26_0 (Nat.le_trans (Nat.le_of_ble_eq_true rfl) hn) h5 ha0 hf) rfl (fun e1 => ?_)
    refine x_aload_n 0 dX26_trim_11 rfl rfl rfl rfl rfl ?_
    refine y_get 13 1 (c := 24) (z := w a0 1) dX26_trim_12 ha0 rfl in_X26 q4087 rfl rfl rfl rfl rfl ?_
    refine x_iconst 1 (z := 1) dX26_trim_15 rfl (by decide) rfl ?_
    refine x_isub dX26_trim_16 rfl ?_
    obtain ⟨e2, h⟩ := h
    refine y_iald (z := w (a0 + 1) (b_i ((w a0 1) - 1))) dX26_trim_17 ⟨180, e1, e2⟩ rfl rfl ?_
    refine x_if_ne (t := 34) 16 dX26_trim_18 rfl rfl (b_ite h (fun hc h => ?_) (fun hc h => ?_))
    · refine x_aload_n 0 dX26_trim_34 rfl rfl rfl rfl rfl ?_
      refine x_aload_n 0 dX26_trim_35 rfl rfl rfl rfl rfl ?_
      refine y_get 17 2 (c := 24) (z := w a0 2) dX26_trim_36 ha0 rfl in_X26 q4089 rfl rfl rfl rfl rfl ?_
      refine x_if_eq (t := 53) 14 dX26_trim_39 rfl rfl (b_ite h (fun hc h => ?_) (fun hc h => ?_))
      · refine x_iconst 0 (z := 0) dX26_trim_53 rfl (by decide) rfl ?_
        refine x_put 17 2 (c := 24) dX26_trim_54 ha0 rfl in_X26 tyX26_ok nmX26 q4089 rfl rfl rfl (Or.inl rfl) (Or.inr (Or.inl ⟨rfl, rfl, by decide⟩)) rfl ?_
        exact y_vret dX26_trim_57 rfl h
      · refine x_aload_n 0 dX26_trim_42 rfl rfl rfl rfl rfl ?_
        refine y_get 13 1 (c := 24) (z := w a0 1) dX26_trim_43 ha0 rfl in_X26 q4087 rfl rfl rfl rfl rfl ?_
        refine x_if_le (t := 53) 7 dX26_trim_46 rfl rfl (b_ite h (fun hc h => ?_) (fun hc h => ?_))
        · refine x_iconst 0 (z := 0) dX26_trim_53 rfl (by decide) rfl ?_
          refine x_put 17 2 (c := 24) dX26_trim_54 ha0 rfl in_X26 tyX26_ok nmX26 q4089 rfl rfl rfl (Or.inl rfl) (Or.inr (Or.inl ⟨rfl, rfl, by decide⟩)) rfl ?_
          exact y_vret dX26_trim_57 rfl h
        · refine x_iconst 1 (z := 1) dX26_trim_49 rfl (by decide) rfl ?_
          refine x_goto 4 (q := 54) dX26_trim_50 rfl ?_
          refine x_put 17 2 (c := 24) dX26_trim_54 ha0 rfl in_X26 tyX26_ok nmX26 q4089 rfl rfl rfl (Or.inl rfl) (Or.inr (Or.inl ⟨rfl, rfl, by decide⟩)) rfl ?_
          exact y_vret dX26_trim_57 rfl h
    · refine x_aload_n 0 dX26_trim_21 rfl rfl rfl rfl rfl ?_
      refine x_dup dX26_trim_22 rfl rfl ?_
      refine y_get 13 1 (c := 24) (z := w a0 1) dX26_trim_23 ha0 rfl in_X26 q4087 rfl rfl rfl rfl rfl ?_
      refine x_iconst 1 (z := 1) dX26_trim_26 rfl (by decide) rfl ?_
      refine x_isub dX26_trim_27 rfl ?_
      refine x_put 13 1 (c := 24) dX26_trim_28 ha0 rfl in_X26 tyX26_ok nmX26 q4087 rfl rfl rfl (Or.inl rfl) (Or.inl ⟨rfl, rfl⟩) rfl ?_
      refine x_goto (-31) (q := 0) dX26_trim_31 rfl ?_
      exact x_fg (fgk (fg0)) h
theorem rX26_isLarge {d n : Nat} {w : bW} {Q : Int → bW → Prop} {X : String → bW → Prop} (t : Int) (ht : b_is n t 0 24 3) (h : b_K d mX26_bits [(2, t)] n w (fun r1 w2 => if r1 ≤ 1024 then (Q 0 w2) else (Q 1 w2)) X) : b_K (d + 1) mX26_isLarge [(2, t)] n w Q X := by
  refine k_of (by decide) rfl rfl rfl (ls := [(2, t)]) rfl ?_
  refine x_aload_n 0 dX26_isLarge_0 rfl rfl rfl rfl rfl ?_
  refine y_Vi 26 (M := mX26_bits) (As := []) (st := []) dX26_isLarge_1 ht rfl q3234 q3235 q3236 q393 q3237 rfl hmX26_bits rfl rfl rfl rfl rfl rfl rfl rfl (k_mono h (fun r1 w2 h => ?_))
  refine x_sipush 1024 (z := 1024) dX26_isLarge_4 rfl (by decide) rfl ?_
  refine x_icmp_le (t := 14) 7 dX26_isLarge_7 rfl rfl (b_ite h (fun hc h => ?_) (fun hc h => ?_))
  · refine x_iconst 0 (z := 0) dX26_isLarge_14 rfl (by decide) rfl ?_
    exact y_zret dX26_isLarge_15 rfl (by decide) h
  · refine x_iconst 1 (z := 1) dX26_isLarge_10 rfl (by decide) rfl ?_
    refine x_goto 4 (q := 15) dX26_isLarge_11 rfl ?_
    exact y_zret dX26_isLarge_15 rfl (by decide) h
abbrev LX26_bits_31 (d n : Nat) (Q : Int → bW → Prop) (X : String → bW → Prop) (a1 : Int) (a2 : Int) (w : bW) : Prop := b_Y (d + 1) mX26_bits n Q X 31 [(9, 0), (0, a1), (0, a2)] [] w
theorem rX26_bits {d n : Nat} {w : bW} {Q : Int → bW → Prop} {X : String → bW → Prop} (hn : 254 ≤ n) (t : Int) (ht : b_is n t 0 24 3) (h : if w t 1 ≠ 0 then ((0 ≤ b_i ((w t 1) - 1) ∧ b_i ((w t 1) - 1) < 180) ∧ (LX26_bits_31 d n Q X (b_i (16 * (b_i ((w t 1) - 1)))) (w (t + 1) (b_i ((w t 1) - 1))) w)) else (Q 0 w)) : b_K (d + 1) mX26_bits [(2, t)] n w Q X := by
  refine k_of (by decide) rfl rfl rfl (ls := [(2, t), (9, 0), (9, 0)]) rfl ?_
  refine x_aload_n 0 dX26_bits_0 rfl rfl rfl rfl rfl ?_
  refine y_get 13 1 (c := 24) (z := w t 1) dX26_bits_1 ht rfl in_X26 q4087 rfl rfl rfl rfl rfl ?_
  refine x_if_ne (t := 9) 5 dX26_bits_4 rfl rfl (b_ite h (fun hc h => ?_) (fun hc h => ?_))
  · refine x_bipush 16 (z := 16) dX26_bits_9 rfl (by decide) rfl ?_
    refine x_aload_n 0 dX26_bits_11 rfl rfl rfl rfl rfl ?_
    refine y_get 13 1 (c := 24) (z := w t 1) dX26_bits_12 ht rfl in_X26 q4087 rfl rfl rfl rfl rfl ?_
    refine x_iconst 1 (z := 1) dX26_bits_15 rfl (by decide) rfl ?_
    refine x_isub dX26_bits_16 rfl ?_
    refine x_imul dX26_bits_17 rfl ?_
    refine x_istore_n 1 (ls' := [(2, t), (0, b_i (16 * (b_i ((w t 1) - 1)))), (9, 0)]) dX26_bits_18 rfl rfl rfl rfl ?_
    refine x_aload_n 0 dX26_bits_19 rfl rfl rfl rfl rfl ?_
    refine y_getO 7 0 (c := 24) dX26_bits_20 ht rfl in_X26 q4085 rfl rfl rfl (fun h5 hf => of_X26_0 (Nat.le_trans (Nat.le_of_ble_eq_true rfl) hn) h5 ht hf) rfl (fun e1 => ?_)
    refine x_aload_n 0 dX26_bits_23 rfl rfl rfl rfl rfl ?_
    refine y_get 13 1 (c := 24) (z := w t 1) dX26_bits_24 ht rfl in_X26 q4087 rfl rfl rfl rfl rfl ?_
    refine x_iconst 1 (z := 1) dX26_bits_27 rfl (by decide) rfl ?_
    refine x_isub dX26_bits_28 rfl ?_
    obtain ⟨e2, h⟩ := h
    refine y_iald (z := w (t + 1) (b_i ((w t 1) - 1))) dX26_bits_29 ⟨180, e1, e2⟩ rfl rfl ?_
    refine x_istore_n 2 (ls' := [(2, t), (0, b_i (16 * (b_i ((w t 1) - 1)))), (0, w (t + 1) (b_i ((w t 1) - 1)))]) dX26_bits_30 rfl rfl rfl rfl ?_
    exact x_fg (fgd (fgk (fgk (fg0)))) h
  · refine x_iconst 0 (z := 0) dX26_bits_7 rfl (by decide) rfl ?_
    exact y_iret dX26_bits_8 rfl h
theorem sX26_bits_31 {d n : Nat} {w : bW} {Q : Int → bW → Prop} {X : String → bW → Prop} (hn : 254 ≤ n) (a1 : Int) (a2 : Int) (h : if a2 ≤ 0 then (Q a1 w) else (LX26_bits_31 d n Q X (b_i (a1 + 1)) (b_div a2 2) w)) : LX26_bits_31 d n Q X a1 a2 w := by
  refine x_iload_n 2 dX26_bits_31 rfl rfl rfl ?_
  refine x_if_le (t := 45) 13 dX26_bits_32 rfl rfl (b_ite h (fun hc h => ?_) (fun hc h => ?_))
  · refine x_iload_n 1 dX26_bits_45 rfl rfl rfl ?_
    exact y_iret dX26_bits_46 rfl h
  · refine x_iinc 1 1 (ls' := [(9, 0), (0, b_i (a1 + 1)), (0, a2)]) dX26_bits_35 rfl rfl rfl rfl ?_
    refine x_iload_n 2 dX26_bits_38 rfl rfl rfl ?_
    refine x_iconst 2 (z := 2) dX26_bits_39 rfl (by decide) rfl ?_
    refine x_idiv dX26_bits_40 (by decide) rfl ?_
    refine x_istore_n 2 (ls' := [(9, 0), (0, b_i (a1 + 1)), (0, b_div a2 2)]) dX26_bits_41 rfl rfl rfl rfl ?_
    refine x_goto (-11) (q := 31) dX26_bits_42 rfl ?_
    exact x_fg (fgk (fgk (fgk (fg0)))) h
abbrev LX26_value_9 (d n : Nat) (Q : Int → bW → Prop) (X : String → bW → Prop) (a0 : Int) (a1 : Int) (a3 : Int) (w : bW) : Prop := b_Y (d + 1) mX26_value n Q X 9 [(2, a0), (1, a1), (9, 0), (0, a3)] [] w
theorem rX26_value {d n : Nat} {w : bW} {Q : Int → bW → Prop} {X : String → bW → Prop} (hn : 254 ≤ n) (t : Int) (ht : b_is n t 0 24 3) (h : LX26_value_9 d n Q X t 0 (b_i ((w t 1) - 1)) w) : b_K (d + 1) mX26_value [(2, t)] n w Q X := by
  refine k_of (by decide) rfl rfl rfl (ls := [(2, t), (9, 0), (9, 0), (9, 0)]) rfl ?_
  refine x_lconst 0 (z := 0) dX26_value_0 rfl (by decide) rfl ?_
  refine x_lstore_n 1 (ls' := [(2, t), (1, 0), (9, 0), (9, 0)]) dX26_value_1 rfl rfl rfl rfl ?_
  refine x_aload_n 0 dX26_value_2 rfl rfl rfl rfl rfl ?_
  refine y_get 13 1 (c := 24) (z := w t 1) dX26_value_3 ht rfl in_X26 q4087 rfl rfl rfl rfl rfl ?_
  refine x_iconst 1 (z := 1) dX26_value_6 rfl (by decide) rfl ?_
  refine x_isub dX26_value_7 rfl ?_
  refine x_istore_n 3 (ls' := [(2, t), (1, 0), (9, 0), (0, b_i ((w t 1) - 1))]) dX26_value_8 rfl rfl rfl rfl ?_
  exact x_fg (fgk (fgk (fgk (fgk (fg0))))) h
theorem sX26_value_9 {d n : Nat} {w : bW} {Q : Int → bW → Prop} {X : String → bW → Prop} (hn : 254 ≤ n) (a0 : Int) (a1 : Int) (a3 : Int) (ha0 : b_is n a0 0 24 3) (h : if a3 < 0 then (if w a0 2 = 0 then (Q a1 w) else (Q (b_l (-a1)) w)) else ((0 ≤ a3 ∧ a3 < 180) ∧ (LX26_value_9 d n Q X a0 (b_l ((b_l (a1 * 65536)) + (w (a0 + 1) a3))) (b_i (a3 + (-1))) w))) : LX26_value_9 d n Q X a0 a1 a3 w := by
  refine x_iload_n 3 dX26_value_9 rfl rfl rfl ?_
  refine x_if_lt (t := 33) 23 dX26_value_10 rfl rfl (b_ite h (fun hc h => ?_) (fun hc h => ?_))
  · refine x_aload_n 0 dX26_value_33 rfl rfl rfl rfl rfl ?_
    refine y_get 17 2 (c := 24) (z := w a0 2) dX26_value_34 ha0 rfl in_X26 q4089 rfl rfl rfl rfl rfl ?_
    refine x_if_eq (t := 45) 8 dX26_value_37 rfl rfl (b_ite h (fun hc h => ?_) (fun hc h => ?_))
    · refine x_lload_n 1 dX26_value_45 rfl rfl rfl ?_
      exact y_lret dX26_value_46 rfl h
    · refine x_lload_n 1 dX26_value_40 rfl rfl rfl ?_
      refine x_lneg dX26_value_41 rfl ?_
      refine x_goto 4 (q := 46) dX26_value_42 rfl ?_
      exact y_lret dX26_value_46 rfl h
  · refine x_lload_n 1 dX26_value_13 rfl rfl rfl ?_
    refine x_ldc2 24 (x := 65536) dX26_value_14 q3400 rfl (by decide) rfl ?_
    refine x_lmul dX26_value_17 rfl ?_
    refine x_aload_n 0 dX26_value_18 rfl rfl rfl rfl rfl ?_
    refine y_getO 7 0 (c := 24) dX26_value_19 ha0 rfl in_X26 q4085 rfl rfl rfl (fun h5 hf => of_X26_0 (Nat.le_trans (Nat.le_of_ble_eq_true rfl) hn) h5 ha0 hf) rfl (fun e1 => ?_)
    refine x_iload_n 3 dX26_value_22 rfl rfl rfl ?_
    obtain ⟨e2, h⟩ := h
    refine y_iald (z := w (a0 + 1) a3) dX26_value_23 ⟨180, e1, e2⟩ rfl rfl ?_
    refine x_i2l dX26_value_24 rfl ?_
    refine x_ladd dX26_value_25 rfl ?_
    refine x_lstore_n 1 (ls' := [(2, a0), (1, b_l ((b_l (a1 * 65536)) + (w (a0 + 1) a3))), (9, 0), (0, a3)]) dX26_value_26 rfl rfl rfl rfl ?_
    refine x_iinc 3 (-1) (ls' := [(2, a0), (1, b_l ((b_l (a1 * 65536)) + (w (a0 + 1) a3))), (9, 0), (0, b_i (a3 + (-1)))]) dX26_value_27 rfl rfl rfl rfl ?_
    refine x_goto (-21) (q := 9) dX26_value_30 rfl ?_
    exact x_fg (fgk (fgk (fgk (fgk (fg0))))) h
theorem rX26_isMutez {d n : Nat} {w : bW} {Q : Int → bW → Prop} {X : String → bW → Prop} (t : Int) (ht : b_is n t 0 24 3) (h : if w t 2 ≠ 0 then (Q 0 w) else (b_K d mX26_bits [(2, t)] n w (fun r1 w2 => if 63 < r1 then (Q 0 w2) else (Q 1 w2)) X)) : b_K (d + 1) mX26_isMutez [(2, t)] n w Q X := by
  refine k_of (by decide) rfl rfl rfl (ls := [(2, t)]) rfl ?_
  refine x_aload_n 0 dX26_isMutez_0 rfl rfl rfl rfl rfl ?_
  refine y_get 17 2 (c := 24) (z := w t 2) dX26_isMutez_1 ht rfl in_X26 q4089 rfl rfl rfl rfl rfl ?_
  refine x_if_ne (t := 20) 16 dX26_isMutez_4 rfl rfl (b_ite h (fun hc h => ?_) (fun hc h => ?_))
  · refine x_iconst 0 (z := 0) dX26_isMutez_20 rfl (by decide) rfl ?_
    exact y_zret dX26_isMutez_21 rfl (by decide) h
  · refine x_aload_n 0 dX26_isMutez_7 rfl rfl rfl rfl rfl ?_
    refine y_Vi 26 (M := mX26_bits) (As := []) (st := []) dX26_isMutez_8 ht rfl q3234 q3235 q3236 q393 q3237 rfl hmX26_bits rfl rfl rfl rfl rfl rfl rfl rfl (k_mono h (fun r1 w2 h => ?_))
    refine x_bipush 63 (z := 63) dX26_isMutez_11 rfl (by decide) rfl ?_
    refine x_icmp_gt (t := 20) 7 dX26_isMutez_13 rfl rfl (b_ite h (fun hc h => ?_) (fun hc h => ?_))
    · refine x_iconst 0 (z := 0) dX26_isMutez_20 rfl (by decide) rfl ?_
      exact y_zret dX26_isMutez_21 rfl (by decide) h
    · refine x_iconst 1 (z := 1) dX26_isMutez_16 rfl (by decide) rfl ?_
      refine x_goto 4 (q := 21) dX26_isMutez_17 rfl ?_
      exact y_zret dX26_isMutez_21 rfl (by decide) h
theorem rX26_length {d n : Nat} {w : bW} {Q : Int → bW → Prop} {X : String → bW → Prop} (t : Int) (ht : b_is n t 0 24 3) (h : b_K d mX26_bits [(2, t)] n w (fun r1 w2 => if 6 < r1 then (Q (b_i (2 + (b_div (b_i ((b_i (r1 - 6)) + 6)) 7))) w2) else (Q 2 w2)) X) : b_K (d + 1) mX26_length [(2, t)] n w Q X := by
  refine k_of (by decide) rfl rfl rfl (ls := [(2, t), (9, 0)]) rfl ?_
  refine x_aload_n 0 dX26_length_0 rfl rfl rfl rfl rfl ?_
  refine y_Vi 26 (M := mX26_bits) (As := []) (st := []) dX26_length_1 ht rfl q3234 q3235 q3236 q393 q3237 rfl hmX26_bits rfl rfl rfl rfl rfl rfl rfl rfl (k_mono h (fun r1 w2 h => ?_))
  refine x_istore_n 1 (ls' := [(2, t), (0, r1)]) dX26_length_4 rfl rfl rfl rfl ?_
  refine x_iload_n 1 dX26_length_5 rfl rfl rfl ?_
  refine x_bipush 6 (z := 6) dX26_length_6 rfl (by decide) rfl ?_
  refine x_icmp_gt (t := 15) 7 dX26_length_8 rfl rfl (b_ite h (fun hc h => ?_) (fun hc h => ?_))
  · refine x_iconst 2 (z := 2) dX26_length_15 rfl (by decide) rfl ?_
    refine x_iload_n 1 dX26_length_16 rfl rfl rfl ?_
    refine x_bipush 6 (z := 6) dX26_length_17 rfl (by decide) rfl ?_
    refine x_isub dX26_length_19 rfl ?_
    refine x_bipush 6 (z := 6) dX26_length_20 rfl (by decide) rfl ?_
    refine x_iadd dX26_length_22 rfl ?_
    refine x_bipush 7 (z := 7) dX26_length_23 rfl (by decide) rfl ?_
    refine x_idiv dX26_length_25 (by decide) rfl ?_
    refine x_iadd dX26_length_26 rfl ?_
    exact y_iret dX26_length_27 rfl h
  · refine x_iconst 2 (z := 2) dX26_length_11 rfl (by decide) rfl ?_
    refine x_goto 15 (q := 27) dX26_length_12 rfl ?_
    exact y_iret dX26_length_27 rfl h
theorem rX26_compare {d n : Nat} {w : bW} {Q : Int → bW → Prop} {X : String → bW → Prop} (t : Int) (a1 : Int) (ht : b_is n t 0 24 3) (ha1 : b_is n a1 0 24 3) (h : if w t 2 = w a1 2 then (b_K d mX26_compareSize [(2, t), (2, a1)] n w (fun r1 w2 => if w2 t 2 = 0 then (Q r1 w2) else (Q (b_i (-r1)) w2)) X) else (if w t 2 = 0 then (Q 1 w) else (Q (-1) w))) : b_K (d + 1) mX26_compare [(2, t), (2, a1)] n w Q X := by
  refine k_of (by decide) rfl rfl rfl (ls := [(2, t), (2, a1), (9, 0)]) rfl ?_
  refine x_aload_n 0 dX26_compare_0 rfl rfl rfl rfl rfl ?_
  refine y_get 17 2 (c := 24) (z := w t 2) dX26_compare_1 ht rfl in_X26 q4089 rfl rfl rfl rfl rfl ?_
  refine x_aload_n 1 dX26_compare_4 rfl rfl rfl rfl rfl ?_
  refine y_get 17 2 (c := 24) (z := w a1 2) dX26_compare_5 ha1 rfl in_X26 q4089 rfl rfl rfl rfl rfl ?_
  refine x_icmp_eq (t := 24) 16 dX26_compare_8 rfl rfl (b_ite h (fun hc h => ?_) (fun hc h => ?_))
  · refine x_aload_n 0 dX26_compare_24 rfl rfl rfl rfl rfl ?_
    refine x_aload_n 1 dX26_compare_25 rfl rfl rfl rfl rfl ?_
    refine y_Vi 30 (M := mX26_compareSize) (As := [(2, a1)]) (st := []) dX26_compare_26 ht rfl q3570 q3571 q3572 q393 q3573 rfl hmX26_compareSize rfl rfl rfl rfl rfl rfl rfl rfl (k_mono h (fun r1 w2 h => ?_))
    refine x_istore_n 2 (ls' := [(2, t), (2, a1), (0, r1)]) dX26_compare_29 rfl rfl rfl rfl ?_
    refine x_aload_n 0 dX26_compare_30 rfl rfl rfl rfl rfl ?_
    refine y_get 17 2 (c := 24) (z := w2 t 2) dX26_compare_31 ht rfl in_X26 q4089 rfl rfl rfl rfl rfl ?_
    refine x_if_eq (t := 42) 8 dX26_compare_34 rfl rfl (b_ite h (fun hc h => ?_) (fun hc h => ?_))
    · refine x_iload_n 2 dX26_compare_42 rfl rfl rfl ?_
      exact y_iret dX26_compare_43 rfl h
    · refine x_iload_n 2 dX26_compare_37 rfl rfl rfl ?_
      refine x_ineg dX26_compare_38 rfl ?_
      refine x_goto 4 (q := 43) dX26_compare_39 rfl ?_
      exact y_iret dX26_compare_43 rfl h
  · refine x_aload_n 0 dX26_compare_11 rfl rfl rfl rfl rfl ?_
    refine y_get 17 2 (c := 24) (z := w t 2) dX26_compare_12 ht rfl in_X26 q4089 rfl rfl rfl rfl rfl ?_
    refine x_if_eq (t := 22) 7 dX26_compare_15 rfl rfl (b_ite h (fun hc h => ?_) (fun hc h => ?_))
    · refine x_iconst 1 (z := 1) dX26_compare_22 rfl (by decide) rfl ?_
      exact y_iret dX26_compare_23 rfl h
    · refine x_iconst (-1) (z := (-1)) dX26_compare_18 rfl (by decide) rfl ?_
      refine x_goto 4 (q := 23) dX26_compare_19 rfl ?_
      exact y_iret dX26_compare_23 rfl h
abbrev LX26_compareSize_35 (d n : Nat) (Q : Int → bW → Prop) (X : String → bW → Prop) (a0 : Int) (a1 : Int) (a2 : Int) (w : bW) : Prop := b_Y (d + 1) mX26_compareSize n Q X 35 [(2, a0), (2, a1), (0, a2)] [] w
theorem rX26_compareSize {d n : Nat} {w : bW} {Q : Int → bW → Prop} {X : String → bW → Prop} (hn : 254 ≤ n) (t : Int) (a1 : Int) (ht : b_is n t 0 24 3) (ha1 : b_is n a1 0 24 3) (h : if w t 1 = w a1 1 then (LX26_compareSize_35 d n Q X t a1 (b_i ((w t 1) - 1)) w) else (if w a1 1 ≤ w t 1 then (Q 1 w) else (Q (-1) w))) : b_K (d + 1) mX26_compareSize [(2, t), (2, a1)] n w Q X := by
  refine k_of (by decide) rfl rfl rfl (ls := [(2, t), (2, a1), (9, 0)]) rfl ?_
  refine x_aload_n 0 dX26_compareSize_0 rfl rfl rfl rfl rfl ?_
  refine y_get 13 1 (c := 24) (z := w t 1) dX26_compareSize_1 ht rfl in_X26 q4087 rfl rfl rfl rfl rfl ?_
  refine x_aload_n 1 dX26_compareSize_4 rfl rfl rfl rfl rfl ?_
  refine y_get 13 1 (c := 24) (z := w a1 1) dX26_compareSize_5 ha1 rfl in_X26 q4087 rfl rfl rfl rfl rfl ?_
  refine x_icmp_eq (t := 28) 20 dX26_compareSize_8 rfl rfl (b_ite h (fun hc h => ?_) (fun hc h => ?_))
  · refine x_aload_n 0 dX26_compareSize_28 rfl rfl rfl rfl rfl ?_
    refine y_get 13 1 (c := 24) (z := w t 1) dX26_compareSize_29 ht rfl in_X26 q4087 rfl rfl rfl rfl rfl ?_
    refine x_iconst 1 (z := 1) dX26_compareSize_32 rfl (by decide) rfl ?_
    refine x_isub dX26_compareSize_33 rfl ?_
    refine x_istore_n 2 (ls' := [(2, t), (2, a1), (0, b_i ((w t 1) - 1))]) dX26_compareSize_34 rfl rfl rfl rfl ?_
    exact x_fg (fgk (fgk (fgk (fg0)))) h
  · refine x_aload_n 0 dX26_compareSize_11 rfl rfl rfl rfl rfl ?_
    refine y_get 13 1 (c := 24) (z := w t 1) dX26_compareSize_12 ht rfl in_X26 q4087 rfl rfl rfl rfl rfl ?_
    refine x_aload_n 1 dX26_compareSize_15 rfl rfl rfl rfl rfl ?_
    refine y_get 13 1 (c := 24) (z := w a1 1) dX26_compareSize_16 ha1 rfl in_X26 q4087 rfl rfl rfl rfl rfl ?_
    refine x_icmp_ge (t := 26) 7 dX26_compareSize_19 rfl rfl (b_ite h (fun hc h => ?_) (fun hc h => ?_))
    · refine x_iconst 1 (z := 1) dX26_compareSize_26 rfl (by decide) rfl ?_
      exact y_iret dX26_compareSize_27 rfl h
    · refine x_iconst (-1) (z := (-1)) dX26_compareSize_22 rfl (by decide) rfl ?_
      refine x_goto 4 (q := 27) dX26_compareSize_23 rfl ?_
      exact y_iret dX26_compareSize_27 rfl h
theorem sX26_compareSize_35 {d n : Nat} {w : bW} {Q : Int → bW → Prop} {X : String → bW → Prop} (hn : 254 ≤ n) (a0 : Int) (a1 : Int) (a2 : Int) (ha0 : b_is n a0 0 24 3) (ha1 : b_is n a1 0 24 3) (h : if a2 < 0 then (if 0 ≤ a2 then ((0 ≤ a2 ∧ a2 < 180) ∧ ((0 ≤ a2 ∧ a2 < 180) ∧ (if w (a1 + 1) a2 ≤ w (a0 + 1) a2 then (Q 1 w) else (Q (-1) w)))) else (Q 0 w)) else ((0 ≤ a2 ∧ a2 < 180) ∧ ((0 ≤ a2 ∧ a2 < 180) ∧ (if w (a0 + 1) a2 ≠ w (a1 + 1) a2 then (if 0 ≤ a2 then (if w (a1 + 1) a2 ≤ w (a0 + 1) a2 then (Q 1 w) else (Q (-1) w)) else (Q 0 w)) else (LX26_compareSize_35 d n Q X a0 a1 (b_i (a2 + (-1))) w))))) : LX26_compareSize_35 d n Q X a0 a1 a2 w := by
  refine x_iload_n 2 dX26_compareSize_35 rfl rfl rfl ?_
  refine x_if_lt (t := 60) 24 dX26_compareSize_36 rfl rfl (b_ite h (fun hc h => ?_) (fun hc h => ?_))
  · refine x_iload_n 2 dX26_compareSize_60 rfl rfl rfl ?_
    refine x_if_ge (t := 68) 7 dX26_compareSize_61 rfl rfl (b_ite h (fun hc h => ?_) (fun hc h => ?_))
    · refine x_aload_n 0 dX26_compareSize_68 rfl rfl rfl rfl rfl ?_
      refine y_getO 7 0 (c := 24) dX26_compareSize_69 ha0 rfl in_X26 q4085 rfl rfl rfl (fun h5 hf => of_X26_0 (Nat.le_trans (Nat.le_of_ble_eq_true rfl) hn) h5 ha0 hf) rfl (fun e1 => ?_)
      refine x_iload_n 2 dX26_compareSize_72 rfl rfl rfl ?_
      obtain ⟨e2, h⟩ := h
      refine y_iald (z := w (a0 + 1) a2) dX26_compareSize_73 ⟨180, e1, e2⟩ rfl rfl ?_
      refine x_aload_n 1 dX26_compareSize_74 rfl rfl rfl rfl rfl ?_
      refine y_getO 7 0 (c := 24) dX26_compareSize_75 ha1 rfl in_X26 q4085 rfl rfl rfl (fun h5 hf => of_X26_0 (Nat.le_trans (Nat.le_of_ble_eq_true rfl) hn) h5 ha1 hf) rfl (fun e3 => ?_)
      refine x_iload_n 2 dX26_compareSize_78 rfl rfl rfl ?_
      obtain ⟨e4, h⟩ := h
      refine y_iald (z := w (a1 + 1) a2) dX26_compareSize_79 ⟨180, e3, e4⟩ rfl rfl ?_
      refine x_icmp_ge (t := 87) 7 dX26_compareSize_80 rfl rfl (b_ite h (fun hc h => ?_) (fun hc h => ?_))
      · refine x_iconst 1 (z := 1) dX26_compareSize_87 rfl (by decide) rfl ?_
        exact y_iret dX26_compareSize_88 rfl h
      · refine x_iconst (-1) (z := (-1)) dX26_compareSize_83 rfl (by decide) rfl ?_
        refine x_goto 4 (q := 88) dX26_compareSize_84 rfl ?_
        exact y_iret dX26_compareSize_88 rfl h
    · refine x_iconst 0 (z := 0) dX26_compareSize_64 rfl (by decide) rfl ?_
      refine x_goto 23 (q := 88) dX26_compareSize_65 rfl ?_
      exact y_iret dX26_compareSize_88 rfl h
  · refine x_aload_n 0 dX26_compareSize_39 rfl rfl rfl rfl rfl ?_
    refine y_getO 7 0 (c := 24) dX26_compareSize_40 ha0 rfl in_X26 q4085 rfl rfl rfl (fun h5 hf => of_X26_0 (Nat.le_trans (Nat.le_of_ble_eq_true rfl) hn) h5 ha0 hf) rfl (fun e5 => ?_)
    refine x_iload_n 2 dX26_compareSize_43 rfl rfl rfl ?_
    obtain ⟨e6, h⟩ := h
    refine y_iald (z := w (a0 + 1) a2) dX26_compareSize_44 ⟨180, e5, e6⟩ rfl rfl ?_
    refine x_aload_n 1 dX26_compareSize_45 rfl rfl rfl rfl rfl ?_
    refine y_getO 7 0 (c := 24) dX26_compareSize_46 ha1 rfl in_X26 q4085 rfl rfl rfl (fun h5 hf => of_X26_0 (Nat.le_trans (Nat.le_of_ble_eq_true rfl) hn) h5 ha1 hf) rfl (fun e7 => ?_)
    refine x_iload_n 2 dX26_compareSize_49 rfl rfl rfl ?_
    obtain ⟨e8, h⟩ := h
    refine y_iald (z := w (a1 + 1) a2) dX26_compareSize_50 ⟨180, e7, e8⟩ rfl rfl ?_
    refine x_icmp_ne (t := 60) 9 dX26_compareSize_51 rfl rfl (b_ite h (fun hc h => ?_) (fun hc h => ?_))
    · refine x_iload_n 2 dX26_compareSize_60 rfl rfl rfl ?_
      refine x_if_ge (t := 68) 7 dX26_compareSize_61 rfl rfl (b_ite h (fun hc h => ?_) (fun hc h => ?_))
      · refine x_aload_n 0 dX26_compareSize_68 rfl rfl rfl rfl rfl ?_
        refine y_getO 7 0 (c := 24) dX26_compareSize_69 ha0 rfl in_X26 q4085 rfl rfl rfl (fun h5 hf => of_X26_0 (Nat.le_trans (Nat.le_of_ble_eq_true rfl) hn) h5 ha0 hf) rfl (fun e9 => ?_)
        refine x_iload_n 2 dX26_compareSize_72 rfl rfl rfl ?_
        refine y_iald (z := w (a0 + 1) a2) dX26_compareSize_73 ⟨180, e5, e6⟩ rfl rfl ?_
        refine x_aload_n 1 dX26_compareSize_74 rfl rfl rfl rfl rfl ?_
        refine y_getO 7 0 (c := 24) dX26_compareSize_75 ha1 rfl in_X26 q4085 rfl rfl rfl (fun h5 hf => of_X26_0 (Nat.le_trans (Nat.le_of_ble_eq_true rfl) hn) h5 ha1 hf) rfl (fun e10 => ?_)
        refine x_iload_n 2 dX26_compareSize_78 rfl rfl rfl ?_
        refine y_iald (z := w (a1 + 1) a2) dX26_compareSize_79 ⟨180, e7, e8⟩ rfl rfl ?_
        refine x_icmp_ge (t := 87) 7 dX26_compareSize_80 rfl rfl (b_ite h (fun hc h => ?_) (fun hc h => ?_))
        · refine x_iconst 1 (z := 1) dX26_compareSize_87 rfl (by decide) rfl ?_
          exact y_iret dX26_compareSize_88 rfl h
        · refine x_iconst (-1) (z := (-1)) dX26_compareSize_83 rfl (by decide) rfl ?_
          refine x_goto 4 (q := 88) dX26_compareSize_84 rfl ?_
          exact y_iret dX26_compareSize_88 rfl h
      · refine x_iconst 0 (z := 0) dX26_compareSize_64 rfl (by decide) rfl ?_
        refine x_goto 23 (q := 88) dX26_compareSize_65 rfl ?_
        exact y_iret dX26_compareSize_88 rfl h
    · refine x_iinc 2 (-1) (ls' := [(2, a0), (2, a1), (0, b_i (a2 + (-1)))]) dX26_compareSize_54 rfl rfl rfl rfl ?_
      refine x_goto (-22) (q := 35) dX26_compareSize_57 rfl ?_
      exact x_fg (fgk (fgk (fgk (fg0)))) h
abbrev LX26_small_21 (d n : Nat) (Q : Int → bW → Prop) (X : String → bW → Prop) (a0 : Int) (a3 : Int) (w : bW) : Prop := b_Y (d + 1) mX26_small n Q X 21 [(2, a0), (9, 0), (9, 0), (1, a3), (9, 0), (9, 0), (9, 0)] [] w
theorem rX26_small {d n : Nat} {w : bW} {Q : Int → bW → Prop} {X : String → bW → Prop} (hn : 254 ≤ n) (t : Int) (a1 : Int) (ht : b_is n t 0 24 3) (h : b_K d mX26_zero [(2, t)] n w (fun r1 w2 => if 0 ≤ a1 then (LX26_small_21 d n Q X t a1 (b_up w2 t 2 0)) else (LX26_small_21 d n Q X t a1 (b_up w2 t 2 1))) X) : b_K (d + 1) mX26_small [(2, t), (1, a1)] n w Q X := by
  refine k_of (by decide) rfl rfl rfl (ls := [(2, t), (1, a1), (9, 0), (9, 0), (9, 0), (9, 0), (9, 0)]) rfl ?_
  refine x_aload_n 0 dX26_small_0 rfl rfl rfl rfl rfl ?_
  refine y_Vv 21 (M := mX26_zero) (As := []) (st := []) dX26_small_1 ht rfl q3217 q3218 q3219 q393 q3220 rfl hmX26_zero rfl rfl rfl rfl rfl rfl rfl (k_mono h (fun r1 w2 h => ?_))
  refine x_aload_n 0 dX26_small_4 rfl rfl rfl rfl rfl ?_
  refine x_lload_n 1 dX26_small_5 rfl rfl rfl ?_
  refine x_lconst 0 (z := 0) dX26_small_6 rfl (by decide) rfl ?_
  refine x_lc_ge (q := 11) (t := 15) 7 dX26_small_7 dX26_small_8 rfl rfl (b_ite h (fun hc h => ?_) (fun hc h => ?_))
  · refine x_iconst 0 (z := 0) dX26_small_15 rfl (by decide) rfl ?_
    refine x_put 17 2 (c := 24) dX26_small_16 ht rfl in_X26 tyX26_ok nmX26 q4089 rfl rfl rfl (Or.inl rfl) (Or.inr (Or.inl ⟨rfl, rfl, by decide⟩)) rfl ?_
    refine x_lload_n 1 dX26_small_19 rfl rfl rfl ?_
    refine x_lstore_n 3 (ls' := [(2, t), (1, a1), (9, 0), (1, a1), (9, 0), (9, 0), (9, 0)]) dX26_small_20 rfl rfl rfl rfl ?_
    exact x_fg (fgk (fgd (fgk (fgk (fgk (fgk (fgk (fg0)))))))) h
  · refine x_iconst 1 (z := 1) dX26_small_11 rfl (by decide) rfl ?_
    refine x_goto 4 (q := 16) dX26_small_12 rfl ?_
    refine x_put 17 2 (c := 24) dX26_small_16 ht rfl in_X26 tyX26_ok nmX26 q4089 rfl rfl rfl (Or.inl rfl) (Or.inr (Or.inl ⟨rfl, rfl, by decide⟩)) rfl ?_
    refine x_lload_n 1 dX26_small_19 rfl rfl rfl ?_
    refine x_lstore_n 3 (ls' := [(2, t), (1, a1), (9, 0), (1, a1), (9, 0), (9, 0), (9, 0)]) dX26_small_20 rfl rfl rfl rfl ?_
    exact x_fg (fgk (fgd (fgk (fgk (fgk (fgk (fgk (fg0)))))))) h
theorem sX26_small_21 {d n : Nat} {w : bW} {Q : Int → bW → Prop} {X : String → bW → Prop} (hn : 254 ≤ n) (a0 : Int) (a3 : Int) (ha0 : b_is n a0 0 24 3) (h : if a3 = 0 then (Q 0 w) else (if 0 ≤ b_lrem a3 65536 then ((0 ≤ w a0 1 ∧ w a0 1 < 180) ∧ (LX26_small_21 d n Q X a0 (b_ldiv a3 65536) (b_up (b_up w (a0 + 1) (w a0 1) (b_i (b_lrem a3 65536))) a0 1 (b_i (((b_up w (a0 + 1) (w a0 1) (b_i (b_lrem a3 65536))) a0 1) + 1))))) else ((0 ≤ w a0 1 ∧ w a0 1 < 180) ∧ (LX26_small_21 d n Q X a0 (b_ldiv a3 65536) (b_up (b_up w (a0 + 1) (w a0 1) (b_i (b_l (-(b_lrem a3 65536))))) a0 1 (b_i (((b_up w (a0 + 1) (w a0 1) (b_i (b_l (-(b_lrem a3 65536))))) a0 1) + 1))))))) : LX26_small_21 d n Q X a0 a3 w := by
  refine x_lload_n 3 dX26_small_21 rfl rfl rfl ?_
  refine x_lconst 0 (z := 0) dX26_small_22 rfl (by decide) rfl ?_
  refine x_lc_eq (q := 27) (t := 78) 54 dX26_small_23 dX26_small_24 rfl rfl (b_ite h (fun hc h => ?_) (fun hc h => ?_))
  · exact y_vret dX26_small_78 rfl h
  · refine x_lload_n 3 dX26_small_27 rfl rfl rfl ?_
    refine x_ldc2 24 (x := 65536) dX26_small_28 q3400 rfl (by decide) rfl ?_
    refine x_lrem dX26_small_31 (by decide) rfl ?_
    refine x_lstore 5 (ls' := [(2, a0), (9, 0), (9, 0), (1, a3), (9, 0), (1, b_lrem a3 65536), (9, 0)]) dX26_small_32 rfl rfl rfl ?_
    refine x_aload_n 0 dX26_small_34 rfl rfl rfl rfl rfl ?_
    refine y_getO 7 0 (c := 24) dX26_small_35 ha0 rfl in_X26 q4085 rfl rfl rfl (fun h5 hf => of_X26_0 (Nat.le_trans (Nat.le_of_ble_eq_true rfl) hn) h5 ha0 hf) rfl (fun e1 => ?_)
    refine x_aload_n 0 dX26_small_38 rfl rfl rfl rfl rfl ?_
    refine y_get 13 1 (c := 24) (z := w a0 1) dX26_small_39 ha0 rfl in_X26 q4087 rfl rfl rfl rfl rfl ?_
    refine x_lload 5 dX26_small_42 rfl rfl ?_
    refine x_lconst 0 (z := 0) dX26_small_44 rfl (by decide) rfl ?_
    refine x_lc_ge (q := 49) (t := 55) 9 dX26_small_45 dX26_small_46 rfl rfl (b_ite h (fun hc h => ?_) (fun hc h => ?_))
    · refine x_lload 5 dX26_small_55 rfl rfl ?_
      refine x_l2i dX26_small_57 rfl ?_
      obtain ⟨e2, h⟩ := h
      refine y_iast (x' := b_i (b_lrem a3 65536)) dX26_small_58 ⟨180, e1, e2⟩ rfl rfl ?_
      refine x_aload_n 0 dX26_small_59 rfl rfl rfl rfl rfl ?_
      refine x_dup dX26_small_60 rfl rfl ?_
      refine y_get 13 1 (c := 24) (z := (b_up w (a0 + 1) (w a0 1) (b_i (b_lrem a3 65536))) a0 1) dX26_small_61 ha0 rfl in_X26 q4087 rfl rfl rfl rfl rfl ?_
      refine x_iconst 1 (z := 1) dX26_small_64 rfl (by decide) rfl ?_
      refine x_iadd dX26_small_65 rfl ?_
      refine x_put 13 1 (c := 24) dX26_small_66 ha0 rfl in_X26 tyX26_ok nmX26 q4087 rfl rfl rfl (Or.inl rfl) (Or.inl ⟨rfl, rfl⟩) rfl ?_
      refine x_lload_n 3 dX26_small_69 rfl rfl rfl ?_
      refine x_ldc2 24 (x := 65536) dX26_small_70 q3400 rfl (by decide) rfl ?_
      refine x_ldiv dX26_small_73 (by decide) rfl ?_
      refine x_lstore_n 3 (ls' := [(2, a0), (9, 0), (9, 0), (1, b_ldiv a3 65536), (9, 0), (1, b_lrem a3 65536), (9, 0)]) dX26_small_74 rfl rfl rfl rfl ?_
      refine x_goto (-54) (q := 21) dX26_small_75 rfl ?_
      exact x_fg (fgk (fgk (fgk (fgk (fgk (fgd (fgk (fg0)))))))) h
    · refine x_lload 5 dX26_small_49 rfl rfl ?_
      refine x_lneg dX26_small_51 rfl ?_
      refine x_goto 5 (q := 57) dX26_small_52 rfl ?_
      refine x_l2i dX26_small_57 rfl ?_
      obtain ⟨e3, h⟩ := h
      refine y_iast (x' := b_i (b_l (-(b_lrem a3 65536)))) dX26_small_58 ⟨180, e1, e3⟩ rfl rfl ?_
      refine x_aload_n 0 dX26_small_59 rfl rfl rfl rfl rfl ?_
      refine x_dup dX26_small_60 rfl rfl ?_
      refine y_get 13 1 (c := 24) (z := (b_up w (a0 + 1) (w a0 1) (b_i (b_l (-(b_lrem a3 65536))))) a0 1) dX26_small_61 ha0 rfl in_X26 q4087 rfl rfl rfl rfl rfl ?_
      refine x_iconst 1 (z := 1) dX26_small_64 rfl (by decide) rfl ?_
      refine x_iadd dX26_small_65 rfl ?_
      refine x_put 13 1 (c := 24) dX26_small_66 ha0 rfl in_X26 tyX26_ok nmX26 q4087 rfl rfl rfl (Or.inl rfl) (Or.inl ⟨rfl, rfl⟩) rfl ?_
      refine x_lload_n 3 dX26_small_69 rfl rfl rfl ?_
      refine x_ldc2 24 (x := 65536) dX26_small_70 q3400 rfl (by decide) rfl ?_
      refine x_ldiv dX26_small_73 (by decide) rfl ?_
      refine x_lstore_n 3 (ls' := [(2, a0), (9, 0), (9, 0), (1, b_ldiv a3 65536), (9, 0), (1, b_lrem a3 65536), (9, 0)]) dX26_small_74 rfl rfl rfl rfl ?_
      refine x_goto (-54) (q := 21) dX26_small_75 rfl ?_
      exact x_fg (fgk (fgk (fgk (fgk (fgk (fgd (fgk (fg0)))))))) h
abbrev LX26_copy_18 (d n : Nat) (Q : Int → bW → Prop) (X : String → bW → Prop) (a0 : Int) (a1 : Int) (a2 : Int) (w : bW) : Prop := b_Y (d + 1) mX26_copy n Q X 18 [(2, a0), (2, a1), (0, a2)] [] w
theorem rX26_copy {d n : Nat} {w : bW} {Q : Int → bW → Prop} {X : String → bW → Prop} (hn : 254 ≤ n) (t : Int) (a1 : Int) (ht : b_is n t 0 24 3) (ha1 : b_is n a1 0 24 3) (h : ((b_up w t 1 (w a1 1)) a1 2 = 0 ∨ (b_up w t 1 (w a1 1)) a1 2 = 1) ∧ (LX26_copy_18 d n Q X t a1 0 (b_up (b_up w t 1 (w a1 1)) t 2 ((b_up w t 1 (w a1 1)) a1 2)))) : b_K (d + 1) mX26_copy [(2, t), (2, a1)] n w Q X := by
  refine k_of (by decide) rfl rfl rfl (ls := [(2, t), (2, a1), (9, 0)]) rfl ?_
  refine x_aload_n 0 dX26_copy_0 rfl rfl rfl rfl rfl ?_
  refine x_aload_n 1 dX26_copy_1 rfl rfl rfl rfl rfl ?_
  refine y_get 13 1 (c := 24) (z := w a1 1) dX26_copy_2 ha1 rfl in_X26 q4087 rfl rfl rfl rfl rfl ?_
  refine x_put 13 1 (c := 24) dX26_copy_5 ht rfl in_X26 tyX26_ok nmX26 q4087 rfl rfl rfl (Or.inl rfl) (Or.inl ⟨rfl, rfl⟩) rfl ?_
  refine x_aload_n 0 dX26_copy_8 rfl rfl rfl rfl rfl ?_
  refine x_aload_n 1 dX26_copy_9 rfl rfl rfl rfl rfl ?_
  refine y_get 17 2 (c := 24) (z := (b_up w t 1 (w a1 1)) a1 2) dX26_copy_10 ha1 rfl in_X26 q4089 rfl rfl rfl rfl rfl ?_
  obtain ⟨e1, h⟩ := h
  refine x_put 17 2 (c := 24) dX26_copy_13 ht rfl in_X26 tyX26_ok nmX26 q4089 rfl rfl rfl (Or.inl rfl) (Or.inr (Or.inl ⟨rfl, rfl, e1⟩)) rfl ?_
  refine x_iconst 0 (z := 0) dX26_copy_16 rfl (by decide) rfl ?_
  refine x_istore_n 2 (ls' := [(2, t), (2, a1), (0, 0)]) dX26_copy_17 rfl rfl rfl rfl ?_
  exact x_fg (fgk (fgk (fgk (fg0)))) h
theorem sX26_copy_18 {d n : Nat} {w : bW} {Q : Int → bW → Prop} {X : String → bW → Prop} (hn : 254 ≤ n) (a0 : Int) (a1 : Int) (a2 : Int) (ha0 : b_is n a0 0 24 3) (ha1 : b_is n a1 0 24 3) (h : if w a0 1 ≤ a2 then (Q 0 w) else ((0 ≤ a2 ∧ a2 < 180) ∧ ((0 ≤ a2 ∧ a2 < 180) ∧ (LX26_copy_18 d n Q X a0 a1 (b_i (a2 + 1)) (b_up w (a0 + 1) a2 (w (a1 + 1) a2)))))) : LX26_copy_18 d n Q X a0 a1 a2 w := by
  refine x_iload_n 2 dX26_copy_18 rfl rfl rfl ?_
  refine x_aload_n 0 dX26_copy_19 rfl rfl rfl rfl rfl ?_
  refine y_get 13 1 (c := 24) (z := w a0 1) dX26_copy_20 ha0 rfl in_X26 q4087 rfl rfl rfl rfl rfl ?_
  refine x_icmp_ge (t := 44) 21 dX26_copy_23 rfl rfl (b_ite h (fun hc h => ?_) (fun hc h => ?_))
  · exact y_vret dX26_copy_44 rfl h
  · refine x_aload_n 0 dX26_copy_26 rfl rfl rfl rfl rfl ?_
    refine y_getO 7 0 (c := 24) dX26_copy_27 ha0 rfl in_X26 q4085 rfl rfl rfl (fun h5 hf => of_X26_0 (Nat.le_trans (Nat.le_of_ble_eq_true rfl) hn) h5 ha0 hf) rfl (fun e1 => ?_)
    refine x_iload_n 2 dX26_copy_30 rfl rfl rfl ?_
    refine x_aload_n 1 dX26_copy_31 rfl rfl rfl rfl rfl ?_
    refine y_getO 7 0 (c := 24) dX26_copy_32 ha1 rfl in_X26 q4085 rfl rfl rfl (fun h5 hf => of_X26_0 (Nat.le_trans (Nat.le_of_ble_eq_true rfl) hn) h5 ha1 hf) rfl (fun e2 => ?_)
    refine x_iload_n 2 dX26_copy_35 rfl rfl rfl ?_
    obtain ⟨e3, h⟩ := h
    refine y_iald (z := w (a1 + 1) a2) dX26_copy_36 ⟨180, e2, e3⟩ rfl rfl ?_
    obtain ⟨e4, h⟩ := h
    refine y_iast (x' := w (a1 + 1) a2) dX26_copy_37 ⟨180, e1, e4⟩ rfl rfl ?_
    refine x_iinc 2 1 (ls' := [(2, a0), (2, a1), (0, b_i (a2 + 1))]) dX26_copy_38 rfl rfl rfl rfl ?_
    refine x_goto (-23) (q := 18) dX26_copy_41 rfl ?_
    exact x_fg (fgk (fgk (fgk (fg0)))) h
abbrev LX26_sum_45 (d n : Nat) (Q : Int → bW → Prop) (X : String → bW → Prop) (a0 : Int) (a1 : Int) (a2 : Int) (a4 : Int) (w : bW) : Prop := b_Y (d + 1) mX26_sum n Q X 45 [(2, a0), (2, a1), (2, a2), (9, 0), (0, a4), (9, 0), (9, 0), (9, 0), (9, 0), (9, 0), (9, 0), (9, 0), (9, 0)] [] w
abbrev LX26_sum_188 (d n : Nat) (Q : Int → bW → Prop) (X : String → bW → Prop) (a0 : Int) (a1 : Int) (a2 : Int) (a4 : Int) (a5 : Int) (s0 : Int) (w : bW) : Prop := b_Y (d + 1) mX26_sum n Q X 188 [(2, a0), (2, a1), (2, a2), (9, 0), (0, a4), (0, a5), (9, 0), (9, 0), (9, 0), (9, 0), (9, 0), (9, 0), (9, 0)] [(2, s0)] w
abbrev LX26_sum_93 (d n : Nat) (Q : Int → bW → Prop) (X : String → bW → Prop) (a0 : Int) (a1 : Int) (a2 : Int) (a5 : Int) (a6 : Int) (a7 : Int) (a8 : Int) (w : bW) : Prop := b_Y (d + 1) mX26_sum n Q X 93 [(2, a0), (2, a1), (2, a2), (9, 0), (9, 0), (0, a5), (0, a6), (0, a7), (0, a8), (9, 0), (9, 0), (9, 0), (9, 0)] [] w
abbrev LX26_sum_231 (d n : Nat) (Q : Int → bW → Prop) (X : String → bW → Prop) (a0 : Int) (a6 : Int) (a7 : Int) (a8 : Int) (a9 : Int) (a10 : Int) (a11 : Int) (w : bW) : Prop := b_Y (d + 1) mX26_sum n Q X 231 [(2, a0), (9, 0), (9, 0), (9, 0), (9, 0), (9, 0), (2, a6), (2, a7), (0, a8), (0, a9), (0, a10), (0, a11), (9, 0)] [] w
theorem rX26_sum {d n : Nat} {w : bW} {Q : Int → bW → Prop} {X : String → bW → Prop} (hn : 254 ≤ n) (t : Int) (a1 : Int) (a2 : Int) (a3 : Int) (ht : b_is n t 0 24 3) (ha1 : b_is n a1 0 24 3) (ha2 : b_is n a2 0 24 3) (h : if w a2 1 ≤ 0 then (if w a1 2 = 0 then (LX26_sum_45 d n Q X t a1 a2 0 w) else (if w a1 1 = 0 then (LX26_sum_45 d n Q X t a1 a2 0 w) else (if w a2 1 ≠ 0 then (b_K d mX26_compareSize [(2, a1), (2, a2)] n w (fun r1 w2 => if r1 < 0 then (LX26_sum_188 d n Q X t a1 a2 0 r1 a2 w2) else (LX26_sum_188 d n Q X t a1 a2 0 r1 a1 w2)) X) else (LX26_sum_45 d n Q X t a1 a2 0 w)))) else (if w a2 2 = a3 then (if w a1 2 = 0 then (LX26_sum_45 d n Q X t a1 a2 0 w) else (if w a1 1 = 0 then (LX26_sum_45 d n Q X t a1 a2 0 w) else (if w a2 1 ≠ 0 then (b_K d mX26_compareSize [(2, a1), (2, a2)] n w (fun r3 w4 => if r3 < 0 then (LX26_sum_188 d n Q X t a1 a2 0 r3 a2 w4) else (LX26_sum_188 d n Q X t a1 a2 0 r3 a1 w4)) X) else (LX26_sum_45 d n Q X t a1 a2 0 w)))) else (if w a1 2 = 1 then (LX26_sum_45 d n Q X t a1 a2 1 w) else (if w a1 1 = 0 then (LX26_sum_45 d n Q X t a1 a2 1 w) else (if w a2 1 ≠ 0 then (b_K d mX26_compareSize [(2, a1), (2, a2)] n w (fun r5 w6 => if r5 < 0 then (LX26_sum_188 d n Q X t a1 a2 1 r5 a2 w6) else (LX26_sum_188 d n Q X t a1 a2 1 r5 a1 w6)) X) else (LX26_sum_45 d n Q X t a1 a2 1 w)))))) : b_K (d + 1) mX26_sum [(2, t), (2, a1), (2, a2), (0, a3)] n w Q X := by
  refine k_of (by decide) rfl rfl rfl (ls := [(2, t), (2, a1), (2, a2), (0, a3), (9, 0), (9, 0), (9, 0), (9, 0), (9, 0), (9, 0), (9, 0), (9, 0), (9, 0)]) rfl ?_
  refine x_aload_n 2 dX26_sum_0 rfl rfl rfl rfl rfl ?_
  refine y_get 13 1 (c := 24) (z := w a2 1) dX26_sum_1 ha2 rfl in_X26 q4087 rfl rfl rfl rfl rfl ?_
  refine x_if_le (t := 19) 15 dX26_sum_4 rfl rfl (b_ite h (fun hc h => ?_) (fun hc h => ?_))
  · refine x_iconst 0 (z := 0) dX26_sum_19 rfl (by decide) rfl ?_
    refine x_istore 4 (ls' := [(2, t), (2, a1), (2, a2), (0, a3), (0, 0), (9, 0), (9, 0), (9, 0), (9, 0), (9, 0), (9, 0), (9, 0), (9, 0)]) dX26_sum_20 rfl rfl rfl ?_
    refine x_aload_n 1 dX26_sum_22 rfl rfl rfl rfl rfl ?_
    refine y_get 17 2 (c := 24) (z := w a1 2) dX26_sum_23 ha1 rfl in_X26 q4089 rfl rfl rfl rfl rfl ?_
    refine x_iload 4 dX26_sum_26 rfl rfl ?_
    refine x_icmp_eq (t := 45) 17 dX26_sum_28 rfl rfl (b_ite h (fun hc h => ?_) (fun hc h => ?_))
    · exact x_fg (fgk (fgk (fgk (fgd (fgk (fgk (fgk (fgk (fgk (fgk (fgk (fgk (fgk (fg0)))))))))))))) h
    · refine x_aload_n 1 dX26_sum_31 rfl rfl rfl rfl rfl ?_
      refine y_get 13 1 (c := 24) (z := w a1 1) dX26_sum_32 ha1 rfl in_X26 q4087 rfl rfl rfl rfl rfl ?_
      refine x_if_eq (t := 45) 10 dX26_sum_35 rfl rfl (b_ite h (fun hc h => ?_) (fun hc h => ?_))
      · exact x_fg (fgk (fgk (fgk (fgd (fgk (fgk (fgk (fgk (fgk (fgk (fgk (fgk (fgk (fg0)))))))))))))) h
      · refine x_aload_n 2 dX26_sum_38 rfl rfl rfl rfl rfl ?_
        refine y_get 13 1 (c := 24) (z := w a2 1) dX26_sum_39 ha2 rfl in_X26 q4087 rfl rfl rfl rfl rfl ?_
        refine x_if_ne (t := 171) 129 dX26_sum_42 rfl rfl (b_ite h (fun hc h => ?_) (fun hc h => ?_))
        · refine x_aload_n 1 dX26_sum_171 rfl rfl rfl rfl rfl ?_
          refine x_aload_n 2 dX26_sum_172 rfl rfl rfl rfl rfl ?_
          refine y_Vi 30 (M := mX26_compareSize) (As := [(2, a2)]) (st := []) dX26_sum_173 ha1 rfl q3570 q3571 q3572 q393 q3573 rfl hmX26_compareSize rfl rfl rfl rfl rfl rfl rfl rfl (k_mono h (fun r1 w2 h => ?_))
          refine x_istore 5 (ls' := [(2, t), (2, a1), (2, a2), (0, a3), (0, 0), (0, r1), (9, 0), (9, 0), (9, 0), (9, 0), (9, 0), (9, 0), (9, 0)]) dX26_sum_176 rfl rfl rfl ?_
          refine x_iload 5 dX26_sum_178 rfl rfl ?_
          refine x_if_lt (t := 187) 7 dX26_sum_180 rfl rfl (b_ite h (fun hc h => ?_) (fun hc h => ?_))
          · refine x_aload_n 2 dX26_sum_187 rfl rfl rfl rfl rfl ?_
            exact x_fg (fgk (fgk (fgk (fgd (fgk (fgk (fgk (fgk (fgk (fgk (fgk (fgk (fgk (fg0)))))))))))))) h
          · refine x_aload_n 1 dX26_sum_183 rfl rfl rfl rfl rfl ?_
            refine x_goto 4 (q := 188) dX26_sum_184 rfl ?_
            exact x_fg (fgk (fgk (fgk (fgd (fgk (fgk (fgk (fgk (fgk (fgk (fgk (fgk (fgk (fg0)))))))))))))) h
        · exact x_fg (fgk (fgk (fgk (fgd (fgk (fgk (fgk (fgk (fgk (fgk (fgk (fgk (fgk (fg0)))))))))))))) h
  · refine x_aload_n 2 dX26_sum_7 rfl rfl rfl rfl rfl ?_
    refine y_get 17 2 (c := 24) (z := w a2 2) dX26_sum_8 ha2 rfl in_X26 q4089 rfl rfl rfl rfl rfl ?_
    refine x_iload_n 3 dX26_sum_11 rfl rfl rfl ?_
    refine x_icmp_eq (t := 19) 7 dX26_sum_12 rfl rfl (b_ite h (fun hc h => ?_) (fun hc h => ?_))
    · refine x_iconst 0 (z := 0) dX26_sum_19 rfl (by decide) rfl ?_
      refine x_istore 4 (ls' := [(2, t), (2, a1), (2, a2), (0, a3), (0, 0), (9, 0), (9, 0), (9, 0), (9, 0), (9, 0), (9, 0), (9, 0), (9, 0)]) dX26_sum_20 rfl rfl rfl ?_
      refine x_aload_n 1 dX26_sum_22 rfl rfl rfl rfl rfl ?_
      refine y_get 17 2 (c := 24) (z := w a1 2) dX26_sum_23 ha1 rfl in_X26 q4089 rfl rfl rfl rfl rfl ?_
      refine x_iload 4 dX26_sum_26 rfl rfl ?_
      refine x_icmp_eq (t := 45) 17 dX26_sum_28 rfl rfl (b_ite h (fun hc h => ?_) (fun hc h => ?_))
      · exact x_fg (fgk (fgk (fgk (fgd (fgk (fgk (fgk (fgk (fgk (fgk (fgk (fgk (fgk (fg0)))))))))))))) h
      · refine x_aload_n 1 dX26_sum_31 rfl rfl rfl rfl rfl ?_
        refine y_get 13 1 (c := 24) (z := w a1 1) dX26_sum_32 ha1 rfl in_X26 q4087 rfl rfl rfl rfl rfl ?_
        refine x_if_eq (t := 45) 10 dX26_sum_35 rfl rfl (b_ite h (fun hc h => ?_) (fun hc h => ?_))
        · exact x_fg (fgk (fgk (fgk (fgd (fgk (fgk (fgk (fgk (fgk (fgk (fgk (fgk (fgk (fg0)))))))))))))) h
        · refine x_aload_n 2 dX26_sum_38 rfl rfl rfl rfl rfl ?_
          refine y_get 13 1 (c := 24) (z := w a2 1) dX26_sum_39 ha2 rfl in_X26 q4087 rfl rfl rfl rfl rfl ?_
          refine x_if_ne (t := 171) 129 dX26_sum_42 rfl rfl (b_ite h (fun hc h => ?_) (fun hc h => ?_))
          · refine x_aload_n 1 dX26_sum_171 rfl rfl rfl rfl rfl ?_
            refine x_aload_n 2 dX26_sum_172 rfl rfl rfl rfl rfl ?_
            refine y_Vi 30 (M := mX26_compareSize) (As := [(2, a2)]) (st := []) dX26_sum_173 ha1 rfl q3570 q3571 q3572 q393 q3573 rfl hmX26_compareSize rfl rfl rfl rfl rfl rfl rfl rfl (k_mono h (fun r3 w4 h => ?_))
            refine x_istore 5 (ls' := [(2, t), (2, a1), (2, a2), (0, a3), (0, 0), (0, r3), (9, 0), (9, 0), (9, 0), (9, 0), (9, 0), (9, 0), (9, 0)]) dX26_sum_176 rfl rfl rfl ?_
            refine x_iload 5 dX26_sum_178 rfl rfl ?_
            refine x_if_lt (t := 187) 7 dX26_sum_180 rfl rfl (b_ite h (fun hc h => ?_) (fun hc h => ?_))
            · refine x_aload_n 2 dX26_sum_187 rfl rfl rfl rfl rfl ?_
              exact x_fg (fgk (fgk (fgk (fgd (fgk (fgk (fgk (fgk (fgk (fgk (fgk (fgk (fgk (fg0)))))))))))))) h
            · refine x_aload_n 1 dX26_sum_183 rfl rfl rfl rfl rfl ?_
              refine x_goto 4 (q := 188) dX26_sum_184 rfl ?_
              exact x_fg (fgk (fgk (fgk (fgd (fgk (fgk (fgk (fgk (fgk (fgk (fgk (fgk (fgk (fg0)))))))))))))) h
          · exact x_fg (fgk (fgk (fgk (fgd (fgk (fgk (fgk (fgk (fgk (fgk (fgk (fgk (fgk (fg0)))))))))))))) h
    · refine x_iconst 1 (z := 1) dX26_sum_15 rfl (by decide) rfl ?_
      refine x_goto 4 (q := 20) dX26_sum_16 rfl ?_
      refine x_istore 4 (ls' := [(2, t), (2, a1), (2, a2), (0, a3), (0, 1), (9, 0), (9, 0), (9, 0), (9, 0), (9, 0), (9, 0), (9, 0), (9, 0)]) dX26_sum_20 rfl rfl rfl ?_
      refine x_aload_n 1 dX26_sum_22 rfl rfl rfl rfl rfl ?_
      refine y_get 17 2 (c := 24) (z := w a1 2) dX26_sum_23 ha1 rfl in_X26 q4089 rfl rfl rfl rfl rfl ?_
      refine x_iload 4 dX26_sum_26 rfl rfl ?_
      refine x_icmp_eq (t := 45) 17 dX26_sum_28 rfl rfl (b_ite h (fun hc h => ?_) (fun hc h => ?_))
      · exact x_fg (fgk (fgk (fgk (fgd (fgk (fgk (fgk (fgk (fgk (fgk (fgk (fgk (fgk (fg0)))))))))))))) h
      · refine x_aload_n 1 dX26_sum_31 rfl rfl rfl rfl rfl ?_
        refine y_get 13 1 (c := 24) (z := w a1 1) dX26_sum_32 ha1 rfl in_X26 q4087 rfl rfl rfl rfl rfl ?_
        refine x_if_eq (t := 45) 10 dX26_sum_35 rfl rfl (b_ite h (fun hc h => ?_) (fun hc h => ?_))
        · exact x_fg (fgk (fgk (fgk (fgd (fgk (fgk (fgk (fgk (fgk (fgk (fgk (fgk (fgk (fg0)))))))))))))) h
        · refine x_aload_n 2 dX26_sum_38 rfl rfl rfl rfl rfl ?_
          refine y_get 13 1 (c := 24) (z := w a2 1) dX26_sum_39 ha2 rfl in_X26 q4087 rfl rfl rfl rfl rfl ?_
          refine x_if_ne (t := 171) 129 dX26_sum_42 rfl rfl (b_ite h (fun hc h => ?_) (fun hc h => ?_))
          · refine x_aload_n 1 dX26_sum_171 rfl rfl rfl rfl rfl ?_
            refine x_aload_n 2 dX26_sum_172 rfl rfl rfl rfl rfl ?_
            refine y_Vi 30 (M := mX26_compareSize) (As := [(2, a2)]) (st := []) dX26_sum_173 ha1 rfl q3570 q3571 q3572 q393 q3573 rfl hmX26_compareSize rfl rfl rfl rfl rfl rfl rfl rfl (k_mono h (fun r5 w6 h => ?_))
            refine x_istore 5 (ls' := [(2, t), (2, a1), (2, a2), (0, a3), (0, 1), (0, r5), (9, 0), (9, 0), (9, 0), (9, 0), (9, 0), (9, 0), (9, 0)]) dX26_sum_176 rfl rfl rfl ?_
            refine x_iload 5 dX26_sum_178 rfl rfl ?_
            refine x_if_lt (t := 187) 7 dX26_sum_180 rfl rfl (b_ite h (fun hc h => ?_) (fun hc h => ?_))
            · refine x_aload_n 2 dX26_sum_187 rfl rfl rfl rfl rfl ?_
              exact x_fg (fgk (fgk (fgk (fgd (fgk (fgk (fgk (fgk (fgk (fgk (fgk (fgk (fgk (fg0)))))))))))))) h
            · refine x_aload_n 1 dX26_sum_183 rfl rfl rfl rfl rfl ?_
              refine x_goto 4 (q := 188) dX26_sum_184 rfl ?_
              exact x_fg (fgk (fgk (fgk (fgd (fgk (fgk (fgk (fgk (fgk (fgk (fgk (fgk (fgk (fg0)))))))))))))) h
          · exact x_fg (fgk (fgk (fgk (fgd (fgk (fgk (fgk (fgk (fgk (fgk (fgk (fgk (fgk (fg0)))))))))))))) h
theorem sX26_sum_45 {d n : Nat} {w : bW} {Q : Int → bW → Prop} {X : String → bW → Prop} (hn : 254 ≤ n) (a0 : Int) (a1 : Int) (a2 : Int) (a4 : Int) (ha0 : b_is n a0 0 24 3) (ha1 : b_is n a1 0 24 3) (ha2 : b_is n a2 0 24 3) (h : if w a1 1 ≤ w a2 1 then (if w a1 1 ≠ 0 then (LX26_sum_93 d n Q X a0 a1 a2 0 (w a2 1) (w a1 2) 0 w) else (LX26_sum_93 d n Q X a0 a1 a2 0 (w a2 1) a4 0 w)) else (if w a1 1 ≠ 0 then (LX26_sum_93 d n Q X a0 a1 a2 0 (w a1 1) (w a1 2) 0 w) else (LX26_sum_93 d n Q X a0 a1 a2 0 (w a1 1) a4 0 w))) : LX26_sum_45 d n Q X a0 a1 a2 a4 w := by
  refine x_iconst 0 (z := 0) dX26_sum_45 rfl (by decide) rfl ?_
  refine x_istore 5 (ls' := [(2, a0), (2, a1), (2, a2), (9, 0), (0, a4), (0, 0), (9, 0), (9, 0), (9, 0), (9, 0), (9, 0), (9, 0), (9, 0)]) dX26_sum_46 rfl rfl rfl ?_
  refine x_aload_n 1 dX26_sum_48 rfl rfl rfl rfl rfl ?_
  refine y_get 13 1 (c := 24) (z := w a1 1) dX26_sum_49 ha1 rfl in_X26 q4087 rfl rfl rfl rfl rfl ?_
  refine x_aload_n 2 dX26_sum_52 rfl rfl rfl rfl rfl ?_
  refine y_get 13 1 (c := 24) (z := w a2 1) dX26_sum_53 ha2 rfl in_X26 q4087 rfl rfl rfl rfl rfl ?_
  refine x_icmp_le (t := 66) 10 dX26_sum_56 rfl rfl (b_ite h (fun hc h => ?_) (fun hc h => ?_))
  · refine x_aload_n 2 dX26_sum_66 rfl rfl rfl rfl rfl ?_
    refine y_get 13 1 (c := 24) (z := w a2 1) dX26_sum_67 ha2 rfl in_X26 q4087 rfl rfl rfl rfl rfl ?_
    refine x_istore 6 (ls' := [(2, a0), (2, a1), (2, a2), (9, 0), (0, a4), (0, 0), (0, w a2 1), (9, 0), (9, 0), (9, 0), (9, 0), (9, 0), (9, 0)]) dX26_sum_70 rfl rfl rfl ?_
    refine x_aload_n 1 dX26_sum_72 rfl rfl rfl rfl rfl ?_
    refine y_get 13 1 (c := 24) (z := w a1 1) dX26_sum_73 ha1 rfl in_X26 q4087 rfl rfl rfl rfl rfl ?_
    refine x_if_ne (t := 84) 8 dX26_sum_76 rfl rfl (b_ite h (fun hc h => ?_) (fun hc h => ?_))
    · refine x_aload_n 1 dX26_sum_84 rfl rfl rfl rfl rfl ?_
      refine y_get 17 2 (c := 24) (z := w a1 2) dX26_sum_85 ha1 rfl in_X26 q4089 rfl rfl rfl rfl rfl ?_
      refine x_istore 7 (ls' := [(2, a0), (2, a1), (2, a2), (9, 0), (0, a4), (0, 0), (0, w a2 1), (0, w a1 2), (9, 0), (9, 0), (9, 0), (9, 0), (9, 0)]) dX26_sum_88 rfl rfl rfl ?_
      refine x_iconst 0 (z := 0) dX26_sum_90 rfl (by decide) rfl ?_
      refine x_istore 8 (ls' := [(2, a0), (2, a1), (2, a2), (9, 0), (0, a4), (0, 0), (0, w a2 1), (0, w a1 2), (0, 0), (9, 0), (9, 0), (9, 0), (9, 0)]) dX26_sum_91 rfl rfl rfl ?_
      exact x_fg (fgk (fgk (fgk (fgk (fgd (fgk (fgk (fgk (fgk (fgk (fgk (fgk (fgk (fg0)))))))))))))) h
    · refine x_iload 4 dX26_sum_79 rfl rfl ?_
      refine x_goto 7 (q := 88) dX26_sum_81 rfl ?_
      refine x_istore 7 (ls' := [(2, a0), (2, a1), (2, a2), (9, 0), (0, a4), (0, 0), (0, w a2 1), (0, a4), (9, 0), (9, 0), (9, 0), (9, 0), (9, 0)]) dX26_sum_88 rfl rfl rfl ?_
      refine x_iconst 0 (z := 0) dX26_sum_90 rfl (by decide) rfl ?_
      refine x_istore 8 (ls' := [(2, a0), (2, a1), (2, a2), (9, 0), (0, a4), (0, 0), (0, w a2 1), (0, a4), (0, 0), (9, 0), (9, 0), (9, 0), (9, 0)]) dX26_sum_91 rfl rfl rfl ?_
      exact x_fg (fgk (fgk (fgk (fgk (fgd (fgk (fgk (fgk (fgk (fgk (fgk (fgk (fgk (fg0)))))))))))))) h
  · refine x_aload_n 1 dX26_sum_59 rfl rfl rfl rfl rfl ?_
    refine y_get 13 1 (c := 24) (z := w a1 1) dX26_sum_60 ha1 rfl in_X26 q4087 rfl rfl rfl rfl rfl ?_
    refine x_goto 7 (q := 70) dX26_sum_63 rfl ?_
    refine x_istore 6 (ls' := [(2, a0), (2, a1), (2, a2), (9, 0), (0, a4), (0, 0), (0, w a1 1), (9, 0), (9, 0), (9, 0), (9, 0), (9, 0), (9, 0)]) dX26_sum_70 rfl rfl rfl ?_
    refine x_aload_n 1 dX26_sum_72 rfl rfl rfl rfl rfl ?_
    refine y_get 13 1 (c := 24) (z := w a1 1) dX26_sum_73 ha1 rfl in_X26 q4087 rfl rfl rfl rfl rfl ?_
    refine x_if_ne (t := 84) 8 dX26_sum_76 rfl rfl (b_ite h (fun hc h => ?_) (fun hc h => ?_))
    · refine x_aload_n 1 dX26_sum_84 rfl rfl rfl rfl rfl ?_
      refine y_get 17 2 (c := 24) (z := w a1 2) dX26_sum_85 ha1 rfl in_X26 q4089 rfl rfl rfl rfl rfl ?_
      refine x_istore 7 (ls' := [(2, a0), (2, a1), (2, a2), (9, 0), (0, a4), (0, 0), (0, w a1 1), (0, w a1 2), (9, 0), (9, 0), (9, 0), (9, 0), (9, 0)]) dX26_sum_88 rfl rfl rfl ?_
      refine x_iconst 0 (z := 0) dX26_sum_90 rfl (by decide) rfl ?_
      refine x_istore 8 (ls' := [(2, a0), (2, a1), (2, a2), (9, 0), (0, a4), (0, 0), (0, w a1 1), (0, w a1 2), (0, 0), (9, 0), (9, 0), (9, 0), (9, 0)]) dX26_sum_91 rfl rfl rfl ?_
      exact x_fg (fgk (fgk (fgk (fgk (fgd (fgk (fgk (fgk (fgk (fgk (fgk (fgk (fgk (fg0)))))))))))))) h
    · refine x_iload 4 dX26_sum_79 rfl rfl ?_
      refine x_goto 7 (q := 88) dX26_sum_81 rfl ?_
      refine x_istore 7 (ls' := [(2, a0), (2, a1), (2, a2), (9, 0), (0, a4), (0, 0), (0, w a1 1), (0, a4), (9, 0), (9, 0), (9, 0), (9, 0), (9, 0)]) dX26_sum_88 rfl rfl rfl ?_
      refine x_iconst 0 (z := 0) dX26_sum_90 rfl (by decide) rfl ?_
      refine x_istore 8 (ls' := [(2, a0), (2, a1), (2, a2), (9, 0), (0, a4), (0, 0), (0, w a1 1), (0, a4), (0, 0), (9, 0), (9, 0), (9, 0), (9, 0)]) dX26_sum_91 rfl rfl rfl ?_
      exact x_fg (fgk (fgk (fgk (fgk (fgd (fgk (fgk (fgk (fgk (fgk (fgk (fgk (fgk (fg0)))))))))))))) h
theorem sX26_sum_188 {d n : Nat} {w : bW} {Q : Int → bW → Prop} {X : String → bW → Prop} (hn : 254 ≤ n) (a0 : Int) (a1 : Int) (a2 : Int) (a4 : Int) (a5 : Int) (s0 : Int) (ha0 : b_is n a0 0 24 3) (ha1 : b_is n a1 0 24 3) (ha2 : b_is n a2 0 24 3) (h : if a5 < 0 then (if a5 < 0 then (b_is n s0 0 24 3 ∧ (LX26_sum_231 d n Q X a0 s0 a1 a4 0 (w s0 1) 0 w)) else (b_is n s0 0 24 3 ∧ (LX26_sum_231 d n Q X a0 s0 a1 (w a1 2) 0 (w s0 1) 0 w))) else (if a5 < 0 then (b_is n s0 0 24 3 ∧ (LX26_sum_231 d n Q X a0 s0 a2 a4 0 (w s0 1) 0 w)) else (b_is n s0 0 24 3 ∧ (LX26_sum_231 d n Q X a0 s0 a2 (w a1 2) 0 (w s0 1) 0 w)))) : LX26_sum_188 d n Q X a0 a1 a2 a4 a5 s0 w := by
  refine x_astore 6 (ls' := [(2, a0), (2, a1), (2, a2), (9, 0), (0, a4), (0, a5), (2, s0), (9, 0), (9, 0), (9, 0), (9, 0), (9, 0), (9, 0)]) dX26_sum_188 rfl rfl rfl rfl ?_
  refine x_iload 5 dX26_sum_190 rfl rfl ?_
  refine x_if_lt (t := 199) 7 dX26_sum_192 rfl rfl (b_ite h (fun hc h => ?_) (fun hc h => ?_))
  · refine x_aload_n 1 dX26_sum_199 rfl rfl rfl rfl rfl ?_
    refine x_astore 7 (ls' := [(2, a0), (2, a1), (2, a2), (9, 0), (0, a4), (0, a5), (2, s0), (2, a1), (9, 0), (9, 0), (9, 0), (9, 0), (9, 0)]) dX26_sum_200 rfl rfl rfl rfl ?_
    refine x_iload 5 dX26_sum_202 rfl rfl ?_
    refine x_if_lt (t := 214) 10 dX26_sum_204 rfl rfl (b_ite h (fun hc h => ?_) (fun hc h => ?_))
    · refine x_iload 4 dX26_sum_214 rfl rfl ?_
      refine x_istore 8 (ls' := [(2, a0), (2, a1), (2, a2), (9, 0), (0, a4), (0, a5), (2, s0), (2, a1), (0, a4), (9, 0), (9, 0), (9, 0), (9, 0)]) dX26_sum_216 rfl rfl rfl ?_
      refine x_iconst 0 (z := 0) dX26_sum_218 rfl (by decide) rfl ?_
      refine x_istore 9 (ls' := [(2, a0), (2, a1), (2, a2), (9, 0), (0, a4), (0, a5), (2, s0), (2, a1), (0, a4), (0, 0), (9, 0), (9, 0), (9, 0)]) dX26_sum_219 rfl rfl rfl ?_
      refine x_aload 6 dX26_sum_221 rfl rfl rfl rfl ?_
      obtain ⟨e1, h⟩ := h
      refine y_get 13 1 (c := 24) (z := w s0 1) dX26_sum_223 e1 rfl in_X26 q4087 rfl rfl rfl rfl rfl ?_
      refine x_istore 10 (ls' := [(2, a0), (2, a1), (2, a2), (9, 0), (0, a4), (0, a5), (2, s0), (2, a1), (0, a4), (0, 0), (0, w s0 1), (9, 0), (9, 0)]) dX26_sum_226 rfl rfl rfl ?_
      refine x_iconst 0 (z := 0) dX26_sum_228 rfl (by decide) rfl ?_
      refine x_istore 11 (ls' := [(2, a0), (2, a1), (2, a2), (9, 0), (0, a4), (0, a5), (2, s0), (2, a1), (0, a4), (0, 0), (0, w s0 1), (0, 0), (9, 0)]) dX26_sum_229 rfl rfl rfl ?_
      exact x_fg (fgk (fgd (fgd (fgk (fgd (fgd (fgk (fgk (fgk (fgk (fgk (fgk (fgk (fg0)))))))))))))) h
    · refine x_aload_n 1 dX26_sum_207 rfl rfl rfl rfl rfl ?_
      refine y_get 17 2 (c := 24) (z := w a1 2) dX26_sum_208 ha1 rfl in_X26 q4089 rfl rfl rfl rfl rfl ?_
      refine x_goto 5 (q := 216) dX26_sum_211 rfl ?_
      refine x_istore 8 (ls' := [(2, a0), (2, a1), (2, a2), (9, 0), (0, a4), (0, a5), (2, s0), (2, a1), (0, w a1 2), (9, 0), (9, 0), (9, 0), (9, 0)]) dX26_sum_216 rfl rfl rfl ?_
      refine x_iconst 0 (z := 0) dX26_sum_218 rfl (by decide) rfl ?_
      refine x_istore 9 (ls' := [(2, a0), (2, a1), (2, a2), (9, 0), (0, a4), (0, a5), (2, s0), (2, a1), (0, w a1 2), (0, 0), (9, 0), (9, 0), (9, 0)]) dX26_sum_219 rfl rfl rfl ?_
      refine x_aload 6 dX26_sum_221 rfl rfl rfl rfl ?_
      obtain ⟨e2, h⟩ := h
      refine y_get 13 1 (c := 24) (z := w s0 1) dX26_sum_223 e2 rfl in_X26 q4087 rfl rfl rfl rfl rfl ?_
      refine x_istore 10 (ls' := [(2, a0), (2, a1), (2, a2), (9, 0), (0, a4), (0, a5), (2, s0), (2, a1), (0, w a1 2), (0, 0), (0, w s0 1), (9, 0), (9, 0)]) dX26_sum_226 rfl rfl rfl ?_
      refine x_iconst 0 (z := 0) dX26_sum_228 rfl (by decide) rfl ?_
      refine x_istore 11 (ls' := [(2, a0), (2, a1), (2, a2), (9, 0), (0, a4), (0, a5), (2, s0), (2, a1), (0, w a1 2), (0, 0), (0, w s0 1), (0, 0), (9, 0)]) dX26_sum_229 rfl rfl rfl ?_
      exact x_fg (fgk (fgd (fgd (fgk (fgd (fgd (fgk (fgk (fgk (fgk (fgk (fgk (fgk (fg0)))))))))))))) h
  · refine x_aload_n 2 dX26_sum_195 rfl rfl rfl rfl rfl ?_
    refine x_goto 4 (q := 200) dX26_sum_196 rfl ?_
    refine x_astore 7 (ls' := [(2, a0), (2, a1), (2, a2), (9, 0), (0, a4), (0, a5), (2, s0), (2, a2), (9, 0), (9, 0), (9, 0), (9, 0), (9, 0)]) dX26_sum_200 rfl rfl rfl rfl ?_
    refine x_iload 5 dX26_sum_202 rfl rfl ?_
    refine x_if_lt (t := 214) 10 dX26_sum_204 rfl rfl (b_ite h (fun hc h => ?_) (fun hc h => ?_))
    · refine x_iload 4 dX26_sum_214 rfl rfl ?_
      refine x_istore 8 (ls' := [(2, a0), (2, a1), (2, a2), (9, 0), (0, a4), (0, a5), (2, s0), (2, a2), (0, a4), (9, 0), (9, 0), (9, 0), (9, 0)]) dX26_sum_216 rfl rfl rfl ?_
      refine x_iconst 0 (z := 0) dX26_sum_218 rfl (by decide) rfl ?_
      refine x_istore 9 (ls' := [(2, a0), (2, a1), (2, a2), (9, 0), (0, a4), (0, a5), (2, s0), (2, a2), (0, a4), (0, 0), (9, 0), (9, 0), (9, 0)]) dX26_sum_219 rfl rfl rfl ?_
      refine x_aload 6 dX26_sum_221 rfl rfl rfl rfl ?_
      obtain ⟨e3, h⟩ := h
      refine y_get 13 1 (c := 24) (z := w s0 1) dX26_sum_223 e3 rfl in_X26 q4087 rfl rfl rfl rfl rfl ?_
      refine x_istore 10 (ls' := [(2, a0), (2, a1), (2, a2), (9, 0), (0, a4), (0, a5), (2, s0), (2, a2), (0, a4), (0, 0), (0, w s0 1), (9, 0), (9, 0)]) dX26_sum_226 rfl rfl rfl ?_
      refine x_iconst 0 (z := 0) dX26_sum_228 rfl (by decide) rfl ?_
      refine x_istore 11 (ls' := [(2, a0), (2, a1), (2, a2), (9, 0), (0, a4), (0, a5), (2, s0), (2, a2), (0, a4), (0, 0), (0, w s0 1), (0, 0), (9, 0)]) dX26_sum_229 rfl rfl rfl ?_
      exact x_fg (fgk (fgd (fgd (fgk (fgd (fgd (fgk (fgk (fgk (fgk (fgk (fgk (fgk (fg0)))))))))))))) h
    · refine x_aload_n 1 dX26_sum_207 rfl rfl rfl rfl rfl ?_
      refine y_get 17 2 (c := 24) (z := w a1 2) dX26_sum_208 ha1 rfl in_X26 q4089 rfl rfl rfl rfl rfl ?_
      refine x_goto 5 (q := 216) dX26_sum_211 rfl ?_
      refine x_istore 8 (ls' := [(2, a0), (2, a1), (2, a2), (9, 0), (0, a4), (0, a5), (2, s0), (2, a2), (0, w a1 2), (9, 0), (9, 0), (9, 0), (9, 0)]) dX26_sum_216 rfl rfl rfl ?_
      refine x_iconst 0 (z := 0) dX26_sum_218 rfl (by decide) rfl ?_
      refine x_istore 9 (ls' := [(2, a0), (2, a1), (2, a2), (9, 0), (0, a4), (0, a5), (2, s0), (2, a2), (0, w a1 2), (0, 0), (9, 0), (9, 0), (9, 0)]) dX26_sum_219 rfl rfl rfl ?_
      refine x_aload 6 dX26_sum_221 rfl rfl rfl rfl ?_
      obtain ⟨e4, h⟩ := h
      refine y_get 13 1 (c := 24) (z := w s0 1) dX26_sum_223 e4 rfl in_X26 q4087 rfl rfl rfl rfl rfl ?_
      refine x_istore 10 (ls' := [(2, a0), (2, a1), (2, a2), (9, 0), (0, a4), (0, a5), (2, s0), (2, a2), (0, w a1 2), (0, 0), (0, w s0 1), (9, 0), (9, 0)]) dX26_sum_226 rfl rfl rfl ?_
      refine x_iconst 0 (z := 0) dX26_sum_228 rfl (by decide) rfl ?_
      refine x_istore 11 (ls' := [(2, a0), (2, a1), (2, a2), (9, 0), (0, a4), (0, a5), (2, s0), (2, a2), (0, w a1 2), (0, 0), (0, w s0 1), (0, 0), (9, 0)]) dX26_sum_229 rfl rfl rfl ?_
      exact x_fg (fgk (fgd (fgd (fgk (fgd (fgd (fgk (fgk (fgk (fgk (fgk (fgk (fgk (fg0)))))))))))))) h
theorem sX26_sum_93 {d n : Nat} {w : bW} {Q : Int → bW → Prop} {X : String → bW → Prop} (hn : 254 ≤ n) (a0 : Int) (a1 : Int) (a2 : Int) (a5 : Int) (a6 : Int) (a7 : Int) (a8 : Int) (ha0 : b_is n a0 0 24 3) (ha1 : b_is n a1 0 24 3) (ha2 : b_is n a2 0 24 3) (h : if a6 ≤ a8 then ((0 ≤ a6 ∧ a6 < 180) ∧ ((a7 = 0 ∨ a7 = 1) ∧ (b_K d mX26_trim [(2, a0)] n (b_up (b_up (b_up w (a0 + 1) a6 a5) a0 1 (b_i (a6 + 1))) a0 2 a7) (fun r4 w5 => Q 0 w5) X))) else (b_K d mX26_digit [(2, a1), (0, a8)] n w (fun r6 w7 => b_K d mX26_digit [(2, a2), (0, a8)] n w7 (fun r8 w9 => (0 ≤ a8 ∧ a8 < 180) ∧ (LX26_sum_93 d n Q X a0 a1 a2 (b_div (b_i ((b_i (r6 + r8)) + a5)) 65536) a6 a7 (b_i (a8 + 1)) (b_up w9 (a0 + 1) a8 (b_rem (b_i ((b_i (r6 + r8)) + a5)) 65536)))) X) X)) : LX26_sum_93 d n Q X a0 a1 a2 a5 a6 a7 a8 w := by
  refine x_iload 8 dX26_sum_93 rfl rfl ?_
  refine x_iload 6 dX26_sum_95 rfl rfl ?_
  refine x_icmp_ge (t := 143) 46 dX26_sum_97 rfl rfl (b_ite h (fun hc h => ?_) (fun hc h => ?_))
  · refine x_aload_n 0 dX26_sum_143 rfl rfl rfl rfl rfl ?_
    refine y_getO 7 0 (c := 24) dX26_sum_144 ha0 rfl in_X26 q4085 rfl rfl rfl (fun h5 hf => of_X26_0 (Nat.le_trans (Nat.le_of_ble_eq_true rfl) hn) h5 ha0 hf) rfl (fun e1 => ?_)
    refine x_iload 6 dX26_sum_147 rfl rfl ?_
    refine x_iload 5 dX26_sum_149 rfl rfl ?_
    obtain ⟨e2, h⟩ := h
    refine y_iast (x' := a5) dX26_sum_151 ⟨180, e1, e2⟩ rfl rfl ?_
    refine x_aload_n 0 dX26_sum_152 rfl rfl rfl rfl rfl ?_
    refine x_iload 6 dX26_sum_153 rfl rfl ?_
    refine x_iconst 1 (z := 1) dX26_sum_155 rfl (by decide) rfl ?_
    refine x_iadd dX26_sum_156 rfl ?_
    refine x_put 13 1 (c := 24) dX26_sum_157 ha0 rfl in_X26 tyX26_ok nmX26 q4087 rfl rfl rfl (Or.inl rfl) (Or.inl ⟨rfl, rfl⟩) rfl ?_
    refine x_aload_n 0 dX26_sum_160 rfl rfl rfl rfl rfl ?_
    refine x_iload 7 dX26_sum_161 rfl rfl ?_
    obtain ⟨e3, h⟩ := h
    refine x_put 17 2 (c := 24) dX26_sum_163 ha0 rfl in_X26 tyX26_ok nmX26 q4089 rfl rfl rfl (Or.inl rfl) (Or.inr (Or.inl ⟨rfl, rfl, e3⟩)) rfl ?_
    refine x_aload_n 0 dX26_sum_166 rfl rfl rfl rfl rfl ?_
    refine y_Vv 39 (M := mX26_trim) (As := []) (st := []) dX26_sum_167 ha0 rfl q3226 q3227 q3228 q393 q3229 rfl hmX26_trim rfl rfl rfl rfl rfl rfl rfl (k_mono h (fun r4 w5 h => ?_))
    exact y_vret dX26_sum_170 rfl h
  · refine x_aload_n 1 dX26_sum_100 rfl rfl rfl rfl rfl ?_
    refine x_iload 8 dX26_sum_101 rfl rfl ?_
    refine y_Vi 34 (M := mX26_digit) (As := [(0, a8)]) (st := []) dX26_sum_103 ha1 rfl q3855 q3856 q3857 q393 q3858 rfl hmX26_digit rfl rfl rfl rfl rfl rfl rfl rfl (k_mono h (fun r6 w7 h => ?_))
    refine x_aload_n 2 dX26_sum_106 rfl rfl rfl rfl rfl ?_
    refine x_iload 8 dX26_sum_107 rfl rfl ?_
    refine y_Vi 34 (M := mX26_digit) (As := [(0, a8)]) (st := [(0, r6)]) dX26_sum_109 ha2 rfl q3855 q3856 q3857 q393 q3858 rfl hmX26_digit rfl rfl rfl rfl rfl rfl rfl rfl (k_mono h (fun r8 w9 h => ?_))
    refine x_iadd dX26_sum_112 rfl ?_
    refine x_iload 5 dX26_sum_113 rfl rfl ?_
    refine x_iadd dX26_sum_115 rfl ?_
    refine x_istore 9 (ls' := [(2, a0), (2, a1), (2, a2), (9, 0), (9, 0), (0, a5), (0, a6), (0, a7), (0, a8), (0, b_i ((b_i (r6 + r8)) + a5)), (9, 0), (9, 0), (9, 0)]) dX26_sum_116 rfl rfl rfl ?_
    refine x_aload_n 0 dX26_sum_118 rfl rfl rfl rfl rfl ?_
    refine y_getO 7 0 (c := 24) dX26_sum_119 ha0 rfl in_X26 q4085 rfl rfl rfl (fun h5 hf => of_X26_0 (Nat.le_trans (Nat.le_of_ble_eq_true rfl) hn) h5 ha0 hf) rfl (fun e10 => ?_)
    refine x_iload 8 dX26_sum_122 rfl rfl ?_
    refine x_iload 9 dX26_sum_124 rfl rfl ?_
    refine x_ldc 38 (x := 65536) dX26_sum_126 q3225 rfl (by decide) rfl ?_
    refine x_irem dX26_sum_128 (by decide) rfl ?_
    obtain ⟨e11, h⟩ := h
    refine y_iast (x' := b_rem (b_i ((b_i (r6 + r8)) + a5)) 65536) dX26_sum_129 ⟨180, e10, e11⟩ rfl rfl ?_
    refine x_iload 9 dX26_sum_130 rfl rfl ?_
    refine x_ldc 38 (x := 65536) dX26_sum_132 q3225 rfl (by decide) rfl ?_
    refine x_idiv dX26_sum_134 (by decide) rfl ?_
    refine x_istore 5 (ls' := [(2, a0), (2, a1), (2, a2), (9, 0), (9, 0), (0, b_div (b_i ((b_i (r6 + r8)) + a5)) 65536), (0, a6), (0, a7), (0, a8), (0, b_i ((b_i (r6 + r8)) + a5)), (9, 0), (9, 0), (9, 0)]) dX26_sum_135 rfl rfl rfl ?_
    refine x_iinc 8 1 (ls' := [(2, a0), (2, a1), (2, a2), (9, 0), (9, 0), (0, b_div (b_i ((b_i (r6 + r8)) + a5)) 65536), (0, a6), (0, a7), (0, b_i (a8 + 1)), (0, b_i ((b_i (r6 + r8)) + a5)), (9, 0), (9, 0), (9, 0)]) dX26_sum_137 rfl rfl rfl rfl ?_
    refine x_goto (-47) (q := 93) dX26_sum_140 rfl ?_
    exact x_fg (fgk (fgk (fgk (fgk (fgk (fgk (fgk (fgk (fgk (fgd (fgk (fgk (fgk (fg0)))))))))))))) h
theorem sX26_sum_231 {d n : Nat} {w : bW} {Q : Int → bW → Prop} {X : String → bW → Prop} (hn : 254 ≤ n) (a0 : Int) (a6 : Int) (a7 : Int) (a8 : Int) (a9 : Int) (a10 : Int) (a11 : Int) (ha0 : b_is n a0 0 24 3) (h : if a10 ≤ a11 then ((a8 = 0 ∨ a8 = 1) ∧ (b_K d mX26_trim [(2, a0)] n (b_up (b_up w a0 1 a10) a0 2 a8) (fun r2 w3 => Q 0 w3) X)) else (b_is n a6 0 24 3 ∧ (b_K d mX26_digit [(2, a6), (0, a11)] n w (fun r4 w5 => b_is n a7 0 24 3 ∧ (b_K d mX26_digit [(2, a7), (0, a11)] n w5 (fun r7 w8 => if 0 ≤ b_i ((b_i (r4 - r7)) - a9) then ((0 ≤ a11 ∧ a11 < 180) ∧ (LX26_sum_231 d n Q X a0 a6 a7 a8 0 a10 (b_i (a11 + 1)) (b_up w8 (a0 + 1) a11 (b_i ((b_i ((b_i (r4 - r7)) - a9)) + (b_i (65536 * 0))))))) else ((0 ≤ a11 ∧ a11 < 180) ∧ (LX26_sum_231 d n Q X a0 a6 a7 a8 1 a10 (b_i (a11 + 1)) (b_up w8 (a0 + 1) a11 (b_i ((b_i ((b_i (r4 - r7)) - a9)) + (b_i (65536 * 1)))))))) X)) X))) : LX26_sum_231 d n Q X a0 a6 a7 a8 a9 a10 a11 w := by
  refine x_iload 11 dX26_sum_231 rfl rfl ?_
  refine x_iload 10 dX26_sum_233 rfl rfl ?_
  refine x_icmp_ge (t := 291) 56 dX26_sum_235 rfl rfl (b_ite h (fun hc h => ?_) (fun hc h => ?_))
  · refine x_aload_n 0 dX26_sum_291 rfl rfl rfl rfl rfl ?_
    refine x_iload 10 dX26_sum_292 rfl rfl ?_
    refine x_put 13 1 (c := 24) dX26_sum_294 ha0 rfl in_X26 tyX26_ok nmX26 q4087 rfl rfl rfl (Or.inl rfl) (Or.inl ⟨rfl, rfl⟩) rfl ?_
    refine x_aload_n 0 dX26_sum_297 rfl rfl rfl rfl rfl ?_
    refine x_iload 8 dX26_sum_298 rfl rfl ?_
    obtain ⟨e1, h⟩ := h
    refine x_put 17 2 (c := 24) dX26_sum_300 ha0 rfl in_X26 tyX26_ok nmX26 q4089 rfl rfl rfl (Or.inl rfl) (Or.inr (Or.inl ⟨rfl, rfl, e1⟩)) rfl ?_
    refine x_aload_n 0 dX26_sum_303 rfl rfl rfl rfl rfl ?_
    refine y_Vv 39 (M := mX26_trim) (As := []) (st := []) dX26_sum_304 ha0 rfl q3226 q3227 q3228 q393 q3229 rfl hmX26_trim rfl rfl rfl rfl rfl rfl rfl (k_mono h (fun r2 w3 h => ?_))
    exact y_vret dX26_sum_307 rfl h
  · refine x_aload 6 dX26_sum_238 rfl rfl rfl rfl ?_
    refine x_iload 11 dX26_sum_240 rfl rfl ?_
    obtain ⟨e6, h⟩ := h
    refine y_Vi 34 (M := mX26_digit) (As := [(0, a11)]) (st := []) dX26_sum_242 e6 rfl q3855 q3856 q3857 q393 q3858 rfl hmX26_digit rfl rfl rfl rfl rfl rfl rfl rfl (k_mono h (fun r4 w5 h => ?_))
    refine x_aload 7 dX26_sum_245 rfl rfl rfl rfl ?_
    refine x_iload 11 dX26_sum_247 rfl rfl ?_
    obtain ⟨e9, h⟩ := h
    refine y_Vi 34 (M := mX26_digit) (As := [(0, a11)]) (st := [(0, r4)]) dX26_sum_249 e9 rfl q3855 q3856 q3857 q393 q3858 rfl hmX26_digit rfl rfl rfl rfl rfl rfl rfl rfl (k_mono h (fun r7 w8 h => ?_))
    refine x_isub dX26_sum_252 rfl ?_
    refine x_iload 9 dX26_sum_253 rfl rfl ?_
    refine x_isub dX26_sum_255 rfl ?_
    refine x_istore 12 (ls' := [(2, a0), (9, 0), (9, 0), (9, 0), (9, 0), (9, 0), (2, a6), (2, a7), (0, a8), (0, a9), (0, a10), (0, a11), (0, b_i ((b_i (r4 - r7)) - a9))]) dX26_sum_256 rfl rfl rfl ?_
    refine x_iload 12 dX26_sum_258 rfl rfl ?_
    refine x_if_ge (t := 267) 7 dX26_sum_260 rfl rfl (b_ite h (fun hc h => ?_) (fun hc h => ?_))
    · refine x_iconst 0 (z := 0) dX26_sum_267 rfl (by decide) rfl ?_
      refine x_istore 9 (ls' := [(2, a0), (9, 0), (9, 0), (9, 0), (9, 0), (9, 0), (2, a6), (2, a7), (0, a8), (0, 0), (0, a10), (0, a11), (0, b_i ((b_i (r4 - r7)) - a9))]) dX26_sum_268 rfl rfl rfl ?_
      refine x_aload_n 0 dX26_sum_270 rfl rfl rfl rfl rfl ?_
      refine y_getO 7 0 (c := 24) dX26_sum_271 ha0 rfl in_X26 q4085 rfl rfl rfl (fun h5 hf => of_X26_0 (Nat.le_trans (Nat.le_of_ble_eq_true rfl) hn) h5 ha0 hf) rfl (fun e10 => ?_)
      refine x_iload 11 dX26_sum_274 rfl rfl ?_
      refine x_iload 12 dX26_sum_276 rfl rfl ?_
      refine x_ldc 38 (x := 65536) dX26_sum_278 q3225 rfl (by decide) rfl ?_
      refine x_iload 9 dX26_sum_280 rfl rfl ?_
      refine x_imul dX26_sum_282 rfl ?_
      refine x_iadd dX26_sum_283 rfl ?_
      obtain ⟨e11, h⟩ := h
      refine y_iast (x' := b_i ((b_i ((b_i (r4 - r7)) - a9)) + (b_i (65536 * 0)))) dX26_sum_284 ⟨180, e10, e11⟩ rfl rfl ?_
      refine x_iinc 11 1 (ls' := [(2, a0), (9, 0), (9, 0), (9, 0), (9, 0), (9, 0), (2, a6), (2, a7), (0, a8), (0, 0), (0, a10), (0, b_i (a11 + 1)), (0, b_i ((b_i (r4 - r7)) - a9))]) dX26_sum_285 rfl rfl rfl rfl ?_
      refine x_goto (-57) (q := 231) dX26_sum_288 rfl ?_
      exact x_fg (fgk (fgk (fgk (fgk (fgk (fgk (fgk (fgk (fgk (fgk (fgk (fgk (fgd (fg0)))))))))))))) h
    · refine x_iconst 1 (z := 1) dX26_sum_263 rfl (by decide) rfl ?_
      refine x_goto 4 (q := 268) dX26_sum_264 rfl ?_
      refine x_istore 9 (ls' := [(2, a0), (9, 0), (9, 0), (9, 0), (9, 0), (9, 0), (2, a6), (2, a7), (0, a8), (0, 1), (0, a10), (0, a11), (0, b_i ((b_i (r4 - r7)) - a9))]) dX26_sum_268 rfl rfl rfl ?_
      refine x_aload_n 0 dX26_sum_270 rfl rfl rfl rfl rfl ?_
      refine y_getO 7 0 (c := 24) dX26_sum_271 ha0 rfl in_X26 q4085 rfl rfl rfl (fun h5 hf => of_X26_0 (Nat.le_trans (Nat.le_of_ble_eq_true rfl) hn) h5 ha0 hf) rfl (fun e12 => ?_)
      refine x_iload 11 dX26_sum_274 rfl rfl ?_
      refine x_iload 12 dX26_sum_276 rfl rfl ?_
      refine x_ldc 38 (x := 65536) dX26_sum_278 q3225 rfl (by decide) rfl ?_
      refine x_iload 9 dX26_sum_280 rfl rfl ?_
      refine x_imul dX26_sum_282 rfl ?_
      refine x_iadd dX26_sum_283 rfl ?_
      obtain ⟨e13, h⟩ := h
      refine y_iast (x' := b_i ((b_i ((b_i (r4 - r7)) - a9)) + (b_i (65536 * 1)))) dX26_sum_284 ⟨180, e12, e13⟩ rfl rfl ?_
      refine x_iinc 11 1 (ls' := [(2, a0), (9, 0), (9, 0), (9, 0), (9, 0), (9, 0), (2, a6), (2, a7), (0, a8), (0, 1), (0, a10), (0, b_i (a11 + 1)), (0, b_i ((b_i (r4 - r7)) - a9))]) dX26_sum_285 rfl rfl rfl rfl ?_
      refine x_goto (-57) (q := 231) dX26_sum_288 rfl ?_
      exact x_fg (fgk (fgk (fgk (fgk (fgk (fgk (fgk (fgk (fgk (fgk (fgk (fgk (fgd (fg0)))))))))))))) h
theorem rX26_digit {d n : Nat} {w : bW} {Q : Int → bW → Prop} {X : String → bW → Prop} (hn : 254 ≤ n) (t : Int) (a1 : Int) (ht : b_is n t 0 24 3) (h : if w t 1 ≤ a1 then (Q 0 w) else ((0 ≤ a1 ∧ a1 < 180) ∧ (Q (w (t + 1) a1) w))) : b_K (d + 1) mX26_digit [(2, t), (0, a1)] n w Q X := by
  refine k_of (by decide) rfl rfl rfl (ls := [(2, t), (0, a1)]) rfl ?_
  refine x_iload_n 1 dX26_digit_0 rfl rfl rfl ?_
  refine x_aload_n 0 dX26_digit_1 rfl rfl rfl rfl rfl ?_
  refine y_get 13 1 (c := 24) (z := w t 1) dX26_digit_2 ht rfl in_X26 q4087 rfl rfl rfl rfl rfl ?_
  refine x_icmp_ge (t := 17) 12 dX26_digit_5 rfl rfl (b_ite h (fun hc h => ?_) (fun hc h => ?_))
  · refine x_iconst 0 (z := 0) dX26_digit_17 rfl (by decide) rfl ?_
    exact y_iret dX26_digit_18 rfl h
  · refine x_aload_n 0 dX26_digit_8 rfl rfl rfl rfl rfl ?_
    refine y_getO 7 0 (c := 24) dX26_digit_9 ht rfl in_X26 q4085 rfl rfl rfl (fun h5 hf => of_X26_0 (Nat.le_trans (Nat.le_of_ble_eq_true rfl) hn) h5 ht hf) rfl (fun e1 => ?_)
    refine x_iload_n 1 dX26_digit_12 rfl rfl rfl ?_
    obtain ⟨e2, h⟩ := h
    refine y_iald (z := w (t + 1) a1) dX26_digit_13 ⟨180, e1, e2⟩ rfl rfl ?_
    refine x_goto 4 (q := 18) dX26_digit_14 rfl ?_
    exact y_iret dX26_digit_18 rfl h
abbrev LX26_product_15 (d n : Nat) (Q : Int → bW → Prop) (X : String → bW → Prop) (a0 : Int) (a1 : Int) (a2 : Int) (a3 : Int) (w : bW) : Prop := b_Y (d + 1) mX26_product n Q X 15 [(2, a0), (2, a1), (2, a2), (0, a3), (9, 0), (9, 0), (9, 0), (9, 0), (9, 0)] [] w
abbrev LX26_product_38 (d n : Nat) (Q : Int → bW → Prop) (X : String → bW → Prop) (a0 : Int) (a1 : Int) (a2 : Int) (a3 : Int) (w : bW) : Prop := b_Y (d + 1) mX26_product n Q X 38 [(2, a0), (2, a1), (2, a2), (0, a3), (9, 0), (9, 0), (9, 0), (9, 0), (9, 0)] [] w
abbrev LX26_product_52 (d n : Nat) (Q : Int → bW → Prop) (X : String → bW → Prop) (a0 : Int) (a1 : Int) (a2 : Int) (a3 : Int) (a4 : Int) (a6 : Int) (w : bW) : Prop := b_Y (d + 1) mX26_product n Q X 52 [(2, a0), (2, a1), (2, a2), (0, a3), (1, a4), (9, 0), (0, a6), (9, 0), (9, 0)] [] w
theorem rX26_product {d n : Nat} {w : bW} {Q : Int → bW → Prop} {X : String → bW → Prop} (hn : 254 ≤ n) (t : Int) (a1 : Int) (a2 : Int) (ht : b_is n t 0 24 3) (ha1 : b_is n a1 0 24 3) (ha2 : b_is n a2 0 24 3) (h : LX26_product_15 d n Q X t a1 a2 0 (b_up w t 1 (b_i ((w a1 1) + (w a2 1))))) : b_K (d + 1) mX26_product [(2, t), (2, a1), (2, a2)] n w Q X := by
  refine k_of (by decide) rfl rfl rfl (ls := [(2, t), (2, a1), (2, a2), (9, 0), (9, 0), (9, 0), (9, 0), (9, 0), (9, 0)]) rfl ?_
  refine x_aload_n 0 dX26_product_0 rfl rfl rfl rfl rfl ?_
  refine x_aload_n 1 dX26_product_1 rfl rfl rfl rfl rfl ?_
  refine y_get 13 1 (c := 24) (z := w a1 1) dX26_product_2 ha1 rfl in_X26 q4087 rfl rfl rfl rfl rfl ?_
  refine x_aload_n 2 dX26_product_5 rfl rfl rfl rfl rfl ?_
  refine y_get 13 1 (c := 24) (z := w a2 1) dX26_product_6 ha2 rfl in_X26 q4087 rfl rfl rfl rfl rfl ?_
  refine x_iadd dX26_product_9 rfl ?_
  refine x_put 13 1 (c := 24) dX26_product_10 ht rfl in_X26 tyX26_ok nmX26 q4087 rfl rfl rfl (Or.inl rfl) (Or.inl ⟨rfl, rfl⟩) rfl ?_
  refine x_iconst 0 (z := 0) dX26_product_13 rfl (by decide) rfl ?_
  refine x_istore_n 3 (ls' := [(2, t), (2, a1), (2, a2), (0, 0), (9, 0), (9, 0), (9, 0), (9, 0), (9, 0)]) dX26_product_14 rfl rfl rfl rfl ?_
  exact x_fg (fgk (fgk (fgk (fgk (fgk (fgk (fgk (fgk (fgk (fg0)))))))))) h
theorem sX26_product_15 {d n : Nat} {w : bW} {Q : Int → bW → Prop} {X : String → bW → Prop} (hn : 254 ≤ n) (a0 : Int) (a1 : Int) (a2 : Int) (a3 : Int) (ha0 : b_is n a0 0 24 3) (ha1 : b_is n a1 0 24 3) (ha2 : b_is n a2 0 24 3) (h : if w a0 1 ≤ a3 then (LX26_product_38 d n Q X a0 a1 a2 0 w) else ((0 ≤ a3 ∧ a3 < 180) ∧ (LX26_product_15 d n Q X a0 a1 a2 (b_i (a3 + 1)) (b_up w (a0 + 1) a3 0)))) : LX26_product_15 d n Q X a0 a1 a2 a3 w := by
  refine x_iload_n 3 dX26_product_15 rfl rfl rfl ?_
  refine x_aload_n 0 dX26_product_16 rfl rfl rfl rfl rfl ?_
  refine y_get 13 1 (c := 24) (z := w a0 1) dX26_product_17 ha0 rfl in_X26 q4087 rfl rfl rfl rfl rfl ?_
  refine x_icmp_ge (t := 36) 16 dX26_product_20 rfl rfl (b_ite h (fun hc h => ?_) (fun hc h => ?_))
  · refine x_iconst 0 (z := 0) dX26_product_36 rfl (by decide) rfl ?_
    refine x_istore_n 3 (ls' := [(2, a0), (2, a1), (2, a2), (0, 0), (9, 0), (9, 0), (9, 0), (9, 0), (9, 0)]) dX26_product_37 rfl rfl rfl rfl ?_
    exact x_fg (fgk (fgk (fgk (fgk (fgk (fgk (fgk (fgk (fgk (fg0)))))))))) h
  · refine x_aload_n 0 dX26_product_23 rfl rfl rfl rfl rfl ?_
    refine y_getO 7 0 (c := 24) dX26_product_24 ha0 rfl in_X26 q4085 rfl rfl rfl (fun h5 hf => of_X26_0 (Nat.le_trans (Nat.le_of_ble_eq_true rfl) hn) h5 ha0 hf) rfl (fun e1 => ?_)
    refine x_iload_n 3 dX26_product_27 rfl rfl rfl ?_
    refine x_iconst 0 (z := 0) dX26_product_28 rfl (by decide) rfl ?_
    obtain ⟨e2, h⟩ := h
    refine y_iast (x' := 0) dX26_product_29 ⟨180, e1, e2⟩ rfl rfl ?_
    refine x_iinc 3 1 (ls' := [(2, a0), (2, a1), (2, a2), (0, b_i (a3 + 1)), (9, 0), (9, 0), (9, 0), (9, 0), (9, 0)]) dX26_product_30 rfl rfl rfl rfl ?_
    refine x_goto (-18) (q := 15) dX26_product_33 rfl ?_
    exact x_fg (fgk (fgk (fgk (fgk (fgk (fgk (fgk (fgk (fgk (fg0)))))))))) h
theorem sX26_product_38 {d n : Nat} {w : bW} {Q : Int → bW → Prop} {X : String → bW → Prop} (hn : 254 ≤ n) (a0 : Int) (a1 : Int) (a2 : Int) (a3 : Int) (ha0 : b_is n a0 0 24 3) (ha1 : b_is n a1 0 24 3) (ha2 : b_is n a2 0 24 3) (h : if w a1 1 ≤ a3 then (if w a1 2 = w a2 2 then (b_K d mX26_trim [(2, a0)] n (b_up w a0 2 0) (fun r1 w2 => Q 0 w2) X) else (b_K d mX26_trim [(2, a0)] n (b_up w a0 2 1) (fun r3 w4 => Q 0 w4) X)) else (LX26_product_52 d n Q X a0 a1 a2 a3 0 0 w)) : LX26_product_38 d n Q X a0 a1 a2 a3 w := by
  refine x_iload_n 3 dX26_product_38 rfl rfl rfl ?_
  refine x_aload_n 1 dX26_product_39 rfl rfl rfl rfl rfl ?_
  refine y_get 13 1 (c := 24) (z := w a1 1) dX26_product_40 ha1 rfl in_X26 q4087 rfl rfl rfl rfl rfl ?_
  refine x_icmp_ge (t := 143) 100 dX26_product_43 rfl rfl (b_ite h (fun hc h => ?_) (fun hc h => ?_))
  · refine x_aload_n 0 dX26_product_143 rfl rfl rfl rfl rfl ?_
    refine x_aload_n 1 dX26_product_144 rfl rfl rfl rfl rfl ?_
    refine y_get 17 2 (c := 24) (z := w a1 2) dX26_product_145 ha1 rfl in_X26 q4089 rfl rfl rfl rfl rfl ?_
    refine x_aload_n 2 dX26_product_148 rfl rfl rfl rfl rfl ?_
    refine y_get 17 2 (c := 24) (z := w a2 2) dX26_product_149 ha2 rfl in_X26 q4089 rfl rfl rfl rfl rfl ?_
    refine x_icmp_eq (t := 159) 7 dX26_product_152 rfl rfl (b_ite h (fun hc h => ?_) (fun hc h => ?_))
    · refine x_iconst 0 (z := 0) dX26_product_159 rfl (by decide) rfl ?_
      refine x_put 17 2 (c := 24) dX26_product_160 ha0 rfl in_X26 tyX26_ok nmX26 q4089 rfl rfl rfl (Or.inl rfl) (Or.inr (Or.inl ⟨rfl, rfl, by decide⟩)) rfl ?_
      refine x_aload_n 0 dX26_product_163 rfl rfl rfl rfl rfl ?_
      refine y_Vv 39 (M := mX26_trim) (As := []) (st := []) dX26_product_164 ha0 rfl q3226 q3227 q3228 q393 q3229 rfl hmX26_trim rfl rfl rfl rfl rfl rfl rfl (k_mono h (fun r1 w2 h => ?_))
      exact y_vret dX26_product_167 rfl h
    · refine x_iconst 1 (z := 1) dX26_product_155 rfl (by decide) rfl ?_
      refine x_goto 4 (q := 160) dX26_product_156 rfl ?_
      refine x_put 17 2 (c := 24) dX26_product_160 ha0 rfl in_X26 tyX26_ok nmX26 q4089 rfl rfl rfl (Or.inl rfl) (Or.inr (Or.inl ⟨rfl, rfl, by decide⟩)) rfl ?_
      refine x_aload_n 0 dX26_product_163 rfl rfl rfl rfl rfl ?_
      refine y_Vv 39 (M := mX26_trim) (As := []) (st := []) dX26_product_164 ha0 rfl q3226 q3227 q3228 q393 q3229 rfl hmX26_trim rfl rfl rfl rfl rfl rfl rfl (k_mono h (fun r3 w4 h => ?_))
      exact y_vret dX26_product_167 rfl h
  · refine x_lconst 0 (z := 0) dX26_product_46 rfl (by decide) rfl ?_
    refine x_lstore 4 (ls' := [(2, a0), (2, a1), (2, a2), (0, a3), (1, 0), (9, 0), (9, 0), (9, 0), (9, 0)]) dX26_product_47 rfl rfl rfl ?_
    refine x_iconst 0 (z := 0) dX26_product_49 rfl (by decide) rfl ?_
    refine x_istore 6 (ls' := [(2, a0), (2, a1), (2, a2), (0, a3), (1, 0), (9, 0), (0, 0), (9, 0), (9, 0)]) dX26_product_50 rfl rfl rfl ?_
    exact x_fg (fgk (fgk (fgk (fgk (fgk (fgk (fgk (fgk (fgk (fg0)))))))))) h
theorem sX26_product_52 {d n : Nat} {w : bW} {Q : Int → bW → Prop} {X : String → bW → Prop} (hn : 254 ≤ n) (a0 : Int) (a1 : Int) (a2 : Int) (a3 : Int) (a4 : Int) (a6 : Int) (ha0 : b_is n a0 0 24 3) (ha1 : b_is n a1 0 24 3) (ha2 : b_is n a2 0 24 3) (h : if w a2 1 ≤ a6 then ((0 ≤ b_i (a3 + (w a2 1)) ∧ b_i (a3 + (w a2 1)) < 180) ∧ (LX26_product_38 d n Q X a0 a1 a2 (b_i (a3 + 1)) (b_up w (a0 + 1) (b_i (a3 + (w a2 1))) (b_i a4)))) else ((0 ≤ a3 ∧ a3 < 180) ∧ ((0 ≤ a6 ∧ a6 < 180) ∧ ((0 ≤ b_i (a3 + a6) ∧ b_i (a3 + a6) < 180) ∧ (LX26_product_52 d n Q X a0 a1 a2 a3 (b_ldiv (b_l ((b_l ((b_l ((w (a1 + 1) a3) * (w (a2 + 1) a6))) + (w (a0 + 1) (b_i (a3 + a6))))) + a4)) 65536) (b_i (a6 + 1)) (b_up w (a0 + 1) (b_i (a3 + a6)) (b_i (b_lrem (b_l ((b_l ((b_l ((w (a1 + 1) a3) * (w (a2 + 1) a6))) + (w (a0 + 1) (b_i (a3 + a6))))) + a4)) 65536)))))))) : LX26_product_52 d n Q X a0 a1 a2 a3 a4 a6 w := by
  refine x_iload 6 dX26_product_52 rfl rfl ?_
  refine x_aload_n 2 dX26_product_54 rfl rfl rfl rfl rfl ?_
  refine y_get 13 1 (c := 24) (z := w a2 1) dX26_product_55 ha2 rfl in_X26 q4087 rfl rfl rfl rfl rfl ?_
  refine x_icmp_ge (t := 123) 65 dX26_product_58 rfl rfl (b_ite h (fun hc h => ?_) (fun hc h => ?_))
  · refine x_aload_n 0 dX26_product_123 rfl rfl rfl rfl rfl ?_
    refine y_getO 7 0 (c := 24) dX26_product_124 ha0 rfl in_X26 q4085 rfl rfl rfl (fun h5 hf => of_X26_0 (Nat.le_trans (Nat.le_of_ble_eq_true rfl) hn) h5 ha0 hf) rfl (fun e1 => ?_)
    refine x_iload_n 3 dX26_product_127 rfl rfl rfl ?_
    refine x_aload_n 2 dX26_product_128 rfl rfl rfl rfl rfl ?_
    refine y_get 13 1 (c := 24) (z := w a2 1) dX26_product_129 ha2 rfl in_X26 q4087 rfl rfl rfl rfl rfl ?_
    refine x_iadd dX26_product_132 rfl ?_
    refine x_lload 4 dX26_product_133 rfl rfl ?_
    refine x_l2i dX26_product_135 rfl ?_
    obtain ⟨e2, h⟩ := h
    refine y_iast (x' := b_i a4) dX26_product_136 ⟨180, e1, e2⟩ rfl rfl ?_
    refine x_iinc 3 1 (ls' := [(2, a0), (2, a1), (2, a2), (0, b_i (a3 + 1)), (1, a4), (9, 0), (0, a6), (9, 0), (9, 0)]) dX26_product_137 rfl rfl rfl rfl ?_
    refine x_goto (-102) (q := 38) dX26_product_140 rfl ?_
    exact x_fg (fgk (fgk (fgk (fgk (fgd (fgk (fgd (fgk (fgk (fg0)))))))))) h
  · refine x_aload_n 1 dX26_product_61 rfl rfl rfl rfl rfl ?_
    refine y_getO 7 0 (c := 24) dX26_product_62 ha1 rfl in_X26 q4085 rfl rfl rfl (fun h5 hf => of_X26_0 (Nat.le_trans (Nat.le_of_ble_eq_true rfl) hn) h5 ha1 hf) rfl (fun e3 => ?_)
    refine x_iload_n 3 dX26_product_65 rfl rfl rfl ?_
    obtain ⟨e4, h⟩ := h
    refine y_iald (z := w (a1 + 1) a3) dX26_product_66 ⟨180, e3, e4⟩ rfl rfl ?_
    refine x_i2l dX26_product_67 rfl ?_
    refine x_aload_n 2 dX26_product_68 rfl rfl rfl rfl rfl ?_
    refine y_getO 7 0 (c := 24) dX26_product_69 ha2 rfl in_X26 q4085 rfl rfl rfl (fun h5 hf => of_X26_0 (Nat.le_trans (Nat.le_of_ble_eq_true rfl) hn) h5 ha2 hf) rfl (fun e5 => ?_)
    refine x_iload 6 dX26_product_72 rfl rfl ?_
    obtain ⟨e6, h⟩ := h
    refine y_iald (z := w (a2 + 1) a6) dX26_product_74 ⟨180, e5, e6⟩ rfl rfl ?_
    refine x_i2l dX26_product_75 rfl ?_
    refine x_lmul dX26_product_76 rfl ?_
    refine x_aload_n 0 dX26_product_77 rfl rfl rfl rfl rfl ?_
    refine y_getO 7 0 (c := 24) dX26_product_78 ha0 rfl in_X26 q4085 rfl rfl rfl (fun h5 hf => of_X26_0 (Nat.le_trans (Nat.le_of_ble_eq_true rfl) hn) h5 ha0 hf) rfl (fun e7 => ?_)
    refine x_iload_n 3 dX26_product_81 rfl rfl rfl ?_
    refine x_iload 6 dX26_product_82 rfl rfl ?_
    refine x_iadd dX26_product_84 rfl ?_
    obtain ⟨e8, h⟩ := h
    refine y_iald (z := w (a0 + 1) (b_i (a3 + a6))) dX26_product_85 ⟨180, e7, e8⟩ rfl rfl ?_
    refine x_i2l dX26_product_86 rfl ?_
    refine x_ladd dX26_product_87 rfl ?_
    refine x_lload 4 dX26_product_88 rfl rfl ?_
    refine x_ladd dX26_product_90 rfl ?_
    refine x_lstore 7 (ls' := [(2, a0), (2, a1), (2, a2), (0, a3), (1, a4), (9, 0), (0, a6), (1, b_l ((b_l ((b_l ((w (a1 + 1) a3) * (w (a2 + 1) a6))) + (w (a0 + 1) (b_i (a3 + a6))))) + a4)), (9, 0)]) dX26_product_91 rfl rfl rfl ?_
    refine x_aload_n 0 dX26_product_93 rfl rfl rfl rfl rfl ?_
    refine y_getO 7 0 (c := 24) dX26_product_94 ha0 rfl in_X26 q4085 rfl rfl rfl (fun h5 hf => of_X26_0 (Nat.le_trans (Nat.le_of_ble_eq_true rfl) hn) h5 ha0 hf) rfl (fun e9 => ?_)
    refine x_iload_n 3 dX26_product_97 rfl rfl rfl ?_
    refine x_iload 6 dX26_product_98 rfl rfl ?_
    refine x_iadd dX26_product_100 rfl ?_
    refine x_lload 7 dX26_product_101 rfl rfl ?_
    refine x_ldc2 24 (x := 65536) dX26_product_103 q3400 rfl (by decide) rfl ?_
    refine x_lrem dX26_product_106 (by decide) rfl ?_
    refine x_l2i dX26_product_107 rfl ?_
    refine y_iast (x' := b_i (b_lrem (b_l ((b_l ((b_l ((w (a1 + 1) a3) * (w (a2 + 1) a6))) + (w (a0 + 1) (b_i (a3 + a6))))) + a4)) 65536)) dX26_product_108 ⟨180, e7, e8⟩ rfl rfl ?_
    refine x_lload 7 dX26_product_109 rfl rfl ?_
    refine x_ldc2 24 (x := 65536) dX26_product_111 q3400 rfl (by decide) rfl ?_
    refine x_ldiv dX26_product_114 (by decide) rfl ?_
    refine x_lstore 4 (ls' := [(2, a0), (2, a1), (2, a2), (0, a3), (1, b_ldiv (b_l ((b_l ((b_l ((w (a1 + 1) a3) * (w (a2 + 1) a6))) + (w (a0 + 1) (b_i (a3 + a6))))) + a4)) 65536), (9, 0), (0, a6), (1, b_l ((b_l ((b_l ((w (a1 + 1) a3) * (w (a2 + 1) a6))) + (w (a0 + 1) (b_i (a3 + a6))))) + a4)), (9, 0)]) dX26_product_115 rfl rfl rfl ?_
    refine x_iinc 6 1 (ls' := [(2, a0), (2, a1), (2, a2), (0, a3), (1, b_ldiv (b_l ((b_l ((b_l ((w (a1 + 1) a3) * (w (a2 + 1) a6))) + (w (a0 + 1) (b_i (a3 + a6))))) + a4)) 65536), (9, 0), (0, b_i (a6 + 1)), (1, b_l ((b_l ((b_l ((w (a1 + 1) a3) * (w (a2 + 1) a6))) + (w (a0 + 1) (b_i (a3 + a6))))) + a4)), (9, 0)]) dX26_product_117 rfl rfl rfl rfl ?_
    refine x_goto (-68) (q := 52) dX26_product_120 rfl ?_
    exact x_fg (fgk (fgk (fgk (fgk (fgk (fgk (fgk (fgd (fgk (fg0)))))))))) h
abbrev LX26_divide_7 (d n : Nat) (Q : Int → bW → Prop) (X : String → bW → Prop) (a0 : Int) (a1 : Int) (a2 : Int) (a3 : Int) (a4 : Int) (w : bW) : Prop := b_Y (d + 1) mX26_divide n Q X 7 [(2, a0), (2, a1), (2, a2), (2, a3), (0, a4), (9, 0)] [] w
abbrev LX26_divide_38 (d n : Nat) (Q : Int → bW → Prop) (X : String → bW → Prop) (a0 : Int) (a1 : Int) (a2 : Int) (a3 : Int) (a4 : Int) (w : bW) : Prop := b_Y (d + 1) mX26_divide n Q X 38 [(2, a0), (2, a1), (2, a2), (2, a3), (0, a4), (9, 0)] [] w
abbrev LX26_divide_49 (d n : Nat) (Q : Int → bW → Prop) (X : String → bW → Prop) (a0 : Int) (a1 : Int) (a2 : Int) (a3 : Int) (a4 : Int) (a5 : Int) (w : bW) : Prop := b_Y (d + 1) mX26_divide n Q X 49 [(2, a0), (2, a1), (2, a2), (2, a3), (0, a4), (0, a5)] [] w
theorem rX26_divide {d n : Nat} {w : bW} {Q : Int → bW → Prop} {X : String → bW → Prop} (hn : 254 ≤ n) (t : Int) (a1 : Int) (a2 : Int) (a3 : Int) (ht : b_is n t 0 24 3) (ha1 : b_is n a1 0 24 3) (ha2 : b_is n a2 0 24 3) (ha3 : b_is n a3 0 24 3) (h : b_K d mX26_zero [(2, a3)] n w (fun r1 w2 => LX26_divide_7 d n Q X t a1 a2 a3 0 w2) X) : b_K (d + 1) mX26_divide [(2, t), (2, a1), (2, a2), (2, a3)] n w Q X := by
  refine k_of (by decide) rfl rfl rfl (ls := [(2, t), (2, a1), (2, a2), (2, a3), (9, 0), (9, 0)]) rfl ?_
  refine x_aload_n 3 dX26_divide_0 rfl rfl rfl rfl rfl ?_
  refine y_Vv 21 (M := mX26_zero) (As := []) (st := []) dX26_divide_1 ha3 rfl q3217 q3218 q3219 q393 q3220 rfl hmX26_zero rfl rfl rfl rfl rfl rfl rfl (k_mono h (fun r1 w2 h => ?_))
  refine x_iconst 0 (z := 0) dX26_divide_4 rfl (by decide) rfl ?_
  refine x_istore 4 (ls' := [(2, t), (2, a1), (2, a2), (2, a3), (0, 0), (9, 0)]) dX26_divide_5 rfl rfl rfl ?_
  exact x_fg (fgk (fgk (fgk (fgk (fgk (fgk (fg0))))))) h
theorem sX26_divide_7 {d n : Nat} {w : bW} {Q : Int → bW → Prop} {X : String → bW → Prop} (hn : 254 ≤ n) (a0 : Int) (a1 : Int) (a2 : Int) (a3 : Int) (a4 : Int) (ha0 : b_is n a0 0 24 3) (ha1 : b_is n a1 0 24 3) (ha2 : b_is n a2 0 24 3) (ha3 : b_is n a3 0 24 3) (h : if w a1 1 ≤ a4 then (LX26_divide_38 d n Q X a0 a1 a2 a3 (b_i ((w a1 1) - 1)) w) else ((0 ≤ a4 ∧ a4 < 180) ∧ (LX26_divide_7 d n Q X a0 a1 a2 a3 (b_i (a4 + 1)) (b_up w (a0 + 1) a4 0)))) : LX26_divide_7 d n Q X a0 a1 a2 a3 a4 w := by
  refine x_iload 4 dX26_divide_7 rfl rfl ?_
  refine x_aload_n 1 dX26_divide_9 rfl rfl rfl rfl rfl ?_
  refine y_get 13 1 (c := 24) (z := w a1 1) dX26_divide_10 ha1 rfl in_X26 q4087 rfl rfl rfl rfl rfl ?_
  refine x_icmp_ge (t := 30) 17 dX26_divide_13 rfl rfl (b_ite h (fun hc h => ?_) (fun hc h => ?_))
  · refine x_aload_n 1 dX26_divide_30 rfl rfl rfl rfl rfl ?_
    refine y_get 13 1 (c := 24) (z := w a1 1) dX26_divide_31 ha1 rfl in_X26 q4087 rfl rfl rfl rfl rfl ?_
    refine x_iconst 1 (z := 1) dX26_divide_34 rfl (by decide) rfl ?_
    refine x_isub dX26_divide_35 rfl ?_
    refine x_istore 4 (ls' := [(2, a0), (2, a1), (2, a2), (2, a3), (0, b_i ((w a1 1) - 1)), (9, 0)]) dX26_divide_36 rfl rfl rfl ?_
    exact x_fg (fgk (fgk (fgk (fgk (fgk (fgk (fg0))))))) h
  · refine x_aload_n 0 dX26_divide_16 rfl rfl rfl rfl rfl ?_
    refine y_getO 7 0 (c := 24) dX26_divide_17 ha0 rfl in_X26 q4085 rfl rfl rfl (fun h5 hf => of_X26_0 (Nat.le_trans (Nat.le_of_ble_eq_true rfl) hn) h5 ha0 hf) rfl (fun e1 => ?_)
    refine x_iload 4 dX26_divide_20 rfl rfl ?_
    refine x_iconst 0 (z := 0) dX26_divide_22 rfl (by decide) rfl ?_
    obtain ⟨e2, h⟩ := h
    refine y_iast (x' := 0) dX26_divide_23 ⟨180, e1, e2⟩ rfl rfl ?_
    refine x_iinc 4 1 (ls' := [(2, a0), (2, a1), (2, a2), (2, a3), (0, b_i (a4 + 1)), (9, 0)]) dX26_divide_24 rfl rfl rfl rfl ?_
    refine x_goto (-20) (q := 7) dX26_divide_27 rfl ?_
    exact x_fg (fgk (fgk (fgk (fgk (fgk (fgk (fg0))))))) h
theorem sX26_divide_38 {d n : Nat} {w : bW} {Q : Int → bW → Prop} {X : String → bW → Prop} (hn : 254 ≤ n) (a0 : Int) (a1 : Int) (a2 : Int) (a3 : Int) (a4 : Int) (ha0 : b_is n a0 0 24 3) (ha1 : b_is n a1 0 24 3) (ha2 : b_is n a2 0 24 3) (ha3 : b_is n a3 0 24 3) (h : if a4 < 0 then (b_K d mX26_trim [(2, a0)] n (b_up (b_up w a0 1 (w a1 1)) a0 2 0) (fun r1 w2 => Q 0 w2) X) else (LX26_divide_49 d n Q X a0 a1 a2 a3 a4 (w a3 1) w)) : LX26_divide_38 d n Q X a0 a1 a2 a3 a4 w := by
  refine x_iload 4 dX26_divide_38 rfl rfl ?_
  refine x_if_lt (t := 129) 89 dX26_divide_40 rfl rfl (b_ite h (fun hc h => ?_) (fun hc h => ?_))
  · refine x_aload_n 0 dX26_divide_129 rfl rfl rfl rfl rfl ?_
    refine x_aload_n 1 dX26_divide_130 rfl rfl rfl rfl rfl ?_
    refine y_get 13 1 (c := 24) (z := w a1 1) dX26_divide_131 ha1 rfl in_X26 q4087 rfl rfl rfl rfl rfl ?_
    refine x_put 13 1 (c := 24) dX26_divide_134 ha0 rfl in_X26 tyX26_ok nmX26 q4087 rfl rfl rfl (Or.inl rfl) (Or.inl ⟨rfl, rfl⟩) rfl ?_
    refine x_aload_n 0 dX26_divide_137 rfl rfl rfl rfl rfl ?_
    refine x_iconst 0 (z := 0) dX26_divide_138 rfl (by decide) rfl ?_
    refine x_put 17 2 (c := 24) dX26_divide_139 ha0 rfl in_X26 tyX26_ok nmX26 q4089 rfl rfl rfl (Or.inl rfl) (Or.inr (Or.inl ⟨rfl, rfl, by decide⟩)) rfl ?_
    refine x_aload_n 0 dX26_divide_142 rfl rfl rfl rfl rfl ?_
    refine y_Vv 39 (M := mX26_trim) (As := []) (st := []) dX26_divide_143 ha0 rfl q3226 q3227 q3228 q393 q3229 rfl hmX26_trim rfl rfl rfl rfl rfl rfl rfl (k_mono h (fun r1 w2 h => ?_))
    exact y_vret dX26_divide_146 rfl h
  · refine x_aload_n 3 dX26_divide_43 rfl rfl rfl rfl rfl ?_
    refine y_get 13 1 (c := 24) (z := w a3 1) dX26_divide_44 ha3 rfl in_X26 q4087 rfl rfl rfl rfl rfl ?_
    refine x_istore 5 (ls' := [(2, a0), (2, a1), (2, a2), (2, a3), (0, a4), (0, w a3 1)]) dX26_divide_47 rfl rfl rfl ?_
    exact x_fg (fgk (fgk (fgk (fgk (fgk (fgk (fg0))))))) h
theorem sX26_divide_49 {d n : Nat} {w : bW} {Q : Int → bW → Prop} {X : String → bW → Prop} (hn : 254 ≤ n) (a0 : Int) (a1 : Int) (a2 : Int) (a3 : Int) (a4 : Int) (a5 : Int) (ha0 : b_is n a0 0 24 3) (ha1 : b_is n a1 0 24 3) (ha2 : b_is n a2 0 24 3) (ha3 : b_is n a3 0 24 3) (h : if a5 ≤ 0 then ((0 ≤ a4 ∧ a4 < 180) ∧ (b_K d mX26_trim [(2, a3)] n (b_up (b_up w (a3 + 1) 0 (w (a1 + 1) a4)) a3 1 (b_i (((b_up w (a3 + 1) 0 (w (a1 + 1) a4)) a3 1) + 1))) (fun r4 w5 => b_K d mX26_compareSize [(2, a3), (2, a2)] n w5 (fun r6 w7 => if r6 < 0 then (LX26_divide_38 d n Q X a0 a1 a2 a3 (b_i (a4 + (-1))) w7) else (b_K d mX26_guess [(2, a3), (2, a2)] n w7 (fun r9 w10 => (0 ≤ a4 ∧ a4 < 180) ∧ (LX26_divide_38 d n Q X a0 a1 a2 a3 (b_i (a4 + (-1))) (b_up w10 (a0 + 1) a4 r9))) X)) X) X)) else ((0 ≤ b_i (a5 - 1) ∧ b_i (a5 - 1) < 180) ∧ ((0 ≤ a5 ∧ a5 < 180) ∧ (LX26_divide_49 d n Q X a0 a1 a2 a3 a4 (b_i (a5 + (-1))) (b_up w (a3 + 1) a5 (w (a3 + 1) (b_i (a5 - 1)))))))) : LX26_divide_49 d n Q X a0 a1 a2 a3 a4 a5 w := by
  refine x_iload 5 dX26_divide_49 rfl rfl ?_
  refine x_if_le (t := 76) 25 dX26_divide_51 rfl rfl (b_ite h (fun hc h => ?_) (fun hc h => ?_))
  · refine x_aload_n 3 dX26_divide_76 rfl rfl rfl rfl rfl ?_
    refine y_getO 7 0 (c := 24) dX26_divide_77 ha3 rfl in_X26 q4085 rfl rfl rfl (fun h5 hf => of_X26_0 (Nat.le_trans (Nat.le_of_ble_eq_true rfl) hn) h5 ha3 hf) rfl (fun e1 => ?_)
    refine x_iconst 0 (z := 0) dX26_divide_80 rfl (by decide) rfl ?_
    refine x_aload_n 1 dX26_divide_81 rfl rfl rfl rfl rfl ?_
    refine y_getO 7 0 (c := 24) dX26_divide_82 ha1 rfl in_X26 q4085 rfl rfl rfl (fun h5 hf => of_X26_0 (Nat.le_trans (Nat.le_of_ble_eq_true rfl) hn) h5 ha1 hf) rfl (fun e2 => ?_)
    refine x_iload 4 dX26_divide_85 rfl rfl ?_
    obtain ⟨e3, h⟩ := h
    refine y_iald (z := w (a1 + 1) a4) dX26_divide_87 ⟨180, e2, e3⟩ rfl rfl ?_
    refine y_iast (x' := w (a1 + 1) a4) dX26_divide_88 ⟨180, e1, by decide⟩ rfl rfl ?_
    refine x_aload_n 3 dX26_divide_89 rfl rfl rfl rfl rfl ?_
    refine x_dup dX26_divide_90 rfl rfl ?_
    refine y_get 13 1 (c := 24) (z := (b_up w (a3 + 1) 0 (w (a1 + 1) a4)) a3 1) dX26_divide_91 ha3 rfl in_X26 q4087 rfl rfl rfl rfl rfl ?_
    refine x_iconst 1 (z := 1) dX26_divide_94 rfl (by decide) rfl ?_
    refine x_iadd dX26_divide_95 rfl ?_
    refine x_put 13 1 (c := 24) dX26_divide_96 ha3 rfl in_X26 tyX26_ok nmX26 q4087 rfl rfl rfl (Or.inl rfl) (Or.inl ⟨rfl, rfl⟩) rfl ?_
    refine x_aload_n 3 dX26_divide_99 rfl rfl rfl rfl rfl ?_
    refine y_Vv 39 (M := mX26_trim) (As := []) (st := []) dX26_divide_100 ha3 rfl q3226 q3227 q3228 q393 q3229 rfl hmX26_trim rfl rfl rfl rfl rfl rfl rfl (k_mono h (fun r4 w5 h => ?_))
    refine x_aload_n 3 dX26_divide_103 rfl rfl rfl rfl rfl ?_
    refine x_aload_n 2 dX26_divide_104 rfl rfl rfl rfl rfl ?_
    refine y_Vi 30 (M := mX26_compareSize) (As := [(2, a2)]) (st := []) dX26_divide_105 ha3 rfl q3570 q3571 q3572 q393 q3573 rfl hmX26_compareSize rfl rfl rfl rfl rfl rfl rfl rfl (k_mono h (fun r6 w7 h => ?_))
    refine x_if_lt (t := 123) 15 dX26_divide_108 rfl rfl (b_ite h (fun hc h => ?_) (fun hc h => ?_))
    · refine x_iinc 4 (-1) (ls' := [(2, a0), (2, a1), (2, a2), (2, a3), (0, b_i (a4 + (-1))), (0, a5)]) dX26_divide_123 rfl rfl rfl rfl ?_
      refine x_goto (-88) (q := 38) dX26_divide_126 rfl ?_
      exact x_fg (fgk (fgk (fgk (fgk (fgk (fgd (fg0))))))) h
    · refine x_aload_n 0 dX26_divide_111 rfl rfl rfl rfl rfl ?_
      refine y_getO 7 0 (c := 24) dX26_divide_112 ha0 rfl in_X26 q4085 rfl rfl rfl (fun h5 hf => of_X26_0 (Nat.le_trans (Nat.le_of_ble_eq_true rfl) hn) h5 ha0 hf) rfl (fun e8 => ?_)
      refine x_iload 4 dX26_divide_115 rfl rfl ?_
      refine x_aload_n 3 dX26_divide_117 rfl rfl rfl rfl rfl ?_
      refine x_aload_n 2 dX26_divide_118 rfl rfl rfl rfl rfl ?_
      refine y_Si 42 (M := mX26_guess) (As := [(2, a3), (2, a2)]) (st := [(0, a4), (2, a0 + 1)]) dX26_divide_119 q3880 q3881 q393 q3882 hmX26_guess rfl rfl rfl rfl rfl rfl rfl rfl (k_mono h (fun r9 w10 h => ?_))
      obtain ⟨e11, h⟩ := h
      refine y_iast (x' := r9) dX26_divide_122 ⟨180, e8, e11⟩ rfl rfl ?_
      refine x_iinc 4 (-1) (ls' := [(2, a0), (2, a1), (2, a2), (2, a3), (0, b_i (a4 + (-1))), (0, a5)]) dX26_divide_123 rfl rfl rfl rfl ?_
      refine x_goto (-88) (q := 38) dX26_divide_126 rfl ?_
      exact x_fg (fgk (fgk (fgk (fgk (fgk (fgd (fg0))))))) h
  · refine x_aload_n 3 dX26_divide_54 rfl rfl rfl rfl rfl ?_
    refine y_getO 7 0 (c := 24) dX26_divide_55 ha3 rfl in_X26 q4085 rfl rfl rfl (fun h5 hf => of_X26_0 (Nat.le_trans (Nat.le_of_ble_eq_true rfl) hn) h5 ha3 hf) rfl (fun e12 => ?_)
    refine x_iload 5 dX26_divide_58 rfl rfl ?_
    refine x_aload_n 3 dX26_divide_60 rfl rfl rfl rfl rfl ?_
    refine y_getO 7 0 (c := 24) dX26_divide_61 ha3 rfl in_X26 q4085 rfl rfl rfl (fun h5 hf => of_X26_0 (Nat.le_trans (Nat.le_of_ble_eq_true rfl) hn) h5 ha3 hf) rfl (fun e13 => ?_)
    refine x_iload 5 dX26_divide_64 rfl rfl ?_
    refine x_iconst 1 (z := 1) dX26_divide_66 rfl (by decide) rfl ?_
    refine x_isub dX26_divide_67 rfl ?_
    obtain ⟨e14, h⟩ := h
    refine y_iald (z := w (a3 + 1) (b_i (a5 - 1))) dX26_divide_68 ⟨180, e13, e14⟩ rfl rfl ?_
    obtain ⟨e15, h⟩ := h
    refine y_iast (x' := w (a3 + 1) (b_i (a5 - 1))) dX26_divide_69 ⟨180, e13, e15⟩ rfl rfl ?_
    refine x_iinc 5 (-1) (ls' := [(2, a0), (2, a1), (2, a2), (2, a3), (0, a4), (0, b_i (a5 + (-1)))]) dX26_divide_70 rfl rfl rfl rfl ?_
    refine x_goto (-24) (q := 49) dX26_divide_73 rfl ?_
    exact x_fg (fgk (fgk (fgk (fgk (fgk (fgk (fg0))))))) h
abbrev LX26_guess_103 (d n : Nat) (Q : Int → bW → Prop) (X : String → bW → Prop) (a0 : Int) (a1 : Int) (a5 : Int) (w : bW) : Prop := b_Y (d + 1) mX26_guess n Q X 103 [(2, a0), (2, a1), (9, 0), (9, 0), (9, 0), (1, a5), (9, 0), (9, 0), (9, 0), (9, 0), (9, 0), (9, 0)] [] w
abbrev LX26_guess_128 (d n : Nat) (Q : Int → bW → Prop) (X : String → bW → Prop) (a0 : Int) (a1 : Int) (a5 : Int) (a7 : Int) (a9 : Int) (w : bW) : Prop := b_Y (d + 1) mX26_guess n Q X 128 [(2, a0), (2, a1), (9, 0), (9, 0), (9, 0), (1, a5), (9, 0), (1, a7), (9, 0), (0, a9), (9, 0), (9, 0)] [] w
theorem rX26_guess {d n : Nat} {w : bW} {Q : Int → bW → Prop} {X : String → bW → Prop} (hn : 254 ≤ n) (a0 : Int) (a1 : Int) (ha0 : b_is n a0 0 24 3) (ha1 : b_is n a1 0 24 3) (h : b_K d mX26_digit [(2, a0), (0, w a1 1)] n w (fun r1 w2 => b_K d mX26_digit [(2, a0), (0, b_i ((w a1 1) - 1))] n w2 (fun r3 w4 => if w a1 1 ≠ 1 then (b_K d mX26_digit [(2, a0), (0, b_i ((w a1 1) - 2))] n w4 (fun r5 w6 => (0 ≤ b_i ((w a1 1) - 1) ∧ b_i ((w a1 1) - 1) < 180) ∧ ((0 ≤ b_i ((w a1 1) - 2) ∧ b_i ((w a1 1) - 2) < 180) ∧ ((b_l ((b_l ((w6 (a1 + 1) (b_i ((w a1 1) - 1))) * 65536)) + (w6 (a1 + 1) (b_i ((w a1 1) - 2)))) ≠ 0) ∧ (if b_ldiv (b_l ((b_l ((b_l ((b_l (r1 * 65536)) + r3)) * 65536)) + r5)) (b_l ((b_l ((w6 (a1 + 1) (b_i ((w a1 1) - 1))) * 65536)) + (w6 (a1 + 1) (b_i ((w a1 1) - 2))))) ≤ 65535 then (LX26_guess_103 d n Q X a0 a1 (b_ldiv (b_l ((b_l ((b_l ((b_l (r1 * 65536)) + r3)) * 65536)) + r5)) (b_l ((b_l ((w6 (a1 + 1) (b_i ((w a1 1) - 1))) * 65536)) + (w6 (a1 + 1) (b_i ((w a1 1) - 2)))))) w6) else (LX26_guess_103 d n Q X a0 a1 65535 w6))))) X) else ((w4 (a1 + 1) 0 ≠ 0) ∧ (if b_ldiv (b_l ((b_l (r1 * 65536)) + r3)) (w4 (a1 + 1) 0) ≤ 65535 then (LX26_guess_103 d n Q X a0 a1 (b_ldiv (b_l ((b_l (r1 * 65536)) + r3)) (w4 (a1 + 1) 0)) w4) else (LX26_guess_103 d n Q X a0 a1 65535 w4)))) X) X) : b_K (d + 1) mX26_guess [(2, a0), (2, a1)] n w Q X := by
  refine k_of (by decide) rfl rfl rfl (ls := [(2, a0), (2, a1), (9, 0), (9, 0), (9, 0), (9, 0), (9, 0), (9, 0), (9, 0), (9, 0), (9, 0), (9, 0)]) rfl ?_
  refine x_aload_n 1 dX26_guess_0 rfl rfl rfl rfl rfl ?_
  refine y_get 13 1 (c := 24) (z := w a1 1) dX26_guess_1 ha1 rfl in_X26 q4087 rfl rfl rfl rfl rfl ?_
  refine x_istore_n 2 (ls' := [(2, a0), (2, a1), (0, w a1 1), (9, 0), (9, 0), (9, 0), (9, 0), (9, 0), (9, 0), (9, 0), (9, 0), (9, 0)]) dX26_guess_4 rfl rfl rfl rfl ?_
  refine x_aload_n 0 dX26_guess_5 rfl rfl rfl rfl rfl ?_
  refine x_iload_n 2 dX26_guess_6 rfl rfl rfl ?_
  refine y_Vi 34 (M := mX26_digit) (As := [(0, w a1 1)]) (st := []) dX26_guess_7 ha0 rfl q3855 q3856 q3857 q393 q3858 rfl hmX26_digit rfl rfl rfl rfl rfl rfl rfl rfl (k_mono h (fun r1 w2 h => ?_))
  refine x_i2l dX26_guess_10 rfl ?_
  refine x_ldc2 24 (x := 65536) dX26_guess_11 q3400 rfl (by decide) rfl ?_
  refine x_lmul dX26_guess_14 rfl ?_
  refine x_aload_n 0 dX26_guess_15 rfl rfl rfl rfl rfl ?_
  refine x_iload_n 2 dX26_guess_16 rfl rfl rfl ?_
  refine x_iconst 1 (z := 1) dX26_guess_17 rfl (by decide) rfl ?_
  refine x_isub dX26_guess_18 rfl ?_
  refine y_Vi 34 (M := mX26_digit) (As := [(0, b_i ((w a1 1) - 1))]) (st := [(1, b_l (r1 * 65536))]) dX26_guess_19 ha0 rfl q3855 q3856 q3857 q393 q3858 rfl hmX26_digit rfl rfl rfl rfl rfl rfl rfl rfl (k_mono h (fun r3 w4 h => ?_))
  refine x_i2l dX26_guess_22 rfl ?_
  refine x_ladd dX26_guess_23 rfl ?_
  refine x_lstore_n 3 (ls' := [(2, a0), (2, a1), (0, w a1 1), (1, b_l ((b_l (r1 * 65536)) + r3)), (9, 0), (9, 0), (9, 0), (9, 0), (9, 0), (9, 0), (9, 0), (9, 0)]) dX26_guess_24 rfl rfl rfl rfl ?_
  refine x_iload_n 2 dX26_guess_25 rfl rfl rfl ?_
  refine x_iconst 1 (z := 1) dX26_guess_26 rfl (by decide) rfl ?_
  refine x_icmp_ne (t := 44) 17 dX26_guess_27 rfl rfl (b_ite h (fun hc h => ?_) (fun hc h => ?_))
  · refine x_lload_n 3 dX26_guess_44 rfl rfl rfl ?_
    refine x_ldc2 24 (x := 65536) dX26_guess_45 q3400 rfl (by decide) rfl ?_
    refine x_lmul dX26_guess_48 rfl ?_
    refine x_aload_n 0 dX26_guess_49 rfl rfl rfl rfl rfl ?_
    refine x_iload_n 2 dX26_guess_50 rfl rfl rfl ?_
    refine x_iconst 2 (z := 2) dX26_guess_51 rfl (by decide) rfl ?_
    refine x_isub dX26_guess_52 rfl ?_
    refine y_Vi 34 (M := mX26_digit) (As := [(0, b_i ((w a1 1) - 2))]) (st := [(1, b_l ((b_l ((b_l (r1 * 65536)) + r3)) * 65536))]) dX26_guess_53 ha0 rfl q3855 q3856 q3857 q393 q3858 rfl hmX26_digit rfl rfl rfl rfl rfl rfl rfl rfl (k_mono h (fun r5 w6 h => ?_))
    refine x_i2l dX26_guess_56 rfl ?_
    refine x_ladd dX26_guess_57 rfl ?_
    refine x_aload_n 1 dX26_guess_58 rfl rfl rfl rfl rfl ?_
    refine y_getO 7 0 (c := 24) dX26_guess_59 ha1 rfl in_X26 q4085 rfl rfl rfl (fun h5 hf => of_X26_0 (Nat.le_trans (Nat.le_of_ble_eq_true rfl) hn) h5 ha1 hf) rfl (fun e7 => ?_)
    refine x_iload_n 2 dX26_guess_62 rfl rfl rfl ?_
    refine x_iconst 1 (z := 1) dX26_guess_63 rfl (by decide) rfl ?_
    refine x_isub dX26_guess_64 rfl ?_
    obtain ⟨e8, h⟩ := h
    refine y_iald (z := w6 (a1 + 1) (b_i ((w a1 1) - 1))) dX26_guess_65 ⟨180, e7, e8⟩ rfl rfl ?_
    refine x_i2l dX26_guess_66 rfl ?_
    refine x_ldc2 24 (x := 65536) dX26_guess_67 q3400 rfl (by decide) rfl ?_
    refine x_lmul dX26_guess_70 rfl ?_
    refine x_aload_n 1 dX26_guess_71 rfl rfl rfl rfl rfl ?_
    refine y_getO 7 0 (c := 24) dX26_guess_72 ha1 rfl in_X26 q4085 rfl rfl rfl (fun h5 hf => of_X26_0 (Nat.le_trans (Nat.le_of_ble_eq_true rfl) hn) h5 ha1 hf) rfl (fun e9 => ?_)
    refine x_iload_n 2 dX26_guess_75 rfl rfl rfl ?_
    refine x_iconst 2 (z := 2) dX26_guess_76 rfl (by decide) rfl ?_
    refine x_isub dX26_guess_77 rfl ?_
    obtain ⟨e10, h⟩ := h
    refine y_iald (z := w6 (a1 + 1) (b_i ((w a1 1) - 2))) dX26_guess_78 ⟨180, e9, e10⟩ rfl rfl ?_
    refine x_i2l dX26_guess_79 rfl ?_
    refine x_ladd dX26_guess_80 rfl ?_
    obtain ⟨h0, h⟩ := h
    refine x_ldiv dX26_guess_81 h0 rfl ?_
    refine x_lstore 5 (ls' := [(2, a0), (2, a1), (0, w a1 1), (1, b_l ((b_l (r1 * 65536)) + r3)), (9, 0), (1, b_ldiv (b_l ((b_l ((b_l ((b_l (r1 * 65536)) + r3)) * 65536)) + r5)) (b_l ((b_l ((w6 (a1 + 1) (b_i ((w a1 1) - 1))) * 65536)) + (w6 (a1 + 1) (b_i ((w a1 1) - 2)))))), (9, 0), (9, 0), (9, 0), (9, 0), (9, 0), (9, 0)]) dX26_guess_82 rfl rfl rfl ?_
    refine x_lload 5 dX26_guess_84 rfl rfl ?_
    refine x_ldc2 46 (x := 65535) dX26_guess_86 q3883 rfl (by decide) rfl ?_
    refine x_lc_le (q := 93) (t := 99) 9 dX26_guess_89 dX26_guess_90 rfl rfl (b_ite h (fun hc h => ?_) (fun hc h => ?_))
    · refine x_lload 5 dX26_guess_99 rfl rfl ?_
      refine x_lstore 5 (ls' := [(2, a0), (2, a1), (0, w a1 1), (1, b_l ((b_l (r1 * 65536)) + r3)), (9, 0), (1, b_ldiv (b_l ((b_l ((b_l ((b_l (r1 * 65536)) + r3)) * 65536)) + r5)) (b_l ((b_l ((w6 (a1 + 1) (b_i ((w a1 1) - 1))) * 65536)) + (w6 (a1 + 1) (b_i ((w a1 1) - 2)))))), (9, 0), (9, 0), (9, 0), (9, 0), (9, 0), (9, 0)]) dX26_guess_101 rfl rfl rfl ?_
      exact x_fg (fgk (fgk (fgd (fgd (fgk (fgk (fgk (fgk (fgk (fgk (fgk (fgk (fg0))))))))))))) h
    · refine x_ldc2 46 (x := 65535) dX26_guess_93 q3883 rfl (by decide) rfl ?_
      refine x_goto 5 (q := 101) dX26_guess_96 rfl ?_
      refine x_lstore 5 (ls' := [(2, a0), (2, a1), (0, w a1 1), (1, b_l ((b_l (r1 * 65536)) + r3)), (9, 0), (1, 65535), (9, 0), (9, 0), (9, 0), (9, 0), (9, 0), (9, 0)]) dX26_guess_101 rfl rfl rfl ?_
      exact x_fg (fgk (fgk (fgd (fgd (fgk (fgk (fgk (fgk (fgk (fgk (fgk (fgk (fg0))))))))))))) h
  · refine x_lload_n 3 dX26_guess_30 rfl rfl rfl ?_
    refine x_aload_n 1 dX26_guess_31 rfl rfl rfl rfl rfl ?_
    refine y_getO 7 0 (c := 24) dX26_guess_32 ha1 rfl in_X26 q4085 rfl rfl rfl (fun h5 hf => of_X26_0 (Nat.le_trans (Nat.le_of_ble_eq_true rfl) hn) h5 ha1 hf) rfl (fun e11 => ?_)
    refine x_iconst 0 (z := 0) dX26_guess_35 rfl (by decide) rfl ?_
    refine y_iald (z := w4 (a1 + 1) 0) dX26_guess_36 ⟨180, e11, by decide⟩ rfl rfl ?_
    refine x_i2l dX26_guess_37 rfl ?_
    obtain ⟨h0, h⟩ := h
    refine x_ldiv dX26_guess_38 h0 rfl ?_
    refine x_lstore 5 (ls' := [(2, a0), (2, a1), (0, w a1 1), (1, b_l ((b_l (r1 * 65536)) + r3)), (9, 0), (1, b_ldiv (b_l ((b_l (r1 * 65536)) + r3)) (w4 (a1 + 1) 0)), (9, 0), (9, 0), (9, 0), (9, 0), (9, 0), (9, 0)]) dX26_guess_39 rfl rfl rfl ?_
    refine x_goto 43 (q := 84) dX26_guess_41 rfl ?_
    refine x_lload 5 dX26_guess_84 rfl rfl ?_
    refine x_ldc2 46 (x := 65535) dX26_guess_86 q3883 rfl (by decide) rfl ?_
    refine x_lc_le (q := 93) (t := 99) 9 dX26_guess_89 dX26_guess_90 rfl rfl (b_ite h (fun hc h => ?_) (fun hc h => ?_))
    · refine x_lload 5 dX26_guess_99 rfl rfl ?_
      refine x_lstore 5 (ls' := [(2, a0), (2, a1), (0, w a1 1), (1, b_l ((b_l (r1 * 65536)) + r3)), (9, 0), (1, b_ldiv (b_l ((b_l (r1 * 65536)) + r3)) (w4 (a1 + 1) 0)), (9, 0), (9, 0), (9, 0), (9, 0), (9, 0), (9, 0)]) dX26_guess_101 rfl rfl rfl ?_
      exact x_fg (fgk (fgk (fgd (fgd (fgk (fgk (fgk (fgk (fgk (fgk (fgk (fgk (fg0))))))))))))) h
    · refine x_ldc2 46 (x := 65535) dX26_guess_93 q3883 rfl (by decide) rfl ?_
      refine x_goto 5 (q := 101) dX26_guess_96 rfl ?_
      refine x_lstore 5 (ls' := [(2, a0), (2, a1), (0, w a1 1), (1, b_l ((b_l (r1 * 65536)) + r3)), (9, 0), (1, 65535), (9, 0), (9, 0), (9, 0), (9, 0), (9, 0), (9, 0)]) dX26_guess_101 rfl rfl rfl ?_
      exact x_fg (fgk (fgk (fgd (fgd (fgk (fgk (fgk (fgk (fgk (fgk (fgk (fgk (fg0))))))))))))) h
theorem sX26_guess_103 {d n : Nat} {w : bW} {Q : Int → bW → Prop} {X : String → bW → Prop} (hn : 254 ≤ n) (a0 : Int) (a1 : Int) (a5 : Int) (ha0 : b_is n a0 0 24 3) (ha1 : b_is n a1 0 24 3) (h : b_K d mX26_isLess [(2, a0), (2, a1), (1, a5)] n w (fun r1 w2 => if r1 = 0 then (LX26_guess_128 d n Q X a0 a1 a5 0 0 w2) else (LX26_guess_103 d n Q X a0 a1 (b_l (a5 - 1)) w2)) X) : LX26_guess_103 d n Q X a0 a1 a5 w := by
  refine x_aload_n 0 dX26_guess_103 rfl rfl rfl rfl rfl ?_
  refine x_aload_n 1 dX26_guess_104 rfl rfl rfl rfl rfl ?_
  refine x_lload 5 dX26_guess_105 rfl rfl ?_
  refine y_Si 48 (M := mX26_isLess) (As := [(2, a0), (2, a1), (1, a5)]) (st := []) dX26_guess_107 q3884 q3885 q393 q3886 hmX26_isLess rfl rfl rfl rfl rfl rfl rfl rfl (k_mono h (fun r1 w2 h => ?_))
  refine x_if_eq (t := 122) 12 dX26_guess_110 rfl rfl (b_ite h (fun hc h => ?_) (fun hc h => ?_))
  · refine x_lconst 0 (z := 0) dX26_guess_122 rfl (by decide) rfl ?_
    refine x_lstore 7 (ls' := [(2, a0), (2, a1), (9, 0), (9, 0), (9, 0), (1, a5), (9, 0), (1, 0), (9, 0), (9, 0), (9, 0), (9, 0)]) dX26_guess_123 rfl rfl rfl ?_
    refine x_iconst 0 (z := 0) dX26_guess_125 rfl (by decide) rfl ?_
    refine x_istore 9 (ls' := [(2, a0), (2, a1), (9, 0), (9, 0), (9, 0), (1, a5), (9, 0), (1, 0), (9, 0), (0, 0), (9, 0), (9, 0)]) dX26_guess_126 rfl rfl rfl ?_
    exact x_fg (fgk (fgk (fgk (fgk (fgk (fgk (fgk (fgk (fgk (fgk (fgk (fgk (fg0))))))))))))) h
  · refine x_lload 5 dX26_guess_113 rfl rfl ?_
    refine x_lconst 1 (z := 1) dX26_guess_115 rfl (by decide) rfl ?_
    refine x_lsub dX26_guess_116 rfl ?_
    refine x_lstore 5 (ls' := [(2, a0), (2, a1), (9, 0), (9, 0), (9, 0), (1, b_l (a5 - 1)), (9, 0), (9, 0), (9, 0), (9, 0), (9, 0), (9, 0)]) dX26_guess_117 rfl rfl rfl ?_
    refine x_goto (-16) (q := 103) dX26_guess_119 rfl ?_
    exact x_fg (fgk (fgk (fgk (fgk (fgk (fgk (fgk (fgk (fgk (fgk (fgk (fgk (fg0))))))))))))) h
theorem sX26_guess_128 {d n : Nat} {w : bW} {Q : Int → bW → Prop} {X : String → bW → Prop} (hn : 254 ≤ n) (a0 : Int) (a1 : Int) (a5 : Int) (a7 : Int) (a9 : Int) (ha0 : b_is n a0 0 24 3) (ha1 : b_is n a1 0 24 3) (h : if w a0 1 ≤ a9 then (b_K d mX26_trim [(2, a0)] n w (fun r1 w2 => Q (b_i a5) w2) X) else ((0 ≤ a9 ∧ a9 < 180) ∧ (b_K d mX26_digit [(2, a1), (0, a9)] n w (fun r5 w6 => if 0 ≤ b_l ((b_l ((w (a0 + 1) a9) - (b_l (a5 * r5)))) - a7) then (LX26_guess_128 d n Q X a0 a1 a5 0 (b_i (a9 + 1)) (b_up w6 (a0 + 1) a9 (b_i (b_l ((b_l ((b_l ((w (a0 + 1) a9) - (b_l (a5 * r5)))) - a7)) + (b_l (0 * 65536))))))) else (LX26_guess_128 d n Q X a0 a1 a5 (b_ldiv (b_l ((b_l (-(b_l ((b_l ((w (a0 + 1) a9) - (b_l (a5 * r5)))) - a7)))) + 65535)) 65536) (b_i (a9 + 1)) (b_up w6 (a0 + 1) a9 (b_i (b_l ((b_l ((b_l ((w (a0 + 1) a9) - (b_l (a5 * r5)))) - a7)) + (b_l ((b_ldiv (b_l ((b_l (-(b_l ((b_l ((w (a0 + 1) a9) - (b_l (a5 * r5)))) - a7)))) + 65535)) 65536) * 65536)))))))) X))) : LX26_guess_128 d n Q X a0 a1 a5 a7 a9 w := by
  refine x_iload 9 dX26_guess_128 rfl rfl ?_
  refine x_aload_n 0 dX26_guess_130 rfl rfl rfl rfl rfl ?_
  refine y_get 13 1 (c := 24) (z := w a0 1) dX26_guess_131 ha0 rfl in_X26 q4087 rfl rfl rfl rfl rfl ?_
  refine x_icmp_ge (t := 208) 74 dX26_guess_134 rfl rfl (b_ite h (fun hc h => ?_) (fun hc h => ?_))
  · refine x_aload_n 0 dX26_guess_208 rfl rfl rfl rfl rfl ?_
    refine y_Vv 39 (M := mX26_trim) (As := []) (st := []) dX26_guess_209 ha0 rfl q3226 q3227 q3228 q393 q3229 rfl hmX26_trim rfl rfl rfl rfl rfl rfl rfl (k_mono h (fun r1 w2 h => ?_))
    refine x_lload 5 dX26_guess_212 rfl rfl ?_
    refine x_l2i dX26_guess_214 rfl ?_
    exact y_iret dX26_guess_215 rfl h
  · refine x_aload_n 0 dX26_guess_137 rfl rfl rfl rfl rfl ?_
    refine y_getO 7 0 (c := 24) dX26_guess_138 ha0 rfl in_X26 q4085 rfl rfl rfl (fun h5 hf => of_X26_0 (Nat.le_trans (Nat.le_of_ble_eq_true rfl) hn) h5 ha0 hf) rfl (fun e3 => ?_)
    refine x_iload 9 dX26_guess_141 rfl rfl ?_
    obtain ⟨e4, h⟩ := h
    refine y_iald (z := w (a0 + 1) a9) dX26_guess_143 ⟨180, e3, e4⟩ rfl rfl ?_
    refine x_i2l dX26_guess_144 rfl ?_
    refine x_lload 5 dX26_guess_145 rfl rfl ?_
    refine x_aload_n 1 dX26_guess_147 rfl rfl rfl rfl rfl ?_
    refine x_iload 9 dX26_guess_148 rfl rfl ?_
    refine y_Vi 34 (M := mX26_digit) (As := [(0, a9)]) (st := [(1, a5), (1, w (a0 + 1) a9)]) dX26_guess_150 ha1 rfl q3855 q3856 q3857 q393 q3858 rfl hmX26_digit rfl rfl rfl rfl rfl rfl rfl rfl (k_mono h (fun r5 w6 h => ?_))
    refine x_i2l dX26_guess_153 rfl ?_
    refine x_lmul dX26_guess_154 rfl ?_
    refine x_lsub dX26_guess_155 rfl ?_
    refine x_lload 7 dX26_guess_156 rfl rfl ?_
    refine x_lsub dX26_guess_158 rfl ?_
    refine x_lstore 10 (ls' := [(2, a0), (2, a1), (9, 0), (9, 0), (9, 0), (1, a5), (9, 0), (1, a7), (9, 0), (0, a9), (1, b_l ((b_l ((w (a0 + 1) a9) - (b_l (a5 * r5)))) - a7)), (9, 0)]) dX26_guess_159 rfl rfl rfl ?_
    refine x_lload 10 dX26_guess_161 rfl rfl ?_
    refine x_lconst 0 (z := 0) dX26_guess_163 rfl (by decide) rfl ?_
    refine x_lc_ge (q := 168) (t := 182) 17 dX26_guess_164 dX26_guess_165 rfl rfl (b_ite h (fun hc h => ?_) (fun hc h => ?_))
    · refine x_lconst 0 (z := 0) dX26_guess_182 rfl (by decide) rfl ?_
      refine x_lstore 7 (ls' := [(2, a0), (2, a1), (9, 0), (9, 0), (9, 0), (1, a5), (9, 0), (1, 0), (9, 0), (0, a9), (1, b_l ((b_l ((w (a0 + 1) a9) - (b_l (a5 * r5)))) - a7)), (9, 0)]) dX26_guess_183 rfl rfl rfl ?_
      refine x_aload_n 0 dX26_guess_185 rfl rfl rfl rfl rfl ?_
      refine y_getO 7 0 (c := 24) dX26_guess_186 ha0 rfl in_X26 q4085 rfl rfl rfl (fun h5 hf => of_X26_0 (Nat.le_trans (Nat.le_of_ble_eq_true rfl) hn) h5 ha0 hf) rfl (fun e7 => ?_)
      refine x_iload 9 dX26_guess_189 rfl rfl ?_
      refine x_lload 10 dX26_guess_191 rfl rfl ?_
      refine x_lload 7 dX26_guess_193 rfl rfl ?_
      refine x_ldc2 24 (x := 65536) dX26_guess_195 q3400 rfl (by decide) rfl ?_
      refine x_lmul dX26_guess_198 rfl ?_
      refine x_ladd dX26_guess_199 rfl ?_
      refine x_l2i dX26_guess_200 rfl ?_
      refine y_iast (x' := b_i (b_l ((b_l ((b_l ((w (a0 + 1) a9) - (b_l (a5 * r5)))) - a7)) + (b_l (0 * 65536))))) dX26_guess_201 ⟨180, e3, e4⟩ rfl rfl ?_
      refine x_iinc 9 1 (ls' := [(2, a0), (2, a1), (9, 0), (9, 0), (9, 0), (1, a5), (9, 0), (1, 0), (9, 0), (0, b_i (a9 + 1)), (1, b_l ((b_l ((w (a0 + 1) a9) - (b_l (a5 * r5)))) - a7)), (9, 0)]) dX26_guess_202 rfl rfl rfl rfl ?_
      refine x_goto (-77) (q := 128) dX26_guess_205 rfl ?_
      exact x_fg (fgk (fgk (fgk (fgk (fgk (fgk (fgk (fgk (fgk (fgk (fgd (fgk (fg0))))))))))))) h
    · refine x_lload 10 dX26_guess_168 rfl rfl ?_
      refine x_lneg dX26_guess_170 rfl ?_
      refine x_ldc2 46 (x := 65535) dX26_guess_171 q3883 rfl (by decide) rfl ?_
      refine x_ladd dX26_guess_174 rfl ?_
      refine x_ldc2 24 (x := 65536) dX26_guess_175 q3400 rfl (by decide) rfl ?_
      refine x_ldiv dX26_guess_178 (by decide) rfl ?_
      refine x_goto 4 (q := 183) dX26_guess_179 rfl ?_
      refine x_lstore 7 (ls' := [(2, a0), (2, a1), (9, 0), (9, 0), (9, 0), (1, a5), (9, 0), (1, b_ldiv (b_l ((b_l (-(b_l ((b_l ((w (a0 + 1) a9) - (b_l (a5 * r5)))) - a7)))) + 65535)) 65536), (9, 0), (0, a9), (1, b_l ((b_l ((w (a0 + 1) a9) - (b_l (a5 * r5)))) - a7)), (9, 0)]) dX26_guess_183 rfl rfl rfl ?_
      refine x_aload_n 0 dX26_guess_185 rfl rfl rfl rfl rfl ?_
      refine y_getO 7 0 (c := 24) dX26_guess_186 ha0 rfl in_X26 q4085 rfl rfl rfl (fun h5 hf => of_X26_0 (Nat.le_trans (Nat.le_of_ble_eq_true rfl) hn) h5 ha0 hf) rfl (fun e8 => ?_)
      refine x_iload 9 dX26_guess_189 rfl rfl ?_
      refine x_lload 10 dX26_guess_191 rfl rfl ?_
      refine x_lload 7 dX26_guess_193 rfl rfl ?_
      refine x_ldc2 24 (x := 65536) dX26_guess_195 q3400 rfl (by decide) rfl ?_
      refine x_lmul dX26_guess_198 rfl ?_
      refine x_ladd dX26_guess_199 rfl ?_
      refine x_l2i dX26_guess_200 rfl ?_
      refine y_iast (x' := b_i (b_l ((b_l ((b_l ((w (a0 + 1) a9) - (b_l (a5 * r5)))) - a7)) + (b_l ((b_ldiv (b_l ((b_l (-(b_l ((b_l ((w (a0 + 1) a9) - (b_l (a5 * r5)))) - a7)))) + 65535)) 65536) * 65536))))) dX26_guess_201 ⟨180, e3, e4⟩ rfl rfl ?_
      refine x_iinc 9 1 (ls' := [(2, a0), (2, a1), (9, 0), (9, 0), (9, 0), (1, a5), (9, 0), (1, b_ldiv (b_l ((b_l (-(b_l ((b_l ((w (a0 + 1) a9) - (b_l (a5 * r5)))) - a7)))) + 65535)) 65536), (9, 0), (0, b_i (a9 + 1)), (1, b_l ((b_l ((w (a0 + 1) a9) - (b_l (a5 * r5)))) - a7)), (9, 0)]) dX26_guess_202 rfl rfl rfl rfl ?_
      refine x_goto (-77) (q := 128) dX26_guess_205 rfl ?_
      exact x_fg (fgk (fgk (fgk (fgk (fgk (fgk (fgk (fgk (fgk (fgk (fgd (fgk (fg0))))))))))))) h
abbrev LX26_isLess_6 (d n : Nat) (Q : Int → bW → Prop) (X : String → bW → Prop) (a0 : Int) (a1 : Int) (a2 : Int) (a4 : Int) (a6 : Int) (w : bW) : Prop := b_Y (d + 1) mX26_isLess n Q X 6 [(2, a0), (2, a1), (1, a2), (9, 0), (1, a4), (9, 0), (0, a6), (9, 0), (9, 0)] [] w
theorem rX26_isLess {d n : Nat} {w : bW} {Q : Int → bW → Prop} {X : String → bW → Prop} (hn : 254 ≤ n) (a0 : Int) (a1 : Int) (a2 : Int) (ha0 : b_is n a0 0 24 3) (ha1 : b_is n a1 0 24 3) (h : LX26_isLess_6 d n Q X a0 a1 a2 0 0 w) : b_K (d + 1) mX26_isLess [(2, a0), (2, a1), (1, a2)] n w Q X := by
  refine k_of (by decide) rfl rfl rfl (ls := [(2, a0), (2, a1), (1, a2), (9, 0), (9, 0), (9, 0), (9, 0), (9, 0), (9, 0)]) rfl ?_
  refine x_lconst 0 (z := 0) dX26_isLess_0 rfl (by decide) rfl ?_
  refine x_lstore 4 (ls' := [(2, a0), (2, a1), (1, a2), (9, 0), (1, 0), (9, 0), (9, 0), (9, 0), (9, 0)]) dX26_isLess_1 rfl rfl rfl ?_
  refine x_iconst 0 (z := 0) dX26_isLess_3 rfl (by decide) rfl ?_
  refine x_istore 6 (ls' := [(2, a0), (2, a1), (1, a2), (9, 0), (1, 0), (9, 0), (0, 0), (9, 0), (9, 0)]) dX26_isLess_4 rfl rfl rfl ?_
  exact x_fg (fgk (fgk (fgk (fgk (fgk (fgk (fgk (fgk (fgk (fg0)))))))))) h
theorem sX26_isLess_6 {d n : Nat} {w : bW} {Q : Int → bW → Prop} {X : String → bW → Prop} (hn : 254 ≤ n) (a0 : Int) (a1 : Int) (a2 : Int) (a4 : Int) (a6 : Int) (ha0 : b_is n a0 0 24 3) (ha1 : b_is n a1 0 24 3) (h : if w a0 1 ≤ a6 then (if a4 ≤ 0 then (Q 0 w) else (Q 1 w)) else ((0 ≤ a6 ∧ a6 < 180) ∧ (b_K d mX26_digit [(2, a1), (0, a6)] n w (fun r3 w4 => if 0 ≤ b_l ((b_l ((w (a0 + 1) a6) - (b_l (a2 * r3)))) - a4) then (LX26_isLess_6 d n Q X a0 a1 a2 0 (b_i (a6 + 1)) w4) else (LX26_isLess_6 d n Q X a0 a1 a2 (b_ldiv (b_l ((b_l (-(b_l ((b_l ((w (a0 + 1) a6) - (b_l (a2 * r3)))) - a4)))) + 65535)) 65536) (b_i (a6 + 1)) w4)) X))) : LX26_isLess_6 d n Q X a0 a1 a2 a4 a6 w := by
  refine x_iload 6 dX26_isLess_6 rfl rfl ?_
  refine x_aload_n 0 dX26_isLess_8 rfl rfl rfl rfl rfl ?_
  refine y_get 13 1 (c := 24) (z := w a0 1) dX26_isLess_9 ha0 rfl in_X26 q4087 rfl rfl rfl rfl rfl ?_
  refine x_icmp_ge (t := 68) 56 dX26_isLess_12 rfl rfl (b_ite h (fun hc h => ?_) (fun hc h => ?_))
  · refine x_lload 4 dX26_isLess_68 rfl rfl ?_
    refine x_lconst 0 (z := 0) dX26_isLess_70 rfl (by decide) rfl ?_
    refine x_lc_le (q := 75) (t := 79) 7 dX26_isLess_71 dX26_isLess_72 rfl rfl (b_ite h (fun hc h => ?_) (fun hc h => ?_))
    · refine x_iconst 0 (z := 0) dX26_isLess_79 rfl (by decide) rfl ?_
      exact y_zret dX26_isLess_80 rfl (by decide) h
    · refine x_iconst 1 (z := 1) dX26_isLess_75 rfl (by decide) rfl ?_
      refine x_goto 4 (q := 80) dX26_isLess_76 rfl ?_
      exact y_zret dX26_isLess_80 rfl (by decide) h
  · refine x_aload_n 0 dX26_isLess_15 rfl rfl rfl rfl rfl ?_
    refine y_getO 7 0 (c := 24) dX26_isLess_16 ha0 rfl in_X26 q4085 rfl rfl rfl (fun h5 hf => of_X26_0 (Nat.le_trans (Nat.le_of_ble_eq_true rfl) hn) h5 ha0 hf) rfl (fun e1 => ?_)
    refine x_iload 6 dX26_isLess_19 rfl rfl ?_
    obtain ⟨e2, h⟩ := h
    refine y_iald (z := w (a0 + 1) a6) dX26_isLess_21 ⟨180, e1, e2⟩ rfl rfl ?_
    refine x_i2l dX26_isLess_22 rfl ?_
    refine x_lload_n 2 dX26_isLess_23 rfl rfl rfl ?_
    refine x_aload_n 1 dX26_isLess_24 rfl rfl rfl rfl rfl ?_
    refine x_iload 6 dX26_isLess_25 rfl rfl ?_
    refine y_Vi 34 (M := mX26_digit) (As := [(0, a6)]) (st := [(1, a2), (1, w (a0 + 1) a6)]) dX26_isLess_27 ha1 rfl q3855 q3856 q3857 q393 q3858 rfl hmX26_digit rfl rfl rfl rfl rfl rfl rfl rfl (k_mono h (fun r3 w4 h => ?_))
    refine x_i2l dX26_isLess_30 rfl ?_
    refine x_lmul dX26_isLess_31 rfl ?_
    refine x_lsub dX26_isLess_32 rfl ?_
    refine x_lload 4 dX26_isLess_33 rfl rfl ?_
    refine x_lsub dX26_isLess_35 rfl ?_
    refine x_lstore 7 (ls' := [(2, a0), (2, a1), (1, a2), (9, 0), (1, a4), (9, 0), (0, a6), (1, b_l ((b_l ((w (a0 + 1) a6) - (b_l (a2 * r3)))) - a4)), (9, 0)]) dX26_isLess_36 rfl rfl rfl ?_
    refine x_lload 7 dX26_isLess_38 rfl rfl ?_
    refine x_lconst 0 (z := 0) dX26_isLess_40 rfl (by decide) rfl ?_
    refine x_lc_ge (q := 45) (t := 59) 17 dX26_isLess_41 dX26_isLess_42 rfl rfl (b_ite h (fun hc h => ?_) (fun hc h => ?_))
    · refine x_lconst 0 (z := 0) dX26_isLess_59 rfl (by decide) rfl ?_
      refine x_lstore 4 (ls' := [(2, a0), (2, a1), (1, a2), (9, 0), (1, 0), (9, 0), (0, a6), (1, b_l ((b_l ((w (a0 + 1) a6) - (b_l (a2 * r3)))) - a4)), (9, 0)]) dX26_isLess_60 rfl rfl rfl ?_
      refine x_iinc 6 1 (ls' := [(2, a0), (2, a1), (1, a2), (9, 0), (1, 0), (9, 0), (0, b_i (a6 + 1)), (1, b_l ((b_l ((w (a0 + 1) a6) - (b_l (a2 * r3)))) - a4)), (9, 0)]) dX26_isLess_62 rfl rfl rfl rfl ?_
      refine x_goto (-59) (q := 6) dX26_isLess_65 rfl ?_
      exact x_fg (fgk (fgk (fgk (fgk (fgk (fgk (fgk (fgd (fgk (fg0)))))))))) h
    · refine x_lload 7 dX26_isLess_45 rfl rfl ?_
      refine x_lneg dX26_isLess_47 rfl ?_
      refine x_ldc2 46 (x := 65535) dX26_isLess_48 q3883 rfl (by decide) rfl ?_
      refine x_ladd dX26_isLess_51 rfl ?_
      refine x_ldc2 24 (x := 65536) dX26_isLess_52 q3400 rfl (by decide) rfl ?_
      refine x_ldiv dX26_isLess_55 (by decide) rfl ?_
      refine x_goto 4 (q := 60) dX26_isLess_56 rfl ?_
      refine x_lstore 4 (ls' := [(2, a0), (2, a1), (1, a2), (9, 0), (1, b_ldiv (b_l ((b_l (-(b_l ((b_l ((w (a0 + 1) a6) - (b_l (a2 * r3)))) - a4)))) + 65535)) 65536), (9, 0), (0, a6), (1, b_l ((b_l ((w (a0 + 1) a6) - (b_l (a2 * r3)))) - a4)), (9, 0)]) dX26_isLess_60 rfl rfl rfl ?_
      refine x_iinc 6 1 (ls' := [(2, a0), (2, a1), (1, a2), (9, 0), (1, b_ldiv (b_l ((b_l (-(b_l ((b_l ((w (a0 + 1) a6) - (b_l (a2 * r3)))) - a4)))) + 65535)) 65536), (9, 0), (0, b_i (a6 + 1)), (1, b_l ((b_l ((w (a0 + 1) a6) - (b_l (a2 * r3)))) - a4)), (9, 0)]) dX26_isLess_62 rfl rfl rfl rfl ?_
      refine x_goto (-59) (q := 6) dX26_isLess_65 rfl ?_
      exact x_fg (fgk (fgk (fgk (fgk (fgk (fgk (fgk (fgd (fgk (fg0)))))))))) h
abbrev LX26_join_54 (d n : Nat) (Q : Int → bW → Prop) (X : String → bW → Prop) (a0 : Int) (a1 : Int) (a2 : Int) (a3 : Int) (a4 : Int) (a5 : Int) (w : bW) : Prop := b_Y (d + 1) mX26_join n Q X 54 [(2, a0), (2, a1), (2, a2), (0, a3), (0, a4), (0, a5), (9, 0), (9, 0)] [] w
abbrev LX26_join_95 (d n : Nat) (Q : Int → bW → Prop) (X : String → bW → Prop) (a0 : Int) (a1 : Int) (a2 : Int) (a3 : Int) (a5 : Int) (a7 : Int) (s0 : Int) (w : bW) : Prop := b_Y (d + 1) mX26_join n Q X 95 [(2, a0), (2, a1), (2, a2), (0, a3), (9, 0), (0, a5), (9, 0), (0, a7)] [(0, s0)] w
theorem rX26_join {d n : Nat} {w : bW} {Q : Int → bW → Prop} {X : String → bW → Prop} (hn : 254 ≤ n) (t : Int) (a1 : Int) (a2 : Int) (a3 : Int) (ht : b_is n t 0 24 3) (ha1 : b_is n a1 0 24 3) (ha2 : b_is n a2 0 24 3) (h : if a3 ≠ 0 then (if w a1 1 ≤ w a2 1 then (if (b_up w t 1 (w a2 1)) a1 2 = 0 then (LX26_join_54 d n Q X t a1 a2 a3 0 0 (b_up w t 1 (w a2 1))) else (LX26_join_54 d n Q X t a1 a2 a3 1 0 (b_up w t 1 (w a2 1)))) else (if (b_up w t 1 (w a1 1)) a1 2 = 0 then (LX26_join_54 d n Q X t a1 a2 a3 0 0 (b_up w t 1 (w a1 1))) else (LX26_join_54 d n Q X t a1 a2 a3 1 0 (b_up w t 1 (w a1 1))))) else (if (b_up w t 1 (w a2 1)) a1 2 = 0 then (LX26_join_54 d n Q X t a1 a2 a3 0 0 (b_up w t 1 (w a2 1))) else (LX26_join_54 d n Q X t a1 a2 a3 1 0 (b_up w t 1 (w a2 1))))) : b_K (d + 1) mX26_join [(2, t), (2, a1), (2, a2), (0, a3)] n w Q X := by
  refine k_of (by decide) rfl rfl rfl (ls := [(2, t), (2, a1), (2, a2), (0, a3), (9, 0), (9, 0), (9, 0), (9, 0)]) rfl ?_
  refine x_aload_n 0 dX26_join_0 rfl rfl rfl rfl rfl ?_
  refine x_iload_n 3 dX26_join_1 rfl rfl rfl ?_
  refine x_if_ne (t := 12) 10 dX26_join_2 rfl rfl (b_ite h (fun hc h => ?_) (fun hc h => ?_))
  · refine x_aload_n 1 dX26_join_12 rfl rfl rfl rfl rfl ?_
    refine y_get 13 1 (c := 24) (z := w a1 1) dX26_join_13 ha1 rfl in_X26 q4087 rfl rfl rfl rfl rfl ?_
    refine x_aload_n 2 dX26_join_16 rfl rfl rfl rfl rfl ?_
    refine y_get 13 1 (c := 24) (z := w a2 1) dX26_join_17 ha2 rfl in_X26 q4087 rfl rfl rfl rfl rfl ?_
    refine x_icmp_le (t := 30) 10 dX26_join_20 rfl rfl (b_ite h (fun hc h => ?_) (fun hc h => ?_))
    · refine x_aload_n 2 dX26_join_30 rfl rfl rfl rfl rfl ?_
      refine y_get 13 1 (c := 24) (z := w a2 1) dX26_join_31 ha2 rfl in_X26 q4087 rfl rfl rfl rfl rfl ?_
      refine x_put 13 1 (c := 24) dX26_join_34 ht rfl in_X26 tyX26_ok nmX26 q4087 rfl rfl rfl (Or.inl rfl) (Or.inl ⟨rfl, rfl⟩) rfl ?_
      refine x_aload_n 1 dX26_join_37 rfl rfl rfl rfl rfl ?_
      refine y_get 17 2 (c := 24) (z := (b_up w t 1 (w a2 1)) a1 2) dX26_join_38 ha1 rfl in_X26 q4089 rfl rfl rfl rfl rfl ?_
      refine x_if_eq (t := 48) 7 dX26_join_41 rfl rfl (b_ite h (fun hc h => ?_) (fun hc h => ?_))
      · refine x_iconst 0 (z := 0) dX26_join_48 rfl (by decide) rfl ?_
        refine x_istore 4 (ls' := [(2, t), (2, a1), (2, a2), (0, a3), (0, 0), (9, 0), (9, 0), (9, 0)]) dX26_join_49 rfl rfl rfl ?_
        refine x_iconst 0 (z := 0) dX26_join_51 rfl (by decide) rfl ?_
        refine x_istore 5 (ls' := [(2, t), (2, a1), (2, a2), (0, a3), (0, 0), (0, 0), (9, 0), (9, 0)]) dX26_join_52 rfl rfl rfl ?_
        exact x_fg (fgk (fgk (fgk (fgk (fgk (fgk (fgk (fgk (fg0))))))))) h
      · refine x_iconst 1 (z := 1) dX26_join_44 rfl (by decide) rfl ?_
        refine x_goto 4 (q := 49) dX26_join_45 rfl ?_
        refine x_istore 4 (ls' := [(2, t), (2, a1), (2, a2), (0, a3), (0, 1), (9, 0), (9, 0), (9, 0)]) dX26_join_49 rfl rfl rfl ?_
        refine x_iconst 0 (z := 0) dX26_join_51 rfl (by decide) rfl ?_
        refine x_istore 5 (ls' := [(2, t), (2, a1), (2, a2), (0, a3), (0, 1), (0, 0), (9, 0), (9, 0)]) dX26_join_52 rfl rfl rfl ?_
        exact x_fg (fgk (fgk (fgk (fgk (fgk (fgk (fgk (fgk (fg0))))))))) h
    · refine x_aload_n 1 dX26_join_23 rfl rfl rfl rfl rfl ?_
      refine y_get 13 1 (c := 24) (z := w a1 1) dX26_join_24 ha1 rfl in_X26 q4087 rfl rfl rfl rfl rfl ?_
      refine x_goto 7 (q := 34) dX26_join_27 rfl ?_
      refine x_put 13 1 (c := 24) dX26_join_34 ht rfl in_X26 tyX26_ok nmX26 q4087 rfl rfl rfl (Or.inl rfl) (Or.inl ⟨rfl, rfl⟩) rfl ?_
      refine x_aload_n 1 dX26_join_37 rfl rfl rfl rfl rfl ?_
      refine y_get 17 2 (c := 24) (z := (b_up w t 1 (w a1 1)) a1 2) dX26_join_38 ha1 rfl in_X26 q4089 rfl rfl rfl rfl rfl ?_
      refine x_if_eq (t := 48) 7 dX26_join_41 rfl rfl (b_ite h (fun hc h => ?_) (fun hc h => ?_))
      · refine x_iconst 0 (z := 0) dX26_join_48 rfl (by decide) rfl ?_
        refine x_istore 4 (ls' := [(2, t), (2, a1), (2, a2), (0, a3), (0, 0), (9, 0), (9, 0), (9, 0)]) dX26_join_49 rfl rfl rfl ?_
        refine x_iconst 0 (z := 0) dX26_join_51 rfl (by decide) rfl ?_
        refine x_istore 5 (ls' := [(2, t), (2, a1), (2, a2), (0, a3), (0, 0), (0, 0), (9, 0), (9, 0)]) dX26_join_52 rfl rfl rfl ?_
        exact x_fg (fgk (fgk (fgk (fgk (fgk (fgk (fgk (fgk (fg0))))))))) h
      · refine x_iconst 1 (z := 1) dX26_join_44 rfl (by decide) rfl ?_
        refine x_goto 4 (q := 49) dX26_join_45 rfl ?_
        refine x_istore 4 (ls' := [(2, t), (2, a1), (2, a2), (0, a3), (0, 1), (9, 0), (9, 0), (9, 0)]) dX26_join_49 rfl rfl rfl ?_
        refine x_iconst 0 (z := 0) dX26_join_51 rfl (by decide) rfl ?_
        refine x_istore 5 (ls' := [(2, t), (2, a1), (2, a2), (0, a3), (0, 1), (0, 0), (9, 0), (9, 0)]) dX26_join_52 rfl rfl rfl ?_
        exact x_fg (fgk (fgk (fgk (fgk (fgk (fgk (fgk (fgk (fg0))))))))) h
  · refine x_aload_n 2 dX26_join_5 rfl rfl rfl rfl rfl ?_
    refine y_get 13 1 (c := 24) (z := w a2 1) dX26_join_6 ha2 rfl in_X26 q4087 rfl rfl rfl rfl rfl ?_
    refine x_goto 25 (q := 34) dX26_join_9 rfl ?_
    refine x_put 13 1 (c := 24) dX26_join_34 ht rfl in_X26 tyX26_ok nmX26 q4087 rfl rfl rfl (Or.inl rfl) (Or.inl ⟨rfl, rfl⟩) rfl ?_
    refine x_aload_n 1 dX26_join_37 rfl rfl rfl rfl rfl ?_
    refine y_get 17 2 (c := 24) (z := (b_up w t 1 (w a2 1)) a1 2) dX26_join_38 ha1 rfl in_X26 q4089 rfl rfl rfl rfl rfl ?_
    refine x_if_eq (t := 48) 7 dX26_join_41 rfl rfl (b_ite h (fun hc h => ?_) (fun hc h => ?_))
    · refine x_iconst 0 (z := 0) dX26_join_48 rfl (by decide) rfl ?_
      refine x_istore 4 (ls' := [(2, t), (2, a1), (2, a2), (0, a3), (0, 0), (9, 0), (9, 0), (9, 0)]) dX26_join_49 rfl rfl rfl ?_
      refine x_iconst 0 (z := 0) dX26_join_51 rfl (by decide) rfl ?_
      refine x_istore 5 (ls' := [(2, t), (2, a1), (2, a2), (0, a3), (0, 0), (0, 0), (9, 0), (9, 0)]) dX26_join_52 rfl rfl rfl ?_
      exact x_fg (fgk (fgk (fgk (fgk (fgk (fgk (fgk (fgk (fg0))))))))) h
    · refine x_iconst 1 (z := 1) dX26_join_44 rfl (by decide) rfl ?_
      refine x_goto 4 (q := 49) dX26_join_45 rfl ?_
      refine x_istore 4 (ls' := [(2, t), (2, a1), (2, a2), (0, a3), (0, 1), (9, 0), (9, 0), (9, 0)]) dX26_join_49 rfl rfl rfl ?_
      refine x_iconst 0 (z := 0) dX26_join_51 rfl (by decide) rfl ?_
      refine x_istore 5 (ls' := [(2, t), (2, a1), (2, a2), (0, a3), (0, 1), (0, 0), (9, 0), (9, 0)]) dX26_join_52 rfl rfl rfl ?_
      exact x_fg (fgk (fgk (fgk (fgk (fgk (fgk (fgk (fgk (fg0))))))))) h
theorem sX26_join_54 {d n : Nat} {w : bW} {Q : Int → bW → Prop} {X : String → bW → Prop} (hn : 254 ≤ n) (a0 : Int) (a1 : Int) (a2 : Int) (a3 : Int) (a4 : Int) (a5 : Int) (ha0 : b_is n a0 0 24 3) (ha1 : b_is n a1 0 24 3) (ha2 : b_is n a2 0 24 3) (h : if w a0 1 ≤ a5 then (b_K d mX26_trim [(2, a0)] n (b_up w a0 2 0) (fun r1 w2 => Q 0 w2) X) else (b_K d mX26_digit [(2, a1), (0, a5)] n w (fun r3 w4 => if w4 a1 2 = 0 then (b_K d mX26_digit [(2, a2), (0, a5)] n w4 (fun r5 w6 => if a3 ≠ 0 then (if a3 ≠ 1 then ((0 ≤ a5 ∧ a5 < 180) ∧ (LX26_join_54 d n Q X a0 a1 a2 a3 a4 (b_i (a5 + 1)) (b_up w6 (a0 + 1) a5 (b_xor r3 r5)))) else ((0 ≤ a5 ∧ a5 < 180) ∧ (LX26_join_54 d n Q X a0 a1 a2 a3 a4 (b_i (a5 + 1)) (b_up w6 (a0 + 1) a5 (b_or r3 r5))))) else ((0 ≤ a5 ∧ a5 < 180) ∧ (LX26_join_54 d n Q X a0 a1 a2 a3 a4 (b_i (a5 + 1)) (b_up w6 (a0 + 1) a5 (b_and r3 r5))))) X) else (if 0 ≤ b_i (r3 - a4) then (LX26_join_95 d n Q X a0 a1 a2 a3 a5 (b_i (r3 - a4)) 0 w4) else (LX26_join_95 d n Q X a0 a1 a2 a3 a5 (b_i (r3 - a4)) 1 w4))) X)) : LX26_join_54 d n Q X a0 a1 a2 a3 a4 a5 w := by
  refine x_iload 5 dX26_join_54 rfl rfl ?_
  refine x_aload_n 0 dX26_join_56 rfl rfl rfl rfl rfl ?_
  refine y_get 13 1 (c := 24) (z := w a0 1) dX26_join_57 ha0 rfl in_X26 q4087 rfl rfl rfl rfl rfl ?_
  refine x_icmp_ge (t := 158) 98 dX26_join_60 rfl rfl (b_ite h (fun hc h => ?_) (fun hc h => ?_))
  · refine x_aload_n 0 dX26_join_158 rfl rfl rfl rfl rfl ?_
    refine x_iconst 0 (z := 0) dX26_join_159 rfl (by decide) rfl ?_
    refine x_put 17 2 (c := 24) dX26_join_160 ha0 rfl in_X26 tyX26_ok nmX26 q4089 rfl rfl rfl (Or.inl rfl) (Or.inr (Or.inl ⟨rfl, rfl, by decide⟩)) rfl ?_
    refine x_aload_n 0 dX26_join_163 rfl rfl rfl rfl rfl ?_
    refine y_Vv 39 (M := mX26_trim) (As := []) (st := []) dX26_join_164 ha0 rfl q3226 q3227 q3228 q393 q3229 rfl hmX26_trim rfl rfl rfl rfl rfl rfl rfl (k_mono h (fun r1 w2 h => ?_))
    exact y_vret dX26_join_167 rfl h
  · refine x_aload_n 1 dX26_join_63 rfl rfl rfl rfl rfl ?_
    refine x_iload 5 dX26_join_64 rfl rfl ?_
    refine y_Vi 34 (M := mX26_digit) (As := [(0, a5)]) (st := []) dX26_join_66 ha1 rfl q3855 q3856 q3857 q393 q3858 rfl hmX26_digit rfl rfl rfl rfl rfl rfl rfl rfl (k_mono h (fun r3 w4 h => ?_))
    refine x_istore 6 (ls' := [(2, a0), (2, a1), (2, a2), (0, a3), (0, a4), (0, a5), (0, r3), (9, 0)]) dX26_join_69 rfl rfl rfl ?_
    refine x_aload_n 1 dX26_join_71 rfl rfl rfl rfl rfl ?_
    refine y_get 17 2 (c := 24) (z := w4 a1 2) dX26_join_72 ha1 rfl in_X26 q4089 rfl rfl rfl rfl rfl ?_
    refine x_if_eq (t := 107) 32 dX26_join_75 rfl rfl (b_ite h (fun hc h => ?_) (fun hc h => ?_))
    · refine x_aload_n 2 dX26_join_107 rfl rfl rfl rfl rfl ?_
      refine x_iload 5 dX26_join_108 rfl rfl ?_
      refine y_Vi 34 (M := mX26_digit) (As := [(0, a5)]) (st := []) dX26_join_110 ha2 rfl q3855 q3856 q3857 q393 q3858 rfl hmX26_digit rfl rfl rfl rfl rfl rfl rfl rfl (k_mono h (fun r5 w6 h => ?_))
      refine x_istore 7 (ls' := [(2, a0), (2, a1), (2, a2), (0, a3), (0, a4), (0, a5), (0, r3), (0, r5)]) dX26_join_113 rfl rfl rfl ?_
      refine x_aload_n 0 dX26_join_115 rfl rfl rfl rfl rfl ?_
      refine y_getO 7 0 (c := 24) dX26_join_116 ha0 rfl in_X26 q4085 rfl rfl rfl (fun h5 hf => of_X26_0 (Nat.le_trans (Nat.le_of_ble_eq_true rfl) hn) h5 ha0 hf) rfl (fun e7 => ?_)
      refine x_iload 5 dX26_join_119 rfl rfl ?_
      refine x_iload_n 3 dX26_join_121 rfl rfl rfl ?_
      refine x_if_ne (t := 133) 11 dX26_join_122 rfl rfl (b_ite h (fun hc h => ?_) (fun hc h => ?_))
      · refine x_iload_n 3 dX26_join_133 rfl rfl rfl ?_
        refine x_iconst 1 (z := 1) dX26_join_134 rfl (by decide) rfl ?_
        refine x_icmp_ne (t := 146) 11 dX26_join_135 rfl rfl (b_ite h (fun hc h => ?_) (fun hc h => ?_))
        · refine x_iload 6 dX26_join_146 rfl rfl ?_
          refine x_iload 7 dX26_join_148 rfl rfl ?_
          refine x_ixor dX26_join_150 rfl ?_
          obtain ⟨e8, h⟩ := h
          refine y_iast (x' := b_xor r3 r5) dX26_join_151 ⟨180, e7, e8⟩ rfl rfl ?_
          refine x_iinc 5 1 (ls' := [(2, a0), (2, a1), (2, a2), (0, a3), (0, a4), (0, b_i (a5 + 1)), (0, r3), (0, r5)]) dX26_join_152 rfl rfl rfl rfl ?_
          refine x_goto (-101) (q := 54) dX26_join_155 rfl ?_
          exact x_fg (fgk (fgk (fgk (fgk (fgk (fgk (fgd (fgd (fg0))))))))) h
        · refine x_iload 6 dX26_join_138 rfl rfl ?_
          refine x_iload 7 dX26_join_140 rfl rfl ?_
          refine x_ior dX26_join_142 rfl ?_
          refine x_goto 8 (q := 151) dX26_join_143 rfl ?_
          obtain ⟨e9, h⟩ := h
          refine y_iast (x' := b_or r3 r5) dX26_join_151 ⟨180, e7, e9⟩ rfl rfl ?_
          refine x_iinc 5 1 (ls' := [(2, a0), (2, a1), (2, a2), (0, a3), (0, a4), (0, b_i (a5 + 1)), (0, r3), (0, r5)]) dX26_join_152 rfl rfl rfl rfl ?_
          refine x_goto (-101) (q := 54) dX26_join_155 rfl ?_
          exact x_fg (fgk (fgk (fgk (fgk (fgk (fgk (fgd (fgd (fg0))))))))) h
      · refine x_iload 6 dX26_join_125 rfl rfl ?_
        refine x_iload 7 dX26_join_127 rfl rfl ?_
        refine x_iand dX26_join_129 rfl ?_
        refine x_goto 21 (q := 151) dX26_join_130 rfl ?_
        obtain ⟨e10, h⟩ := h
        refine y_iast (x' := b_and r3 r5) dX26_join_151 ⟨180, e7, e10⟩ rfl rfl ?_
        refine x_iinc 5 1 (ls' := [(2, a0), (2, a1), (2, a2), (0, a3), (0, a4), (0, b_i (a5 + 1)), (0, r3), (0, r5)]) dX26_join_152 rfl rfl rfl rfl ?_
        refine x_goto (-101) (q := 54) dX26_join_155 rfl ?_
        exact x_fg (fgk (fgk (fgk (fgk (fgk (fgk (fgd (fgd (fg0))))))))) h
    · refine x_iload 6 dX26_join_78 rfl rfl ?_
      refine x_iload 4 dX26_join_80 rfl rfl ?_
      refine x_isub dX26_join_82 rfl ?_
      refine x_istore 7 (ls' := [(2, a0), (2, a1), (2, a2), (0, a3), (0, a4), (0, a5), (0, r3), (0, b_i (r3 - a4))]) dX26_join_83 rfl rfl rfl ?_
      refine x_iload 7 dX26_join_85 rfl rfl ?_
      refine x_if_ge (t := 94) 7 dX26_join_87 rfl rfl (b_ite h (fun hc h => ?_) (fun hc h => ?_))
      · refine x_iconst 0 (z := 0) dX26_join_94 rfl (by decide) rfl ?_
        exact x_fg (fgk (fgk (fgk (fgk (fgd (fgk (fgd (fgk (fg0))))))))) h
      · refine x_iconst 1 (z := 1) dX26_join_90 rfl (by decide) rfl ?_
        refine x_goto 4 (q := 95) dX26_join_91 rfl ?_
        exact x_fg (fgk (fgk (fgk (fgk (fgd (fgk (fgd (fgk (fg0))))))))) h
theorem sX26_join_95 {d n : Nat} {w : bW} {Q : Int → bW → Prop} {X : String → bW → Prop} (hn : 254 ≤ n) (a0 : Int) (a1 : Int) (a2 : Int) (a3 : Int) (a5 : Int) (a7 : Int) (s0 : Int) (ha0 : b_is n a0 0 24 3) (ha1 : b_is n a1 0 24 3) (ha2 : b_is n a2 0 24 3) (h : b_K d mX26_digit [(2, a2), (0, a5)] n w (fun r1 w2 => if a3 ≠ 0 then (if a3 ≠ 1 then ((0 ≤ a5 ∧ a5 < 180) ∧ (LX26_join_54 d n Q X a0 a1 a2 a3 s0 (b_i (a5 + 1)) (b_up w2 (a0 + 1) a5 (b_xor (b_i (65535 - (b_and a7 65535))) r1)))) else ((0 ≤ a5 ∧ a5 < 180) ∧ (LX26_join_54 d n Q X a0 a1 a2 a3 s0 (b_i (a5 + 1)) (b_up w2 (a0 + 1) a5 (b_or (b_i (65535 - (b_and a7 65535))) r1))))) else ((0 ≤ a5 ∧ a5 < 180) ∧ (LX26_join_54 d n Q X a0 a1 a2 a3 s0 (b_i (a5 + 1)) (b_up w2 (a0 + 1) a5 (b_and (b_i (65535 - (b_and a7 65535))) r1))))) X) : LX26_join_95 d n Q X a0 a1 a2 a3 a5 a7 s0 w := by
  refine x_istore 4 (ls' := [(2, a0), (2, a1), (2, a2), (0, a3), (0, s0), (0, a5), (9, 0), (0, a7)]) dX26_join_95 rfl rfl rfl ?_
  refine x_ldc 52 (x := 65535) dX26_join_97 q3891 rfl (by decide) rfl ?_
  refine x_iload 7 dX26_join_99 rfl rfl ?_
  refine x_ldc 52 (x := 65535) dX26_join_101 q3891 rfl (by decide) rfl ?_
  refine x_iand dX26_join_103 rfl ?_
  refine x_isub dX26_join_104 rfl ?_
  refine x_istore 6 (ls' := [(2, a0), (2, a1), (2, a2), (0, a3), (0, s0), (0, a5), (0, b_i (65535 - (b_and a7 65535))), (0, a7)]) dX26_join_105 rfl rfl rfl ?_
  refine x_aload_n 2 dX26_join_107 rfl rfl rfl rfl rfl ?_
  refine x_iload 5 dX26_join_108 rfl rfl ?_
  refine y_Vi 34 (M := mX26_digit) (As := [(0, a5)]) (st := []) dX26_join_110 ha2 rfl q3855 q3856 q3857 q393 q3858 rfl hmX26_digit rfl rfl rfl rfl rfl rfl rfl rfl (k_mono h (fun r1 w2 h => ?_))
  refine x_istore 7 (ls' := [(2, a0), (2, a1), (2, a2), (0, a3), (0, s0), (0, a5), (0, b_i (65535 - (b_and a7 65535))), (0, r1)]) dX26_join_113 rfl rfl rfl ?_
  refine x_aload_n 0 dX26_join_115 rfl rfl rfl rfl rfl ?_
  refine y_getO 7 0 (c := 24) dX26_join_116 ha0 rfl in_X26 q4085 rfl rfl rfl (fun h5 hf => of_X26_0 (Nat.le_trans (Nat.le_of_ble_eq_true rfl) hn) h5 ha0 hf) rfl (fun e3 => ?_)
  refine x_iload 5 dX26_join_119 rfl rfl ?_
  refine x_iload_n 3 dX26_join_121 rfl rfl rfl ?_
  refine x_if_ne (t := 133) 11 dX26_join_122 rfl rfl (b_ite h (fun hc h => ?_) (fun hc h => ?_))
  · refine x_iload_n 3 dX26_join_133 rfl rfl rfl ?_
    refine x_iconst 1 (z := 1) dX26_join_134 rfl (by decide) rfl ?_
    refine x_icmp_ne (t := 146) 11 dX26_join_135 rfl rfl (b_ite h (fun hc h => ?_) (fun hc h => ?_))
    · refine x_iload 6 dX26_join_146 rfl rfl ?_
      refine x_iload 7 dX26_join_148 rfl rfl ?_
      refine x_ixor dX26_join_150 rfl ?_
      obtain ⟨e4, h⟩ := h
      refine y_iast (x' := b_xor (b_i (65535 - (b_and a7 65535))) r1) dX26_join_151 ⟨180, e3, e4⟩ rfl rfl ?_
      refine x_iinc 5 1 (ls' := [(2, a0), (2, a1), (2, a2), (0, a3), (0, s0), (0, b_i (a5 + 1)), (0, b_i (65535 - (b_and a7 65535))), (0, r1)]) dX26_join_152 rfl rfl rfl rfl ?_
      refine x_goto (-101) (q := 54) dX26_join_155 rfl ?_
      exact x_fg (fgk (fgk (fgk (fgk (fgk (fgk (fgd (fgd (fg0))))))))) h
    · refine x_iload 6 dX26_join_138 rfl rfl ?_
      refine x_iload 7 dX26_join_140 rfl rfl ?_
      refine x_ior dX26_join_142 rfl ?_
      refine x_goto 8 (q := 151) dX26_join_143 rfl ?_
      obtain ⟨e5, h⟩ := h
      refine y_iast (x' := b_or (b_i (65535 - (b_and a7 65535))) r1) dX26_join_151 ⟨180, e3, e5⟩ rfl rfl ?_
      refine x_iinc 5 1 (ls' := [(2, a0), (2, a1), (2, a2), (0, a3), (0, s0), (0, b_i (a5 + 1)), (0, b_i (65535 - (b_and a7 65535))), (0, r1)]) dX26_join_152 rfl rfl rfl rfl ?_
      refine x_goto (-101) (q := 54) dX26_join_155 rfl ?_
      exact x_fg (fgk (fgk (fgk (fgk (fgk (fgk (fgd (fgd (fg0))))))))) h
  · refine x_iload 6 dX26_join_125 rfl rfl ?_
    refine x_iload 7 dX26_join_127 rfl rfl ?_
    refine x_iand dX26_join_129 rfl ?_
    refine x_goto 21 (q := 151) dX26_join_130 rfl ?_
    obtain ⟨e6, h⟩ := h
    refine y_iast (x' := b_and (b_i (65535 - (b_and a7 65535))) r1) dX26_join_151 ⟨180, e3, e6⟩ rfl rfl ?_
    refine x_iinc 5 1 (ls' := [(2, a0), (2, a1), (2, a2), (0, a3), (0, s0), (0, b_i (a5 + 1)), (0, b_i (65535 - (b_and a7 65535))), (0, r1)]) dX26_join_152 rfl rfl rfl rfl ?_
    refine x_goto (-101) (q := 54) dX26_join_155 rfl ?_
    exact x_fg (fgk (fgk (fgk (fgk (fgk (fgk (fgd (fgd (fg0))))))))) h
abbrev LX26_up_26 (d n : Nat) (Q : Int → bW → Prop) (X : String → bW → Prop) (a0 : Int) (a1 : Int) (a3 : Int) (a4 : Int) (a5 : Int) (w : bW) : Prop := b_Y (d + 1) mX26_up n Q X 26 [(2, a0), (2, a1), (9, 0), (0, a3), (0, a4), (0, a5), (9, 0)] [] w
abbrev LX26_up_52 (d n : Nat) (Q : Int → bW → Prop) (X : String → bW → Prop) (a0 : Int) (a1 : Int) (a3 : Int) (a4 : Int) (a5 : Int) (w : bW) : Prop := b_Y (d + 1) mX26_up n Q X 52 [(2, a0), (2, a1), (9, 0), (0, a3), (0, a4), (0, a5), (9, 0)] [] w
theorem rX26_up {d n : Nat} {w : bW} {Q : Int → bW → Prop} {X : String → bW → Prop} (hn : 254 ≤ n) (t : Int) (a1 : Int) (a2 : Int) (ht : b_is n t 0 24 3) (ha1 : b_is n a1 0 24 3) (h : LX26_up_26 d n Q X t a1 (b_div a2 16) (b_rem a2 16) 0 (b_up w t 1 (b_i ((b_i ((w a1 1) + (b_div a2 16))) + 1)))) : b_K (d + 1) mX26_up [(2, t), (2, a1), (0, a2)] n w Q X := by
  refine k_of (by decide) rfl rfl rfl (ls := [(2, t), (2, a1), (0, a2), (9, 0), (9, 0), (9, 0), (9, 0)]) rfl ?_
  refine x_iload_n 2 dX26_up_0 rfl rfl rfl ?_
  refine x_bipush 16 (z := 16) dX26_up_1 rfl (by decide) rfl ?_
  refine x_idiv dX26_up_3 (by decide) rfl ?_
  refine x_istore_n 3 (ls' := [(2, t), (2, a1), (0, a2), (0, b_div a2 16), (9, 0), (9, 0), (9, 0)]) dX26_up_4 rfl rfl rfl rfl ?_
  refine x_iload_n 2 dX26_up_5 rfl rfl rfl ?_
  refine x_bipush 16 (z := 16) dX26_up_6 rfl (by decide) rfl ?_
  refine x_irem dX26_up_8 (by decide) rfl ?_
  refine x_istore 4 (ls' := [(2, t), (2, a1), (0, a2), (0, b_div a2 16), (0, b_rem a2 16), (9, 0), (9, 0)]) dX26_up_9 rfl rfl rfl ?_
  refine x_aload_n 0 dX26_up_11 rfl rfl rfl rfl rfl ?_
  refine x_aload_n 1 dX26_up_12 rfl rfl rfl rfl rfl ?_
  refine y_get 13 1 (c := 24) (z := w a1 1) dX26_up_13 ha1 rfl in_X26 q4087 rfl rfl rfl rfl rfl ?_
  refine x_iload_n 3 dX26_up_16 rfl rfl rfl ?_
  refine x_iadd dX26_up_17 rfl ?_
  refine x_iconst 1 (z := 1) dX26_up_18 rfl (by decide) rfl ?_
  refine x_iadd dX26_up_19 rfl ?_
  refine x_put 13 1 (c := 24) dX26_up_20 ht rfl in_X26 tyX26_ok nmX26 q4087 rfl rfl rfl (Or.inl rfl) (Or.inl ⟨rfl, rfl⟩) rfl ?_
  refine x_iconst 0 (z := 0) dX26_up_23 rfl (by decide) rfl ?_
  refine x_istore 5 (ls' := [(2, t), (2, a1), (0, a2), (0, b_div a2 16), (0, b_rem a2 16), (0, 0), (9, 0)]) dX26_up_24 rfl rfl rfl ?_
  exact x_fg (fgk (fgk (fgd (fgk (fgk (fgk (fgk (fg0)))))))) h
theorem sX26_up_26 {d n : Nat} {w : bW} {Q : Int → bW → Prop} {X : String → bW → Prop} (hn : 254 ≤ n) (a0 : Int) (a1 : Int) (a3 : Int) (a4 : Int) (a5 : Int) (ha0 : b_is n a0 0 24 3) (ha1 : b_is n a1 0 24 3) (h : if w a0 1 ≤ a5 then (LX26_up_52 d n Q X a0 a1 a3 a4 0 w) else ((0 ≤ a5 ∧ a5 < 180) ∧ (LX26_up_26 d n Q X a0 a1 a3 a4 (b_i (a5 + 1)) (b_up w (a0 + 1) a5 0)))) : LX26_up_26 d n Q X a0 a1 a3 a4 a5 w := by
  refine x_iload 5 dX26_up_26 rfl rfl ?_
  refine x_aload_n 0 dX26_up_28 rfl rfl rfl rfl rfl ?_
  refine y_get 13 1 (c := 24) (z := w a0 1) dX26_up_29 ha0 rfl in_X26 q4087 rfl rfl rfl rfl rfl ?_
  refine x_icmp_ge (t := 49) 17 dX26_up_32 rfl rfl (b_ite h (fun hc h => ?_) (fun hc h => ?_))
  · refine x_iconst 0 (z := 0) dX26_up_49 rfl (by decide) rfl ?_
    refine x_istore 5 (ls' := [(2, a0), (2, a1), (9, 0), (0, a3), (0, a4), (0, 0), (9, 0)]) dX26_up_50 rfl rfl rfl ?_
    exact x_fg (fgk (fgk (fgk (fgk (fgk (fgk (fgk (fg0)))))))) h
  · refine x_aload_n 0 dX26_up_35 rfl rfl rfl rfl rfl ?_
    refine y_getO 7 0 (c := 24) dX26_up_36 ha0 rfl in_X26 q4085 rfl rfl rfl (fun h5 hf => of_X26_0 (Nat.le_trans (Nat.le_of_ble_eq_true rfl) hn) h5 ha0 hf) rfl (fun e1 => ?_)
    refine x_iload 5 dX26_up_39 rfl rfl ?_
    refine x_iconst 0 (z := 0) dX26_up_41 rfl (by decide) rfl ?_
    obtain ⟨e2, h⟩ := h
    refine y_iast (x' := 0) dX26_up_42 ⟨180, e1, e2⟩ rfl rfl ?_
    refine x_iinc 5 1 (ls' := [(2, a0), (2, a1), (9, 0), (0, a3), (0, a4), (0, b_i (a5 + 1)), (9, 0)]) dX26_up_43 rfl rfl rfl rfl ?_
    refine x_goto (-20) (q := 26) dX26_up_46 rfl ?_
    exact x_fg (fgk (fgk (fgk (fgk (fgk (fgk (fgk (fg0)))))))) h
theorem sX26_up_52 {d n : Nat} {w : bW} {Q : Int → bW → Prop} {X : String → bW → Prop} (hn : 254 ≤ n) (a0 : Int) (a1 : Int) (a3 : Int) (a4 : Int) (a5 : Int) (ha0 : b_is n a0 0 24 3) (ha1 : b_is n a1 0 24 3) (h : if w a1 1 ≤ a5 then ((w a1 2 = 0 ∨ w a1 2 = 1) ∧ (b_K d mX26_trim [(2, a0)] n (b_up w a0 2 (w a1 2)) (fun r2 w3 => Q 0 w3) X)) else ((0 ≤ a5 ∧ a5 < 180) ∧ ((0 ≤ b_i (a5 + a3) ∧ b_i (a5 + a3) < 180) ∧ ((0 ≤ b_i ((b_i (a5 + a3)) + 1) ∧ b_i ((b_i (a5 + a3)) + 1) < 180) ∧ (LX26_up_52 d n Q X a0 a1 a3 a4 (b_i (a5 + 1)) (b_up (b_up w (a0 + 1) (b_i (a5 + a3)) (b_or (w (a0 + 1) (b_i (a5 + a3))) (b_rem (b_shl (w (a1 + 1) a5) a4) 65536))) (a0 + 1) (b_i ((b_i (a5 + a3)) + 1)) (b_or ((b_up w (a0 + 1) (b_i (a5 + a3)) (b_or (w (a0 + 1) (b_i (a5 + a3))) (b_rem (b_shl (w (a1 + 1) a5) a4) 65536))) (a0 + 1) (b_i ((b_i (a5 + a3)) + 1))) (b_div (b_shl (w (a1 + 1) a5) a4) 65536)))))))) : LX26_up_52 d n Q X a0 a1 a3 a4 a5 w := by
  refine x_iload 5 dX26_up_52 rfl rfl ?_
  refine x_aload_n 1 dX26_up_54 rfl rfl rfl rfl rfl ?_
  refine y_get 13 1 (c := 24) (z := w a1 1) dX26_up_55 ha1 rfl in_X26 q4087 rfl rfl rfl rfl rfl ?_
  refine x_icmp_ge (t := 115) 57 dX26_up_58 rfl rfl (b_ite h (fun hc h => ?_) (fun hc h => ?_))
  · refine x_aload_n 0 dX26_up_115 rfl rfl rfl rfl rfl ?_
    refine x_aload_n 1 dX26_up_116 rfl rfl rfl rfl rfl ?_
    refine y_get 17 2 (c := 24) (z := w a1 2) dX26_up_117 ha1 rfl in_X26 q4089 rfl rfl rfl rfl rfl ?_
    obtain ⟨e1, h⟩ := h
    refine x_put 17 2 (c := 24) dX26_up_120 ha0 rfl in_X26 tyX26_ok nmX26 q4089 rfl rfl rfl (Or.inl rfl) (Or.inr (Or.inl ⟨rfl, rfl, e1⟩)) rfl ?_
    refine x_aload_n 0 dX26_up_123 rfl rfl rfl rfl rfl ?_
    refine y_Vv 39 (M := mX26_trim) (As := []) (st := []) dX26_up_124 ha0 rfl q3226 q3227 q3228 q393 q3229 rfl hmX26_trim rfl rfl rfl rfl rfl rfl rfl (k_mono h (fun r2 w3 h => ?_))
    exact y_vret dX26_up_127 rfl h
  · refine x_aload_n 1 dX26_up_61 rfl rfl rfl rfl rfl ?_
    refine y_getO 7 0 (c := 24) dX26_up_62 ha1 rfl in_X26 q4085 rfl rfl rfl (fun h5 hf => of_X26_0 (Nat.le_trans (Nat.le_of_ble_eq_true rfl) hn) h5 ha1 hf) rfl (fun e4 => ?_)
    refine x_iload 5 dX26_up_65 rfl rfl ?_
    obtain ⟨e5, h⟩ := h
    refine y_iald (z := w (a1 + 1) a5) dX26_up_67 ⟨180, e4, e5⟩ rfl rfl ?_
    refine x_iload 4 dX26_up_68 rfl rfl ?_
    refine x_ishl dX26_up_70 rfl ?_
    refine x_istore 6 (ls' := [(2, a0), (2, a1), (9, 0), (0, a3), (0, a4), (0, a5), (0, b_shl (w (a1 + 1) a5) a4)]) dX26_up_71 rfl rfl rfl ?_
    refine x_aload_n 0 dX26_up_73 rfl rfl rfl rfl rfl ?_
    refine y_getO 7 0 (c := 24) dX26_up_74 ha0 rfl in_X26 q4085 rfl rfl rfl (fun h5 hf => of_X26_0 (Nat.le_trans (Nat.le_of_ble_eq_true rfl) hn) h5 ha0 hf) rfl (fun e6 => ?_)
    refine x_iload 5 dX26_up_77 rfl rfl ?_
    refine x_iload_n 3 dX26_up_79 rfl rfl rfl ?_
    refine x_iadd dX26_up_80 rfl ?_
    refine x_dup2 dX26_up_81 rfl rfl rfl ?_
    obtain ⟨e7, h⟩ := h
    refine y_iald (z := w (a0 + 1) (b_i (a5 + a3))) dX26_up_82 ⟨180, e6, e7⟩ rfl rfl ?_
    refine x_iload 6 dX26_up_83 rfl rfl ?_
    refine x_ldc 38 (x := 65536) dX26_up_85 q3225 rfl (by decide) rfl ?_
    refine x_irem dX26_up_87 (by decide) rfl ?_
    refine x_ior dX26_up_88 rfl ?_
    refine y_iast (x' := b_or (w (a0 + 1) (b_i (a5 + a3))) (b_rem (b_shl (w (a1 + 1) a5) a4) 65536)) dX26_up_89 ⟨180, e6, e7⟩ rfl rfl ?_
    refine x_aload_n 0 dX26_up_90 rfl rfl rfl rfl rfl ?_
    refine y_getO 7 0 (c := 24) dX26_up_91 ha0 rfl in_X26 q4085 rfl rfl rfl (fun h5 hf => of_X26_0 (Nat.le_trans (Nat.le_of_ble_eq_true rfl) hn) h5 ha0 hf) rfl (fun e8 => ?_)
    refine x_iload 5 dX26_up_94 rfl rfl ?_
    refine x_iload_n 3 dX26_up_96 rfl rfl rfl ?_
    refine x_iadd dX26_up_97 rfl ?_
    refine x_iconst 1 (z := 1) dX26_up_98 rfl (by decide) rfl ?_
    refine x_iadd dX26_up_99 rfl ?_
    refine x_dup2 dX26_up_100 rfl rfl rfl ?_
    obtain ⟨e9, h⟩ := h
    refine y_iald (z := (b_up w (a0 + 1) (b_i (a5 + a3)) (b_or (w (a0 + 1) (b_i (a5 + a3))) (b_rem (b_shl (w (a1 + 1) a5) a4) 65536))) (a0 + 1) (b_i ((b_i (a5 + a3)) + 1))) dX26_up_101 ⟨180, e8, e9⟩ rfl rfl ?_
    refine x_iload 6 dX26_up_102 rfl rfl ?_
    refine x_ldc 38 (x := 65536) dX26_up_104 q3225 rfl (by decide) rfl ?_
    refine x_idiv dX26_up_106 (by decide) rfl ?_
    refine x_ior dX26_up_107 rfl ?_
    refine y_iast (x' := b_or ((b_up w (a0 + 1) (b_i (a5 + a3)) (b_or (w (a0 + 1) (b_i (a5 + a3))) (b_rem (b_shl (w (a1 + 1) a5) a4) 65536))) (a0 + 1) (b_i ((b_i (a5 + a3)) + 1))) (b_div (b_shl (w (a1 + 1) a5) a4) 65536)) dX26_up_108 ⟨180, e8, e9⟩ rfl rfl ?_
    refine x_iinc 5 1 (ls' := [(2, a0), (2, a1), (9, 0), (0, a3), (0, a4), (0, b_i (a5 + 1)), (0, b_shl (w (a1 + 1) a5) a4)]) dX26_up_109 rfl rfl rfl rfl ?_
    refine x_goto (-60) (q := 52) dX26_up_112 rfl ?_
    exact x_fg (fgk (fgk (fgk (fgk (fgk (fgk (fgd (fg0)))))))) h
abbrev LX26_down_36 (d n : Nat) (Q : Int → bW → Prop) (X : String → bW → Prop) (a0 : Int) (a1 : Int) (a3 : Int) (a4 : Int) (a5 : Int) (w : bW) : Prop := b_Y (d + 1) mX26_down n Q X 36 [(2, a0), (2, a1), (9, 0), (0, a3), (0, a4), (0, a5)] [] w
theorem rX26_down {d n : Nat} {w : bW} {Q : Int → bW → Prop} {X : String → bW → Prop} (hn : 254 ≤ n) (t : Int) (a1 : Int) (a2 : Int) (ht : b_is n t 0 24 3) (ha1 : b_is n a1 0 24 3) (h : if w a1 1 ≤ b_div a2 16 then (LX26_down_36 d n Q X t a1 (b_div a2 16) (b_rem a2 16) 0 (b_up w t 1 0)) else (LX26_down_36 d n Q X t a1 (b_div a2 16) (b_rem a2 16) 0 (b_up w t 1 (b_i ((w a1 1) - (b_div a2 16)))))) : b_K (d + 1) mX26_down [(2, t), (2, a1), (0, a2)] n w Q X := by
  refine k_of (by decide) rfl rfl rfl (ls := [(2, t), (2, a1), (0, a2), (9, 0), (9, 0), (9, 0)]) rfl ?_
  refine x_iload_n 2 dX26_down_0 rfl rfl rfl ?_
  refine x_bipush 16 (z := 16) dX26_down_1 rfl (by decide) rfl ?_
  refine x_idiv dX26_down_3 (by decide) rfl ?_
  refine x_istore_n 3 (ls' := [(2, t), (2, a1), (0, a2), (0, b_div a2 16), (9, 0), (9, 0)]) dX26_down_4 rfl rfl rfl rfl ?_
  refine x_iload_n 2 dX26_down_5 rfl rfl rfl ?_
  refine x_bipush 16 (z := 16) dX26_down_6 rfl (by decide) rfl ?_
  refine x_irem dX26_down_8 (by decide) rfl ?_
  refine x_istore 4 (ls' := [(2, t), (2, a1), (0, a2), (0, b_div a2 16), (0, b_rem a2 16), (9, 0)]) dX26_down_9 rfl rfl rfl ?_
  refine x_aload_n 0 dX26_down_11 rfl rfl rfl rfl rfl ?_
  refine x_aload_n 1 dX26_down_12 rfl rfl rfl rfl rfl ?_
  refine y_get 13 1 (c := 24) (z := w a1 1) dX26_down_13 ha1 rfl in_X26 q4087 rfl rfl rfl rfl rfl ?_
  refine x_iload_n 3 dX26_down_16 rfl rfl rfl ?_
  refine x_icmp_le (t := 29) 12 dX26_down_17 rfl rfl (b_ite h (fun hc h => ?_) (fun hc h => ?_))
  · refine x_iconst 0 (z := 0) dX26_down_29 rfl (by decide) rfl ?_
    refine x_put 13 1 (c := 24) dX26_down_30 ht rfl in_X26 tyX26_ok nmX26 q4087 rfl rfl rfl (Or.inl rfl) (Or.inl ⟨rfl, rfl⟩) rfl ?_
    refine x_iconst 0 (z := 0) dX26_down_33 rfl (by decide) rfl ?_
    refine x_istore 5 (ls' := [(2, t), (2, a1), (0, a2), (0, b_div a2 16), (0, b_rem a2 16), (0, 0)]) dX26_down_34 rfl rfl rfl ?_
    exact x_fg (fgk (fgk (fgd (fgk (fgk (fgk (fg0))))))) h
  · refine x_aload_n 1 dX26_down_20 rfl rfl rfl rfl rfl ?_
    refine y_get 13 1 (c := 24) (z := w a1 1) dX26_down_21 ha1 rfl in_X26 q4087 rfl rfl rfl rfl rfl ?_
    refine x_iload_n 3 dX26_down_24 rfl rfl rfl ?_
    refine x_isub dX26_down_25 rfl ?_
    refine x_goto 4 (q := 30) dX26_down_26 rfl ?_
    refine x_put 13 1 (c := 24) dX26_down_30 ht rfl in_X26 tyX26_ok nmX26 q4087 rfl rfl rfl (Or.inl rfl) (Or.inl ⟨rfl, rfl⟩) rfl ?_
    refine x_iconst 0 (z := 0) dX26_down_33 rfl (by decide) rfl ?_
    refine x_istore 5 (ls' := [(2, t), (2, a1), (0, a2), (0, b_div a2 16), (0, b_rem a2 16), (0, 0)]) dX26_down_34 rfl rfl rfl ?_
    exact x_fg (fgk (fgk (fgd (fgk (fgk (fgk (fg0))))))) h
theorem sX26_down_36 {d n : Nat} {w : bW} {Q : Int → bW → Prop} {X : String → bW → Prop} (hn : 254 ≤ n) (a0 : Int) (a1 : Int) (a3 : Int) (a4 : Int) (a5 : Int) (ha0 : b_is n a0 0 24 3) (ha1 : b_is n a1 0 24 3) (h : if w a0 1 ≤ a5 then ((w a1 2 = 0 ∨ w a1 2 = 1) ∧ (b_K d mX26_trim [(2, a0)] n (b_up w a0 2 (w a1 2)) (fun r2 w3 => Q 0 w3) X)) else (b_K d mX26_digit [(2, a1), (0, b_i (a5 + a3))] n w (fun r5 w6 => b_K d mX26_digit [(2, a1), (0, b_i ((b_i (a5 + a3)) + 1))] n w6 (fun r7 w8 => (0 ≤ a5 ∧ a5 < 180) ∧ (LX26_down_36 d n Q X a0 a1 a3 a4 (b_i (a5 + 1)) (b_up w8 (a0 + 1) a5 (b_and (b_or (b_shr r5 a4) (b_shl r7 (b_i (16 - a4)))) 65535)))) X) X)) : LX26_down_36 d n Q X a0 a1 a3 a4 a5 w := by
  refine x_iload 5 dX26_down_36 rfl rfl ?_
  refine x_aload_n 0 dX26_down_38 rfl rfl rfl rfl rfl ?_
  refine y_get 13 1 (c := 24) (z := w a0 1) dX26_down_39 ha0 rfl in_X26 q4087 rfl rfl rfl rfl rfl ?_
  refine x_icmp_ge (t := 89) 47 dX26_down_42 rfl rfl (b_ite h (fun hc h => ?_) (fun hc h => ?_))
  · refine x_aload_n 0 dX26_down_89 rfl rfl rfl rfl rfl ?_
    refine x_aload_n 1 dX26_down_90 rfl rfl rfl rfl rfl ?_
    refine y_get 17 2 (c := 24) (z := w a1 2) dX26_down_91 ha1 rfl in_X26 q4089 rfl rfl rfl rfl rfl ?_
    obtain ⟨e1, h⟩ := h
    refine x_put 17 2 (c := 24) dX26_down_94 ha0 rfl in_X26 tyX26_ok nmX26 q4089 rfl rfl rfl (Or.inl rfl) (Or.inr (Or.inl ⟨rfl, rfl, e1⟩)) rfl ?_
    refine x_aload_n 0 dX26_down_97 rfl rfl rfl rfl rfl ?_
    refine y_Vv 39 (M := mX26_trim) (As := []) (st := []) dX26_down_98 ha0 rfl q3226 q3227 q3228 q393 q3229 rfl hmX26_trim rfl rfl rfl rfl rfl rfl rfl (k_mono h (fun r2 w3 h => ?_))
    exact y_vret dX26_down_101 rfl h
  · refine x_aload_n 0 dX26_down_45 rfl rfl rfl rfl rfl ?_
    refine y_getO 7 0 (c := 24) dX26_down_46 ha0 rfl in_X26 q4085 rfl rfl rfl (fun h5 hf => of_X26_0 (Nat.le_trans (Nat.le_of_ble_eq_true rfl) hn) h5 ha0 hf) rfl (fun e4 => ?_)
    refine x_iload 5 dX26_down_49 rfl rfl ?_
    refine x_aload_n 1 dX26_down_51 rfl rfl rfl rfl rfl ?_
    refine x_iload 5 dX26_down_52 rfl rfl ?_
    refine x_iload_n 3 dX26_down_54 rfl rfl rfl ?_
    refine x_iadd dX26_down_55 rfl ?_
    refine y_Vi 34 (M := mX26_digit) (As := [(0, b_i (a5 + a3))]) (st := [(0, a5), (2, a0 + 1)]) dX26_down_56 ha1 rfl q3855 q3856 q3857 q393 q3858 rfl hmX26_digit rfl rfl rfl rfl rfl rfl rfl rfl (k_mono h (fun r5 w6 h => ?_))
    refine x_iload 4 dX26_down_59 rfl rfl ?_
    refine x_ishr dX26_down_61 rfl ?_
    refine x_aload_n 1 dX26_down_62 rfl rfl rfl rfl rfl ?_
    refine x_iload 5 dX26_down_63 rfl rfl ?_
    refine x_iload_n 3 dX26_down_65 rfl rfl rfl ?_
    refine x_iadd dX26_down_66 rfl ?_
    refine x_iconst 1 (z := 1) dX26_down_67 rfl (by decide) rfl ?_
    refine x_iadd dX26_down_68 rfl ?_
    refine y_Vi 34 (M := mX26_digit) (As := [(0, b_i ((b_i (a5 + a3)) + 1))]) (st := [(0, b_shr r5 a4), (0, a5), (2, a0 + 1)]) dX26_down_69 ha1 rfl q3855 q3856 q3857 q393 q3858 rfl hmX26_digit rfl rfl rfl rfl rfl rfl rfl rfl (k_mono h (fun r7 w8 h => ?_))
    refine x_bipush 16 (z := 16) dX26_down_72 rfl (by decide) rfl ?_
    refine x_iload 4 dX26_down_74 rfl rfl ?_
    refine x_isub dX26_down_76 rfl ?_
    refine x_ishl dX26_down_77 rfl ?_
    refine x_ior dX26_down_78 rfl ?_
    refine x_ldc 52 (x := 65535) dX26_down_79 q3891 rfl (by decide) rfl ?_
    refine x_iand dX26_down_81 rfl ?_
    obtain ⟨e9, h⟩ := h
    refine y_iast (x' := b_and (b_or (b_shr r5 a4) (b_shl r7 (b_i (16 - a4)))) 65535) dX26_down_82 ⟨180, e4, e9⟩ rfl rfl ?_
    refine x_iinc 5 1 (ls' := [(2, a0), (2, a1), (9, 0), (0, a3), (0, a4), (0, b_i (a5 + 1))]) dX26_down_83 rfl rfl rfl rfl ?_
    refine x_goto (-50) (q := 36) dX26_down_86 rfl ?_
    exact x_fg (fgk (fgk (fgk (fgk (fgk (fgk (fg0))))))) h
abbrev LX26_part_7 (d n : Nat) (Q : Int → bW → Prop) (X : String → bW → Prop) (a0 : Int) (a1 : Int) (a3 : Int) (a4 : Int) (w : bW) : Prop := b_Y (d + 1) mX26_part n Q X 7 [(2, a0), (0, a1), (9, 0), (0, a3), (0, a4), (9, 0)] [] w
theorem rX26_part {d n : Nat} {w : bW} {Q : Int → bW → Prop} {X : String → bW → Prop} (t : Int) (a1 : Int) (a2 : Int) (ht : b_is n t 0 24 3) (h : LX26_part_7 d n Q X t a1 0 (b_i (a2 - 1)) w) : b_K (d + 1) mX26_part [(2, t), (0, a1), (0, a2)] n w Q X := by
  refine k_of (by decide) rfl rfl rfl (ls := [(2, t), (0, a1), (0, a2), (9, 0), (9, 0), (9, 0)]) rfl ?_
  refine x_iconst 0 (z := 0) dX26_part_0 rfl (by decide) rfl ?_
  refine x_istore_n 3 (ls' := [(2, t), (0, a1), (0, a2), (0, 0), (9, 0), (9, 0)]) dX26_part_1 rfl rfl rfl rfl ?_
  refine x_iload_n 2 dX26_part_2 rfl rfl rfl ?_
  refine x_iconst 1 (z := 1) dX26_part_3 rfl (by decide) rfl ?_
  refine x_isub dX26_part_4 rfl ?_
  refine x_istore 4 (ls' := [(2, t), (0, a1), (0, a2), (0, 0), (0, b_i (a2 - 1)), (9, 0)]) dX26_part_5 rfl rfl rfl ?_
  exact x_fg (fgk (fgk (fgd (fgk (fgk (fgk (fg0))))))) h
theorem sX26_part_7 {d n : Nat} {w : bW} {Q : Int → bW → Prop} {X : String → bW → Prop} (a0 : Int) (a1 : Int) (a3 : Int) (a4 : Int) (ha0 : b_is n a0 0 24 3) (h : if a4 < 0 then (Q a3 w) else (b_K d mX26_digit [(2, a0), (0, b_div (b_i (a1 + a4)) 16)] n w (fun r1 w2 => LX26_part_7 d n Q X a0 a1 (b_i ((b_i (2 * a3)) + (b_and (b_shr r1 (b_rem (b_i (a1 + a4)) 16)) 1))) (b_i (a4 + (-1))) w2) X)) : LX26_part_7 d n Q X a0 a1 a3 a4 w := by
  refine x_iload 4 dX26_part_7 rfl rfl ?_
  refine x_if_lt (t := 46) 37 dX26_part_9 rfl rfl (b_ite h (fun hc h => ?_) (fun hc h => ?_))
  · refine x_iload_n 3 dX26_part_46 rfl rfl rfl ?_
    exact y_iret dX26_part_47 rfl h
  · refine x_iload_n 1 dX26_part_12 rfl rfl rfl ?_
    refine x_iload 4 dX26_part_13 rfl rfl ?_
    refine x_iadd dX26_part_15 rfl ?_
    refine x_istore 5 (ls' := [(2, a0), (0, a1), (9, 0), (0, a3), (0, a4), (0, b_i (a1 + a4))]) dX26_part_16 rfl rfl rfl ?_
    refine x_iconst 2 (z := 2) dX26_part_18 rfl (by decide) rfl ?_
    refine x_iload_n 3 dX26_part_19 rfl rfl rfl ?_
    refine x_imul dX26_part_20 rfl ?_
    refine x_aload_n 0 dX26_part_21 rfl rfl rfl rfl rfl ?_
    refine x_iload 5 dX26_part_22 rfl rfl ?_
    refine x_bipush 16 (z := 16) dX26_part_24 rfl (by decide) rfl ?_
    refine x_idiv dX26_part_26 (by decide) rfl ?_
    refine y_Vi 34 (M := mX26_digit) (As := [(0, b_div (b_i (a1 + a4)) 16)]) (st := [(0, b_i (2 * a3))]) dX26_part_27 ha0 rfl q3855 q3856 q3857 q393 q3858 rfl hmX26_digit rfl rfl rfl rfl rfl rfl rfl rfl (k_mono h (fun r1 w2 h => ?_))
    refine x_iload 5 dX26_part_30 rfl rfl ?_
    refine x_bipush 16 (z := 16) dX26_part_32 rfl (by decide) rfl ?_
    refine x_irem dX26_part_34 (by decide) rfl ?_
    refine x_ishr dX26_part_35 rfl ?_
    refine x_iconst 1 (z := 1) dX26_part_36 rfl (by decide) rfl ?_
    refine x_iand dX26_part_37 rfl ?_
    refine x_iadd dX26_part_38 rfl ?_
    refine x_istore_n 3 (ls' := [(2, a0), (0, a1), (9, 0), (0, b_i ((b_i (2 * a3)) + (b_and (b_shr r1 (b_rem (b_i (a1 + a4)) 16)) 1))), (0, a4), (0, b_i (a1 + a4))]) dX26_part_39 rfl rfl rfl rfl ?_
    refine x_iinc 4 (-1) (ls' := [(2, a0), (0, a1), (9, 0), (0, b_i ((b_i (2 * a3)) + (b_and (b_shr r1 (b_rem (b_i (a1 + a4)) 16)) 1))), (0, b_i (a4 + (-1))), (0, b_i (a1 + a4))]) dX26_part_40 rfl rfl rfl rfl ?_
    refine x_goto (-36) (q := 7) dX26_part_43 rfl ?_
    exact x_fg (fgk (fgk (fgk (fgk (fgk (fgd (fg0))))))) h
abbrev LX26_setPart_3 (d n : Nat) (Q : Int → bW → Prop) (X : String → bW → Prop) (a0 : Int) (a1 : Int) (a2 : Int) (a3 : Int) (a4 : Int) (w : bW) : Prop := b_Y (d + 1) mX26_setPart n Q X 3 [(2, a0), (0, a1), (0, a2), (0, a3), (0, a4), (9, 0)] [] w
abbrev LX26_setPart_15 (d n : Nat) (Q : Int → bW → Prop) (X : String → bW → Prop) (a0 : Int) (a1 : Int) (a2 : Int) (a3 : Int) (a4 : Int) (a5 : Int) (w : bW) : Prop := b_Y (d + 1) mX26_setPart n Q X 15 [(2, a0), (0, a1), (0, a2), (0, a3), (0, a4), (0, a5)] [] w
theorem rX26_setPart {d n : Nat} {w : bW} {Q : Int → bW → Prop} {X : String → bW → Prop} (hn : 254 ≤ n) (t : Int) (a1 : Int) (a2 : Int) (a3 : Int) (ht : b_is n t 0 24 3) (h : LX26_setPart_3 d n Q X t a1 a2 a3 0 w) : b_K (d + 1) mX26_setPart [(2, t), (0, a1), (0, a2), (0, a3)] n w Q X := by
  refine k_of (by decide) rfl rfl rfl (ls := [(2, t), (0, a1), (0, a2), (0, a3), (9, 0), (9, 0)]) rfl ?_
  refine x_iconst 0 (z := 0) dX26_setPart_0 rfl (by decide) rfl ?_
  refine x_istore 4 (ls' := [(2, t), (0, a1), (0, a2), (0, a3), (0, 0), (9, 0)]) dX26_setPart_1 rfl rfl rfl ?_
  exact x_fg (fgk (fgk (fgk (fgk (fgk (fgk (fg0))))))) h
theorem sX26_setPart_3 {d n : Nat} {w : bW} {Q : Int → bW → Prop} {X : String → bW → Prop} (hn : 254 ≤ n) (a0 : Int) (a1 : Int) (a2 : Int) (a3 : Int) (a4 : Int) (ha0 : b_is n a0 0 24 3) (h : if a2 ≤ a4 then (Q 0 w) else (LX26_setPart_15 d n Q X a0 a1 a2 a3 a4 (b_i (a1 + a4)) w)) : LX26_setPart_3 d n Q X a0 a1 a2 a3 a4 w := by
  refine x_iload 4 dX26_setPart_3 rfl rfl ?_
  refine x_iload_n 2 dX26_setPart_5 rfl rfl rfl ?_
  refine x_icmp_ge (t := 81) 75 dX26_setPart_6 rfl rfl (b_ite h (fun hc h => ?_) (fun hc h => ?_))
  · exact y_vret dX26_setPart_81 rfl h
  · refine x_iload_n 1 dX26_setPart_9 rfl rfl rfl ?_
    refine x_iload 4 dX26_setPart_10 rfl rfl ?_
    refine x_iadd dX26_setPart_12 rfl ?_
    refine x_istore 5 (ls' := [(2, a0), (0, a1), (0, a2), (0, a3), (0, a4), (0, b_i (a1 + a4))]) dX26_setPart_13 rfl rfl rfl ?_
    exact x_fg (fgk (fgk (fgk (fgk (fgk (fgk (fg0))))))) h
theorem sX26_setPart_15 {d n : Nat} {w : bW} {Q : Int → bW → Prop} {X : String → bW → Prop} (hn : 254 ≤ n) (a0 : Int) (a1 : Int) (a2 : Int) (a3 : Int) (a4 : Int) (a5 : Int) (ha0 : b_is n a0 0 24 3) (h : if b_div a5 16 < w a0 1 then ((0 ≤ b_div a5 16 ∧ b_div a5 16 < 180) ∧ (LX26_setPart_3 d n Q X a0 a1 a2 a3 (b_i (a4 + 1)) (b_up w (a0 + 1) (b_div a5 16) (b_or (w (a0 + 1) (b_div a5 16)) (b_shl (b_and (b_shr a3 a4) 1) (b_rem a5 16)))))) else ((0 ≤ w a0 1 ∧ w a0 1 < 180) ∧ (LX26_setPart_15 d n Q X a0 a1 a2 a3 a4 a5 (b_up (b_up w (a0 + 1) (w a0 1) 0) a0 1 (b_i (((b_up w (a0 + 1) (w a0 1) 0) a0 1) + 1)))))) : LX26_setPart_15 d n Q X a0 a1 a2 a3 a4 a5 w := by
  refine x_aload_n 0 dX26_setPart_15 rfl rfl rfl rfl rfl ?_
  refine y_get 13 1 (c := 24) (z := w a0 1) dX26_setPart_16 ha0 rfl in_X26 q4087 rfl rfl rfl rfl rfl ?_
  refine x_iload 5 dX26_setPart_19 rfl rfl ?_
  refine x_bipush 16 (z := 16) dX26_setPart_21 rfl (by decide) rfl ?_
  refine x_idiv dX26_setPart_23 (by decide) rfl ?_
  refine x_icmp_gt (t := 50) 26 dX26_setPart_24 rfl rfl (b_ite h (fun hc h => ?_) (fun hc h => ?_))
  · refine x_aload_n 0 dX26_setPart_50 rfl rfl rfl rfl rfl ?_
    refine y_getO 7 0 (c := 24) dX26_setPart_51 ha0 rfl in_X26 q4085 rfl rfl rfl (fun h5 hf => of_X26_0 (Nat.le_trans (Nat.le_of_ble_eq_true rfl) hn) h5 ha0 hf) rfl (fun e1 => ?_)
    refine x_iload 5 dX26_setPart_54 rfl rfl ?_
    refine x_bipush 16 (z := 16) dX26_setPart_56 rfl (by decide) rfl ?_
    refine x_idiv dX26_setPart_58 (by decide) rfl ?_
    refine x_dup2 dX26_setPart_59 rfl rfl rfl ?_
    obtain ⟨e2, h⟩ := h
    refine y_iald (z := w (a0 + 1) (b_div a5 16)) dX26_setPart_60 ⟨180, e1, e2⟩ rfl rfl ?_
    refine x_iload_n 3 dX26_setPart_61 rfl rfl rfl ?_
    refine x_iload 4 dX26_setPart_62 rfl rfl ?_
    refine x_ishr dX26_setPart_64 rfl ?_
    refine x_iconst 1 (z := 1) dX26_setPart_65 rfl (by decide) rfl ?_
    refine x_iand dX26_setPart_66 rfl ?_
    refine x_iload 5 dX26_setPart_67 rfl rfl ?_
    refine x_bipush 16 (z := 16) dX26_setPart_69 rfl (by decide) rfl ?_
    refine x_irem dX26_setPart_71 (by decide) rfl ?_
    refine x_ishl dX26_setPart_72 rfl ?_
    refine x_ior dX26_setPart_73 rfl ?_
    refine y_iast (x' := b_or (w (a0 + 1) (b_div a5 16)) (b_shl (b_and (b_shr a3 a4) 1) (b_rem a5 16))) dX26_setPart_74 ⟨180, e1, e2⟩ rfl rfl ?_
    refine x_iinc 4 1 (ls' := [(2, a0), (0, a1), (0, a2), (0, a3), (0, b_i (a4 + 1)), (0, a5)]) dX26_setPart_75 rfl rfl rfl rfl ?_
    refine x_goto (-75) (q := 3) dX26_setPart_78 rfl ?_
    exact x_fg (fgk (fgk (fgk (fgk (fgk (fgd (fg0))))))) h
  · refine x_aload_n 0 dX26_setPart_27 rfl rfl rfl rfl rfl ?_
    refine y_getO 7 0 (c := 24) dX26_setPart_28 ha0 rfl in_X26 q4085 rfl rfl rfl (fun h5 hf => of_X26_0 (Nat.le_trans (Nat.le_of_ble_eq_true rfl) hn) h5 ha0 hf) rfl (fun e3 => ?_)
    refine x_aload_n 0 dX26_setPart_31 rfl rfl rfl rfl rfl ?_
    refine y_get 13 1 (c := 24) (z := w a0 1) dX26_setPart_32 ha0 rfl in_X26 q4087 rfl rfl rfl rfl rfl ?_
    refine x_iconst 0 (z := 0) dX26_setPart_35 rfl (by decide) rfl ?_
    obtain ⟨e4, h⟩ := h
    refine y_iast (x' := 0) dX26_setPart_36 ⟨180, e3, e4⟩ rfl rfl ?_
    refine x_aload_n 0 dX26_setPart_37 rfl rfl rfl rfl rfl ?_
    refine x_dup dX26_setPart_38 rfl rfl ?_
    refine y_get 13 1 (c := 24) (z := (b_up w (a0 + 1) (w a0 1) 0) a0 1) dX26_setPart_39 ha0 rfl in_X26 q4087 rfl rfl rfl rfl rfl ?_
    refine x_iconst 1 (z := 1) dX26_setPart_42 rfl (by decide) rfl ?_
    refine x_iadd dX26_setPart_43 rfl ?_
    refine x_put 13 1 (c := 24) dX26_setPart_44 ha0 rfl in_X26 tyX26_ok nmX26 q4087 rfl rfl rfl (Or.inl rfl) (Or.inl ⟨rfl, rfl⟩) rfl ?_
    refine x_goto (-32) (q := 15) dX26_setPart_47 rfl ?_
    exact x_fg (fgk (fgk (fgk (fgk (fgk (fgk (fg0))))))) h
end RulesX26
