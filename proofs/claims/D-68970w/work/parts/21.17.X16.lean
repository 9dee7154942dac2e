section RulesX16
set_option maxRecDepth 100000
theorem rX16_type {d n : Nat} {w : bW} {Q : Int → bW → Prop} {X : String → bW → Prop} (hn : 143 ≤ n) (a1 : Int) (h : b_K d mX16_open [(2, 65), (0, a1)] n (b_up (b_up (b_up (b_up w 65 15 (-1)) 65 8 0) 65 10 0) 65 14 0) (fun r1 w2 => if r1 < 0 then (if 0 ≤ w2 65 15 then (Q (-1) w2) else (Q r1 w2)) else (b_K d mX4_child [(2, 6), (0, a1), (0, 2)] n w2 (fun r3 w4 => b_K d mX16_body [(2, 65), (0, r1), (0, a1), (0, r3)] n w4 (fun r5 w6 => if 0 ≤ w6 65 15 then (Q (-1) w6) else (Q r1 w6)) X) X)) X) : b_K (d + 1) mX16_type [(2, 65), (0, a1)] n w Q X := by
  have i6 := iz6 (Nat.le_trans (Nat.le_of_ble_eq_true rfl) hn)
  have i65 := iz65 (Nat.le_trans (Nat.le_of_ble_eq_true rfl) hn)
  refine k_of (by decide) rfl rfl rfl (ls := [(2, 65), (0, a1), (9, 0)]) rfl ?_
  refine x_aload_n 0 dX16_type_0 rfl rfl rfl rfl rfl ?_
  refine x_iconst (-1) (z := (-1)) dX16_type_1 rfl (by decide) rfl ?_
  refine x_put 52 15 (c := 15) dX16_type_2 i65 rfl in_X16 tyX16_ok nmX16 q1114 rfl rfl rfl (Or.inl rfl) (Or.inl ⟨rfl, rfl⟩) rfl ?_
  refine x_aload_n 0 dX16_type_5 rfl rfl rfl rfl rfl ?_
  refine x_iconst 0 (z := 0) dX16_type_6 rfl (by decide) rfl ?_
  refine x_put 56 8 (c := 15) dX16_type_7 i65 rfl in_X16 tyX16_ok nmX16 q1107 rfl rfl rfl (Or.inl rfl) (Or.inl ⟨rfl, rfl⟩) rfl ?_
  refine x_aload_n 0 dX16_type_10 rfl rfl rfl rfl rfl ?_
  refine x_iconst 0 (z := 0) dX16_type_11 rfl (by decide) rfl ?_
  refine x_put 59 10 (c := 15) dX16_type_12 i65 rfl in_X16 tyX16_ok nmX16 q1109 rfl rfl rfl (Or.inl rfl) (Or.inl ⟨rfl, rfl⟩) rfl ?_
  refine x_aload_n 0 dX16_type_15 rfl rfl rfl rfl rfl ?_
  refine x_iconst 0 (z := 0) dX16_type_16 rfl (by decide) rfl ?_
  refine x_put 62 14 (c := 15) dX16_type_17 i65 rfl in_X16 tyX16_ok nmX16 q1113 rfl rfl rfl (Or.inl rfl) (Or.inl ⟨rfl, rfl⟩) rfl ?_
  refine x_aload_n 0 dX16_type_20 rfl rfl rfl rfl rfl ?_
  refine x_iload_n 1 dX16_type_21 rfl rfl rfl ?_
  refine y_Vi 65 (M := mX16_open) (As := [(0, a1)]) (st := []) dX16_type_22 i65 rfl q1821 q1823 qs22 q383 q1824 rfl hmX16_open rfl rfl rfl rfl rfl rfl rfl rfl (k_mono h (fun r1 w2 h => ?_))
  refine x_istore_n 2 (ls' := [(2, 65), (0, a1), (0, r1)]) dX16_type_25 rfl rfl rfl rfl ?_
  refine x_iload_n 2 dX16_type_26 rfl rfl rfl ?_
  refine x_if_lt (t := 45) 18 dX16_type_27 rfl rfl (b_ite h (fun hc h => ?_) (fun hc h => ?_))
  · refine x_aload_n 0 dX16_type_45 rfl rfl rfl rfl rfl ?_
    refine y_get 52 15 (c := 15) (z := w2 65 15) dX16_type_46 i65 rfl in_X16 q1114 rfl rfl rfl rfl rfl ?_
    refine x_if_ge (t := 56) 7 dX16_type_49 rfl rfl (b_ite h (fun hc h => ?_) (fun hc h => ?_))
    · refine x_iconst (-1) (z := (-1)) dX16_type_56 rfl (by decide) rfl ?_
      exact y_iret dX16_type_57 rfl h
    · refine x_iload_n 2 dX16_type_52 rfl rfl rfl ?_
      refine x_goto 4 (q := 57) dX16_type_53 rfl ?_
      exact y_iret dX16_type_57 rfl h
  · refine x_aload_n 0 dX16_type_30 rfl rfl rfl rfl rfl ?_
    refine x_iload_n 2 dX16_type_31 rfl rfl rfl ?_
    refine x_iload_n 1 dX16_type_32 rfl rfl rfl ?_
    refine x_aload_n 0 dX16_type_33 rfl rfl rfl rfl rfl ?_
    refine y_getF 28 0 (c := 15) (z := 6) dX16_type_34 i65 rfl in_X16 q1099 rfl rfl rfl fn_65_0 (Nat.le_trans (Nat.le_of_ble_eq_true rfl) hn) rfl ?_
    refine x_iload_n 1 dX16_type_37 rfl rfl rfl ?_
    refine x_iconst 2 (z := 2) dX16_type_38 rfl (by decide) rfl ?_
    refine y_Vi 69 (M := mX4_child) (As := [(0, a1), (0, 2)]) (st := [(0, a1), (0, r1), (2, 65)]) dX16_type_39 i6 rfl q1829 q1830 q1831 q371 q1832 rfl hmX4_child rfl rfl rfl rfl rfl rfl rfl rfl (k_mono h (fun r3 w4 h => ?_))
    refine y_Vv 75 (M := mX16_body) (As := [(0, r1), (0, a1), (0, r3)]) (st := []) dX16_type_42 i65 rfl q1906 q1908 qs29 q383 q1909 rfl hmX16_body rfl rfl rfl rfl rfl rfl rfl (k_mono h (fun r5 w6 h => ?_))
    refine x_aload_n 0 dX16_type_45 rfl rfl rfl rfl rfl ?_
    refine y_get 52 15 (c := 15) (z := w6 65 15) dX16_type_46 i65 rfl in_X16 q1114 rfl rfl rfl rfl rfl ?_
    refine x_if_ge (t := 56) 7 dX16_type_49 rfl rfl (b_ite h (fun hc h => ?_) (fun hc h => ?_))
    · refine x_iconst (-1) (z := (-1)) dX16_type_56 rfl (by decide) rfl ?_
      exact y_iret dX16_type_57 rfl h
    · refine x_iload_n 2 dX16_type_52 rfl rfl rfl ?_
      refine x_goto 4 (q := 57) dX16_type_53 rfl ?_
      exact y_iret dX16_type_57 rfl h
abbrev LX16_open_83 (d n : Nat) (Q : Int → bW → Prop) (X : String → bW → Prop) (a1 : Int) (s0 : Int) (w : bW) : Prop := b_Y (d + 1) mX16_open n Q X 83 [(2, 65), (0, a1), (9, 0), (9, 0), (9, 0), (9, 0)] [(0, s0)] w
abbrev LX16_open_253 (d n : Nat) (Q : Int → bW → Prop) (X : String → bW → Prop) (a1 : Int) (a3 : Int) (s0 : Int) (w : bW) : Prop := b_Y (d + 1) mX16_open n Q X 253 [(2, 65), (0, a1), (9, 0), (0, a3), (9, 0), (9, 0)] [(0, s0)] w
abbrev LX16_open_341 (d n : Nat) (Q : Int → bW → Prop) (X : String → bW → Prop) (a1 : Int) (a3 : Int) (w : bW) : Prop := b_Y (d + 1) mX16_open n Q X 341 [(2, 65), (0, a1), (9, 0), (0, a3), (9, 0), (9, 0)] [] w
theorem rX16_open {d n : Nat} {w : bW} {Q : Int → bW → Prop} {X : String → bW → Prop} (hn : 143 ≤ n) (a1 : Int) (h : b_K d mX4_isSequence [(2, 6), (0, a1)] n w (fun r1 w2 => if r1 = 0 then (LX16_open_83 d n Q X a1 0 w2) else ((0 ≤ a1 ∧ a1 < 4096) ∧ (if w2 18 a1 ≠ 3 then (LX16_open_83 d n Q X a1 0 w2) else (b_K d mX4_child [(2, 6), (0, a1), (0, 0)] n w2 (fun r4 w5 => b_K d mX16_isPart [(2, 65), (0, r4), (0, 28)] n w5 (fun r6 w7 => if r6 = 0 then (LX16_open_83 d n Q X a1 0 w7) else (b_K d mX4_child [(2, 6), (0, a1), (0, 1)] n w7 (fun r8 w9 => b_K d mX16_isPart [(2, 65), (0, r8), (0, 29)] n w9 (fun r10 w11 => if r10 = 0 then (LX16_open_83 d n Q X a1 0 w11) else (b_K d mX4_child [(2, 6), (0, a1), (0, 2)] n w11 (fun r12 w13 => b_K d mX16_isPart [(2, 65), (0, r12), (0, 30)] n w13 (fun r14 w15 => if r14 = 0 then (LX16_open_83 d n Q X a1 0 w15) else (LX16_open_83 d n Q X a1 1 w15)) X) X)) X) X)) X) X)))) X) : b_K (d + 1) mX16_open [(2, 65), (0, a1)] n w Q X := by
  have i6 := iz6 (Nat.le_trans (Nat.le_of_ble_eq_true rfl) hn)
  have i18 := iz18 (Nat.le_trans (Nat.le_of_ble_eq_true rfl) hn)
  have i65 := iz65 (Nat.le_trans (Nat.le_of_ble_eq_true rfl) hn)
  refine k_of (by decide) rfl rfl rfl (ls := [(2, 65), (0, a1), (9, 0), (9, 0), (9, 0), (9, 0)]) rfl ?_
  refine x_aload_n 0 dX16_open_0 rfl rfl rfl rfl rfl ?_
  refine y_getF 28 0 (c := 15) (z := 6) dX16_open_1 i65 rfl in_X16 q1099 rfl rfl rfl fn_65_0 (Nat.le_trans (Nat.le_of_ble_eq_true rfl) hn) rfl ?_
  refine x_iload_n 1 dX16_open_4 rfl rfl rfl ?_
  refine y_Vi 83 (M := mX4_isSequence) (As := [(0, a1)]) (st := []) dX16_open_5 i6 rfl q1825 q1826 q1827 q371 q1828 rfl hmX4_isSequence rfl rfl rfl rfl rfl rfl rfl rfl (k_mono h (fun r1 w2 h => ?_))
  refine x_if_eq (t := 82) 74 dX16_open_8 rfl rfl (b_ite h (fun hc h => ?_) (fun hc h => ?_))
  · refine x_iconst 0 (z := 0) dX16_open_82 rfl (by decide) rfl ?_
    exact x_fg (fgk (fgk (fgk (fgk (fgk (fgk (fg0))))))) h
  · refine x_aload_n 0 dX16_open_11 rfl rfl rfl rfl rfl ?_
    refine y_getF 28 0 (c := 15) (z := 6) dX16_open_12 i65 rfl in_X16 q1099 rfl rfl rfl fn_65_0 (Nat.le_trans (Nat.le_of_ble_eq_true rfl) hn) rfl ?_
    refine y_getF 87 11 (c := 3) (z := 18) dX16_open_15 i6 rfl in_X4 q682 rfl rfl rfl fn_6_11 (Nat.le_trans (Nat.le_of_ble_eq_true rfl) hn) rfl ?_
    refine x_iload_n 1 dX16_open_18 rfl rfl rfl ?_
    obtain ⟨e3, h⟩ := h
    refine y_iald (z := w2 18 a1) dX16_open_19 ⟨4096, i18, e3⟩ rfl rfl ?_
    refine x_iconst 3 (z := 3) dX16_open_20 rfl (by decide) rfl ?_
    refine x_icmp_ne (t := 82) 61 dX16_open_21 rfl rfl (b_ite h (fun hc h => ?_) (fun hc h => ?_))
    · refine x_iconst 0 (z := 0) dX16_open_82 rfl (by decide) rfl ?_
      exact x_fg (fgk (fgk (fgk (fgk (fgk (fgk (fg0))))))) h
    · refine x_aload_n 0 dX16_open_24 rfl rfl rfl rfl rfl ?_
      refine x_aload_n 0 dX16_open_25 rfl rfl rfl rfl rfl ?_
      refine y_getF 28 0 (c := 15) (z := 6) dX16_open_26 i65 rfl in_X16 q1099 rfl rfl rfl fn_65_0 (Nat.le_trans (Nat.le_of_ble_eq_true rfl) hn) rfl ?_
      refine x_iload_n 1 dX16_open_29 rfl rfl rfl ?_
      refine x_iconst 0 (z := 0) dX16_open_30 rfl (by decide) rfl ?_
      refine y_Vi 69 (M := mX4_child) (As := [(0, a1), (0, 0)]) (st := [(2, 65)]) dX16_open_31 i6 rfl q1829 q1830 q1831 q371 q1832 rfl hmX4_child rfl rfl rfl rfl rfl rfl rfl rfl (k_mono h (fun r4 w5 h => ?_))
      refine x_bipush 28 (z := 28) dX16_open_34 rfl (by decide) rfl ?_
      refine y_Vi 92 (M := mX16_isPart) (As := [(0, r4), (0, 28)]) (st := []) dX16_open_36 i65 rfl q1833 q1835 qs23 q383 q1836 rfl hmX16_isPart rfl rfl rfl rfl rfl rfl rfl rfl (k_mono h (fun r6 w7 h => ?_))
      refine x_if_eq (t := 82) 43 dX16_open_39 rfl rfl (b_ite h (fun hc h => ?_) (fun hc h => ?_))
      · refine x_iconst 0 (z := 0) dX16_open_82 rfl (by decide) rfl ?_
        exact x_fg (fgk (fgk (fgk (fgk (fgk (fgk (fg0))))))) h
      · refine x_aload_n 0 dX16_open_42 rfl rfl rfl rfl rfl ?_
        refine x_aload_n 0 dX16_open_43 rfl rfl rfl rfl rfl ?_
        refine y_getF 28 0 (c := 15) (z := 6) dX16_open_44 i65 rfl in_X16 q1099 rfl rfl rfl fn_65_0 (Nat.le_trans (Nat.le_of_ble_eq_true rfl) hn) rfl ?_
        refine x_iload_n 1 dX16_open_47 rfl rfl rfl ?_
        refine x_iconst 1 (z := 1) dX16_open_48 rfl (by decide) rfl ?_
        refine y_Vi 69 (M := mX4_child) (As := [(0, a1), (0, 1)]) (st := [(2, 65)]) dX16_open_49 i6 rfl q1829 q1830 q1831 q371 q1832 rfl hmX4_child rfl rfl rfl rfl rfl rfl rfl rfl (k_mono h (fun r8 w9 h => ?_))
        refine x_bipush 29 (z := 29) dX16_open_52 rfl (by decide) rfl ?_
        refine y_Vi 92 (M := mX16_isPart) (As := [(0, r8), (0, 29)]) (st := []) dX16_open_54 i65 rfl q1833 q1835 qs23 q383 q1836 rfl hmX16_isPart rfl rfl rfl rfl rfl rfl rfl rfl (k_mono h (fun r10 w11 h => ?_))
        refine x_if_eq (t := 82) 25 dX16_open_57 rfl rfl (b_ite h (fun hc h => ?_) (fun hc h => ?_))
        · refine x_iconst 0 (z := 0) dX16_open_82 rfl (by decide) rfl ?_
          exact x_fg (fgk (fgk (fgk (fgk (fgk (fgk (fg0))))))) h
        · refine x_aload_n 0 dX16_open_60 rfl rfl rfl rfl rfl ?_
          refine x_aload_n 0 dX16_open_61 rfl rfl rfl rfl rfl ?_
          refine y_getF 28 0 (c := 15) (z := 6) dX16_open_62 i65 rfl in_X16 q1099 rfl rfl rfl fn_65_0 (Nat.le_trans (Nat.le_of_ble_eq_true rfl) hn) rfl ?_
          refine x_iload_n 1 dX16_open_65 rfl rfl rfl ?_
          refine x_iconst 2 (z := 2) dX16_open_66 rfl (by decide) rfl ?_
          refine y_Vi 69 (M := mX4_child) (As := [(0, a1), (0, 2)]) (st := [(2, 65)]) dX16_open_67 i6 rfl q1829 q1830 q1831 q371 q1832 rfl hmX4_child rfl rfl rfl rfl rfl rfl rfl rfl (k_mono h (fun r12 w13 h => ?_))
          refine x_bipush 30 (z := 30) dX16_open_70 rfl (by decide) rfl ?_
          refine y_Vi 92 (M := mX16_isPart) (As := [(0, r12), (0, 30)]) (st := []) dX16_open_72 i65 rfl q1833 q1835 qs23 q383 q1836 rfl hmX16_isPart rfl rfl rfl rfl rfl rfl rfl rfl (k_mono h (fun r14 w15 h => ?_))
          refine x_if_eq (t := 82) 7 dX16_open_75 rfl rfl (b_ite h (fun hc h => ?_) (fun hc h => ?_))
          · refine x_iconst 0 (z := 0) dX16_open_82 rfl (by decide) rfl ?_
            exact x_fg (fgk (fgk (fgk (fgk (fgk (fgk (fg0))))))) h
          · refine x_iconst 1 (z := 1) dX16_open_78 rfl (by decide) rfl ?_
            refine x_goto 4 (q := 83) dX16_open_79 rfl ?_
            exact x_fg (fgk (fgk (fgk (fgk (fgk (fgk (fg0))))))) h
theorem sX16_open_83 {d n : Nat} {w : bW} {Q : Int → bW → Prop} {X : String → bW → Prop} (hn : 143 ≤ n) (a1 : Int) (s0 : Int) (h : if s0 = 0 then (b_K d mX16_wrong [(2, 65), (0, a1)] n w (fun r1 w2 => Q (b_i (r1 - 1)) w2) X) else (b_K d mX4_child [(2, 6), (0, a1), (0, 2)] n w (fun r3 w4 => (0 ≤ r3 ∧ r3 < 4096) ∧ (b_K d mX4_isSequence [(2, 6), (0, w4 16 r3)] n w4 (fun r6 w7 => if r6 ≠ 0 then (b_K d mX4_child [(2, 6), (0, a1), (0, 0)] n (b_up w7 53 6 (b_i ((w7 53 6) + 1))) (fun r8 w9 => (0 ≤ r8 ∧ r8 < 4096) ∧ (b_K d mX7_of [(2, 19), (2, 6), (0, w9 16 r8)] n w9 (fun r11 w12 => (0 ≤ w7 53 6 ∧ w7 53 6 < 2000) ∧ ((0 ≤ w7 53 6 ∧ w7 53 6 < 2001) ∧ (if (b_up w12 54 (w7 53 6) r11) 54 (w7 53 6) < 0 then (LX16_open_253 d n Q X a1 (w7 53 6) 0 (b_up (b_up w12 54 (w7 53 6) r11) 57 (w7 53 6) (w12 53 11))) else (b_K d mX7_is [(2, 19), (0, (b_up w12 54 (w7 53 6) r11) 54 (w7 53 6)), (0, 2)] n (b_up (b_up w12 54 (w7 53 6) r11) 57 (w7 53 6) (w12 53 11)) (fun r15 w16 => if r15 = 0 then (LX16_open_253 d n Q X a1 (w7 53 6) 0 w16) else (b_K d mX16_entries [(2, 65), (0, w7 53 6), (0, w9 16 r8), (0, w16 54 (w7 53 6)), (1, 0), (0, 0)] n w16 (fun r17 w18 => if r17 = 0 then (LX16_open_253 d n Q X a1 (w7 53 6) 0 w18) else (LX16_open_253 d n Q X a1 (w7 53 6) 1 w18)) X)) X)))) X)) X) else (b_K d mX16_wrong [(2, 65), (0, a1)] n w7 (fun r19 w20 => Q (b_i (r19 - 1)) w20) X)) X)) X)) : LX16_open_83 d n Q X a1 s0 w := by
  have i6 := iz6 (Nat.le_trans (Nat.le_of_ble_eq_true rfl) hn)
  have i16 := iz16 (Nat.le_trans (Nat.le_of_ble_eq_true rfl) hn)
  have i19 := iz19 (Nat.le_trans (Nat.le_of_ble_eq_true rfl) hn)
  have i53 := iz53 (Nat.le_trans (Nat.le_of_ble_eq_true rfl) hn)
  have i54 := iz54 (Nat.le_trans (Nat.le_of_ble_eq_true rfl) hn)
  have i57 := iz57 (Nat.le_trans (Nat.le_of_ble_eq_true rfl) hn)
  have i65 := iz65 (Nat.le_trans (Nat.le_of_ble_eq_true rfl) hn)
  refine x_istore_n 2 (ls' := [(2, 65), (0, a1), (0, s0), (9, 0), (9, 0), (9, 0)]) dX16_open_83 rfl rfl rfl rfl ?_
  refine x_iload_n 2 dX16_open_84 rfl rfl rfl ?_
  refine x_if_eq (t := 115) 30 dX16_open_85 rfl rfl (b_ite h (fun hc h => ?_) (fun hc h => ?_))
  · refine x_aload_n 0 dX16_open_115 rfl rfl rfl rfl rfl ?_
    refine x_iload_n 1 dX16_open_116 rfl rfl rfl ?_
    refine y_Vi 99 (M := mX16_wrong) (As := [(0, a1)]) (st := []) dX16_open_117 i65 rfl q1845 q1847 qs24 q383 q1848 rfl hmX16_wrong rfl rfl rfl rfl rfl rfl rfl rfl (k_mono h (fun r1 w2 h => ?_))
    refine x_iconst 1 (z := 1) dX16_open_120 rfl (by decide) rfl ?_
    refine x_isub dX16_open_121 rfl ?_
    exact y_iret dX16_open_122 rfl h
  · refine x_aload_n 0 dX16_open_88 rfl rfl rfl rfl rfl ?_
    refine y_getF 28 0 (c := 15) (z := 6) dX16_open_89 i65 rfl in_X16 q1099 rfl rfl rfl fn_65_0 (Nat.le_trans (Nat.le_of_ble_eq_true rfl) hn) rfl ?_
    refine x_aload_n 0 dX16_open_92 rfl rfl rfl rfl rfl ?_
    refine y_getF 28 0 (c := 15) (z := 6) dX16_open_93 i65 rfl in_X16 q1099 rfl rfl rfl fn_65_0 (Nat.le_trans (Nat.le_of_ble_eq_true rfl) hn) rfl ?_
    refine y_getF 96 9 (c := 3) (z := 16) dX16_open_96 i6 rfl in_X4 q674 rfl rfl rfl fn_6_9 (Nat.le_trans (Nat.le_of_ble_eq_true rfl) hn) rfl ?_
    refine x_aload_n 0 dX16_open_99 rfl rfl rfl rfl rfl ?_
    refine y_getF 28 0 (c := 15) (z := 6) dX16_open_100 i65 rfl in_X16 q1099 rfl rfl rfl fn_65_0 (Nat.le_trans (Nat.le_of_ble_eq_true rfl) hn) rfl ?_
    refine x_iload_n 1 dX16_open_103 rfl rfl rfl ?_
    refine x_iconst 2 (z := 2) dX16_open_104 rfl (by decide) rfl ?_
    refine y_Vi 69 (M := mX4_child) (As := [(0, a1), (0, 2)]) (st := [(2, 16), (2, 6)]) dX16_open_105 i6 rfl q1829 q1830 q1831 q371 q1832 rfl hmX4_child rfl rfl rfl rfl rfl rfl rfl rfl (k_mono h (fun r3 w4 h => ?_))
    obtain ⟨e5, h⟩ := h
    refine y_iald (z := w4 16 r3) dX16_open_108 ⟨4096, i16, e5⟩ rfl rfl ?_
    refine y_Vi 83 (M := mX4_isSequence) (As := [(0, w4 16 r3)]) (st := []) dX16_open_109 i6 rfl q1825 q1826 q1827 q371 q1828 rfl hmX4_isSequence rfl rfl rfl rfl rfl rfl rfl rfl (k_mono h (fun r6 w7 h => ?_))
    refine x_if_ne (t := 123) 11 dX16_open_112 rfl rfl (b_ite h (fun hc h => ?_) (fun hc h => ?_))
    · refine x_aload_n 0 dX16_open_123 rfl rfl rfl rfl rfl ?_
      refine y_getF 40 3 (c := 15) (z := 53) dX16_open_124 i65 rfl in_X16 q1102 rfl rfl rfl fn_65_3 (Nat.le_trans (Nat.le_of_ble_eq_true rfl) hn) rfl ?_
      refine x_dup dX16_open_127 rfl rfl ?_
      refine y_get 102 6 (c := 14) (z := w7 53 6) dX16_open_128 i53 rfl in_X15 q1039 rfl rfl rfl rfl rfl ?_
      refine x_dup_x1 dX16_open_131 rfl rfl rfl ?_
      refine x_iconst 1 (z := 1) dX16_open_132 rfl (by decide) rfl ?_
      refine x_iadd dX16_open_133 rfl ?_
      refine x_put 102 6 (c := 14) dX16_open_134 i53 rfl in_X15 tyX15_ok nmX15 q1039 rfl rfl rfl (Or.inl rfl) (Or.inl ⟨rfl, rfl⟩) rfl ?_
      refine x_istore_n 3 (ls' := [(2, 65), (0, a1), (0, s0), (0, w7 53 6), (9, 0), (9, 0)]) dX16_open_137 rfl rfl rfl rfl ?_
      refine x_aload_n 0 dX16_open_138 rfl rfl rfl rfl rfl ?_
      refine y_getF 28 0 (c := 15) (z := 6) dX16_open_139 i65 rfl in_X16 q1099 rfl rfl rfl fn_65_0 (Nat.le_trans (Nat.le_of_ble_eq_true rfl) hn) rfl ?_
      refine y_getF 96 9 (c := 3) (z := 16) dX16_open_142 i6 rfl in_X4 q674 rfl rfl rfl fn_6_9 (Nat.le_trans (Nat.le_of_ble_eq_true rfl) hn) rfl ?_
      refine x_aload_n 0 dX16_open_145 rfl rfl rfl rfl rfl ?_
      refine y_getF 28 0 (c := 15) (z := 6) dX16_open_146 i65 rfl in_X16 q1099 rfl rfl rfl fn_65_0 (Nat.le_trans (Nat.le_of_ble_eq_true rfl) hn) rfl ?_
      refine x_iload_n 1 dX16_open_149 rfl rfl rfl ?_
      refine x_iconst 0 (z := 0) dX16_open_150 rfl (by decide) rfl ?_
      refine y_Vi 69 (M := mX4_child) (As := [(0, a1), (0, 0)]) (st := [(2, 16)]) dX16_open_151 i6 rfl q1829 q1830 q1831 q371 q1832 rfl hmX4_child rfl rfl rfl rfl rfl rfl rfl rfl (k_mono h (fun r8 w9 h => ?_))
      obtain ⟨e10, h⟩ := h
      refine y_iald (z := w9 16 r8) dX16_open_154 ⟨4096, i16, e10⟩ rfl rfl ?_
      refine x_istore 4 (ls' := [(2, 65), (0, a1), (0, s0), (0, w7 53 6), (0, w9 16 r8), (9, 0)]) dX16_open_155 rfl rfl rfl ?_
      refine x_aload_n 0 dX16_open_157 rfl rfl rfl rfl rfl ?_
      refine y_getF 40 3 (c := 15) (z := 53) dX16_open_158 i65 rfl in_X16 q1102 rfl rfl rfl fn_65_3 (Nat.le_trans (Nat.le_of_ble_eq_true rfl) hn) rfl ?_
      refine y_getF 107 0 (c := 14) (z := 54) dX16_open_161 i53 rfl in_X15 q1021 rfl rfl rfl fn_53_0 (Nat.le_trans (Nat.le_of_ble_eq_true rfl) hn) rfl ?_
      refine x_iload_n 3 dX16_open_164 rfl rfl rfl ?_
      refine x_aload_n 0 dX16_open_165 rfl rfl rfl rfl rfl ?_
      refine y_getF 32 1 (c := 15) (z := 19) dX16_open_166 i65 rfl in_X16 q1100 rfl rfl rfl fn_65_1 (Nat.le_trans (Nat.le_of_ble_eq_true rfl) hn) rfl ?_
      refine x_aload_n 0 dX16_open_169 rfl rfl rfl rfl rfl ?_
      refine y_getF 28 0 (c := 15) (z := 6) dX16_open_170 i65 rfl in_X16 q1099 rfl rfl rfl fn_65_0 (Nat.le_trans (Nat.le_of_ble_eq_true rfl) hn) rfl ?_
      refine x_iload 4 dX16_open_173 rfl rfl ?_
      refine y_Vi 110 (M := mX7_of) (As := [(2, 6), (0, w9 16 r8)]) (st := [(0, w7 53 6), (2, 54)]) dX16_open_175 i19 rfl q1849 q1850 q1851 q374 q1852 rfl hmX7_of rfl rfl rfl rfl rfl rfl rfl rfl (k_mono h (fun r11 w12 h => ?_))
      obtain ⟨e13, h⟩ := h
      refine y_iast (x' := r11) dX16_open_178 ⟨2000, i54, e13⟩ rfl rfl ?_
      refine x_aload_n 0 dX16_open_179 rfl rfl rfl rfl rfl ?_
      refine y_getF 40 3 (c := 15) (z := 53) dX16_open_180 i65 rfl in_X16 q1102 rfl rfl rfl fn_65_3 (Nat.le_trans (Nat.le_of_ble_eq_true rfl) hn) rfl ?_
      refine y_getF 116 3 (c := 14) (z := 57) dX16_open_183 i53 rfl in_X15 q1030 rfl rfl rfl fn_53_3 (Nat.le_trans (Nat.le_of_ble_eq_true rfl) hn) rfl ?_
      refine x_iload_n 3 dX16_open_186 rfl rfl rfl ?_
      refine x_aload_n 0 dX16_open_187 rfl rfl rfl rfl rfl ?_
      refine y_getF 40 3 (c := 15) (z := 53) dX16_open_188 i65 rfl in_X16 q1102 rfl rfl rfl fn_65_3 (Nat.le_trans (Nat.le_of_ble_eq_true rfl) hn) rfl ?_
      refine y_get 117 11 (c := 14) (z := w12 53 11) dX16_open_191 i53 rfl in_X15 q1054 rfl rfl rfl rfl rfl ?_
      obtain ⟨e14, h⟩ := h
      refine y_iast (x' := w12 53 11) dX16_open_194 ⟨2001, i57, e14⟩ rfl rfl ?_
      refine x_aload_n 0 dX16_open_195 rfl rfl rfl rfl rfl ?_
      refine y_getF 40 3 (c := 15) (z := 53) dX16_open_196 i65 rfl in_X16 q1102 rfl rfl rfl fn_65_3 (Nat.le_trans (Nat.le_of_ble_eq_true rfl) hn) rfl ?_
      refine y_getF 107 0 (c := 14) (z := 54) dX16_open_199 i53 rfl in_X15 q1021 rfl rfl rfl fn_53_0 (Nat.le_trans (Nat.le_of_ble_eq_true rfl) hn) rfl ?_
      refine x_iload_n 3 dX16_open_202 rfl rfl rfl ?_
      refine y_iald (z := (b_up w12 54 (w7 53 6) r11) 54 (w7 53 6)) dX16_open_203 ⟨2000, i54, e13⟩ rfl rfl ?_
      refine x_if_lt (t := 252) 48 dX16_open_204 rfl rfl (b_ite h (fun hc h => ?_) (fun hc h => ?_))
      · refine x_iconst 0 (z := 0) dX16_open_252 rfl (by decide) rfl ?_
        exact x_fg (fgk (fgk (fgd (fgk (fgd (fgk (fg0))))))) h
      · refine x_aload_n 0 dX16_open_207 rfl rfl rfl rfl rfl ?_
        refine y_getF 32 1 (c := 15) (z := 19) dX16_open_208 i65 rfl in_X16 q1100 rfl rfl rfl fn_65_1 (Nat.le_trans (Nat.le_of_ble_eq_true rfl) hn) rfl ?_
        refine x_aload_n 0 dX16_open_211 rfl rfl rfl rfl rfl ?_
        refine y_getF 40 3 (c := 15) (z := 53) dX16_open_212 i65 rfl in_X16 q1102 rfl rfl rfl fn_65_3 (Nat.le_trans (Nat.le_of_ble_eq_true rfl) hn) rfl ?_
        refine y_getF 107 0 (c := 14) (z := 54) dX16_open_215 i53 rfl in_X15 q1021 rfl rfl rfl fn_53_0 (Nat.le_trans (Nat.le_of_ble_eq_true rfl) hn) rfl ?_
        refine x_iload_n 3 dX16_open_218 rfl rfl rfl ?_
        refine y_iald (z := (b_up w12 54 (w7 53 6) r11) 54 (w7 53 6)) dX16_open_219 ⟨2000, i54, e13⟩ rfl rfl ?_
        refine x_iconst 2 (z := 2) dX16_open_220 rfl (by decide) rfl ?_
        refine y_Vi 120 (M := mX7_is) (As := [(0, (b_up w12 54 (w7 53 6) r11) 54 (w7 53 6)), (0, 2)]) (st := []) dX16_open_221 i19 rfl q1866 q744 q745 q374 q746 rfl hmX7_is rfl rfl rfl rfl rfl rfl rfl rfl (k_mono h (fun r15 w16 h => ?_))
        refine x_if_eq (t := 252) 28 dX16_open_224 rfl rfl (b_ite h (fun hc h => ?_) (fun hc h => ?_))
        · refine x_iconst 0 (z := 0) dX16_open_252 rfl (by decide) rfl ?_
          exact x_fg (fgk (fgk (fgd (fgk (fgd (fgk (fg0))))))) h
        · refine x_aload_n 0 dX16_open_227 rfl rfl rfl rfl rfl ?_
          refine x_iload_n 3 dX16_open_228 rfl rfl rfl ?_
          refine x_iload 4 dX16_open_229 rfl rfl ?_
          refine x_aload_n 0 dX16_open_231 rfl rfl rfl rfl rfl ?_
          refine y_getF 40 3 (c := 15) (z := 53) dX16_open_232 i65 rfl in_X16 q1102 rfl rfl rfl fn_65_3 (Nat.le_trans (Nat.le_of_ble_eq_true rfl) hn) rfl ?_
          refine y_getF 107 0 (c := 14) (z := 54) dX16_open_235 i53 rfl in_X15 q1021 rfl rfl rfl fn_53_0 (Nat.le_trans (Nat.le_of_ble_eq_true rfl) hn) rfl ?_
          refine x_iload_n 3 dX16_open_238 rfl rfl rfl ?_
          refine y_iald (z := w16 54 (w7 53 6)) dX16_open_239 ⟨2000, i54, e13⟩ rfl rfl ?_
          refine x_lconst 0 (z := 0) dX16_open_240 rfl (by decide) rfl ?_
          refine x_iconst 0 (z := 0) dX16_open_241 rfl (by decide) rfl ?_
          refine y_Vi 123 (M := mX16_entries) (As := [(0, w7 53 6), (0, w9 16 r8), (0, w16 54 (w7 53 6)), (1, 0), (0, 0)]) (st := []) dX16_open_242 i65 rfl q1867 q1869 qs26 q383 q1870 rfl hmX16_entries rfl rfl rfl rfl rfl rfl rfl rfl (k_mono h (fun r17 w18 h => ?_))
          refine x_if_eq (t := 252) 7 dX16_open_245 rfl rfl (b_ite h (fun hc h => ?_) (fun hc h => ?_))
          · refine x_iconst 0 (z := 0) dX16_open_252 rfl (by decide) rfl ?_
            exact x_fg (fgk (fgk (fgd (fgk (fgd (fgk (fg0))))))) h
          · refine x_iconst 1 (z := 1) dX16_open_248 rfl (by decide) rfl ?_
            refine x_goto 4 (q := 253) dX16_open_249 rfl ?_
            exact x_fg (fgk (fgk (fgd (fgk (fgd (fgk (fg0))))))) h
    · refine x_aload_n 0 dX16_open_115 rfl rfl rfl rfl rfl ?_
      refine x_iload_n 1 dX16_open_116 rfl rfl rfl ?_
      refine y_Vi 99 (M := mX16_wrong) (As := [(0, a1)]) (st := []) dX16_open_117 i65 rfl q1845 q1847 qs24 q383 q1848 rfl hmX16_wrong rfl rfl rfl rfl rfl rfl rfl rfl (k_mono h (fun r19 w20 h => ?_))
      refine x_iconst 1 (z := 1) dX16_open_120 rfl (by decide) rfl ?_
      refine x_isub dX16_open_121 rfl ?_
      exact y_iret dX16_open_122 rfl h
theorem sX16_open_253 {d n : Nat} {w : bW} {Q : Int → bW → Prop} {X : String → bW → Prop} (hn : 143 ≤ n) (a1 : Int) (a3 : Int) (s0 : Int) (h : if s0 ≠ 0 then ((0 ≤ b_i (a3 + 1) ∧ b_i (a3 + 1) < 2001) ∧ (b_K d mX15_entry [(2, 53), (0, a3), (0, 0)] n (b_up w 57 (b_i (a3 + 1)) (w 53 11)) (fun r2 w3 => if 0 ≤ r2 then (LX16_open_341 d n Q X a1 a3 w3) else ((0 ≤ a3 ∧ a3 < 2000) ∧ (b_K d mX16_entry [(2, 65), (0, a3), (0, 0), (0, w3 54 a3), (1, 0), (0, 0)] n w3 (fun r5 w6 => LX16_open_341 d n Q X a1 a3 (b_up w6 57 (b_i (a3 + 1)) (w6 53 11))) X))) X)) else (b_K d mX4_child [(2, 6), (0, a1), (0, 0)] n w (fun r7 w8 => b_K d mX16_wrong [(2, 65), (0, r7)] n w8 (fun r9 w10 => Q (b_i (r9 - 1)) w10) X) X)) : LX16_open_253 d n Q X a1 a3 s0 w := by
  have i6 := iz6 (Nat.le_trans (Nat.le_of_ble_eq_true rfl) hn)
  have i53 := iz53 (Nat.le_trans (Nat.le_of_ble_eq_true rfl) hn)
  have i54 := iz54 (Nat.le_trans (Nat.le_of_ble_eq_true rfl) hn)
  have i57 := iz57 (Nat.le_trans (Nat.le_of_ble_eq_true rfl) hn)
  have i65 := iz65 (Nat.le_trans (Nat.le_of_ble_eq_true rfl) hn)
  refine x_istore 5 (ls' := [(2, 65), (0, a1), (9, 0), (0, a3), (9, 0), (0, s0)]) dX16_open_253 rfl rfl rfl ?_
  refine x_iload 5 dX16_open_255 rfl rfl ?_
  refine x_if_ne (t := 276) 19 dX16_open_257 rfl rfl (b_ite h (fun hc h => ?_) (fun hc h => ?_))
  · refine x_aload_n 0 dX16_open_276 rfl rfl rfl rfl rfl ?_
    refine y_getF 40 3 (c := 15) (z := 53) dX16_open_277 i65 rfl in_X16 q1102 rfl rfl rfl fn_65_3 (Nat.le_trans (Nat.le_of_ble_eq_true rfl) hn) rfl ?_
    refine y_getF 116 3 (c := 14) (z := 57) dX16_open_280 i53 rfl in_X15 q1030 rfl rfl rfl fn_53_3 (Nat.le_trans (Nat.le_of_ble_eq_true rfl) hn) rfl ?_
    refine x_iload_n 3 dX16_open_283 rfl rfl rfl ?_
    refine x_iconst 1 (z := 1) dX16_open_284 rfl (by decide) rfl ?_
    refine x_iadd dX16_open_285 rfl ?_
    refine x_aload_n 0 dX16_open_286 rfl rfl rfl rfl rfl ?_
    refine y_getF 40 3 (c := 15) (z := 53) dX16_open_287 i65 rfl in_X16 q1102 rfl rfl rfl fn_65_3 (Nat.le_trans (Nat.le_of_ble_eq_true rfl) hn) rfl ?_
    refine y_get 117 11 (c := 14) (z := w 53 11) dX16_open_290 i53 rfl in_X15 q1054 rfl rfl rfl rfl rfl ?_
    obtain ⟨e1, h⟩ := h
    refine y_iast (x' := w 53 11) dX16_open_293 ⟨2001, i57, e1⟩ rfl rfl ?_
    refine x_aload_n 0 dX16_open_294 rfl rfl rfl rfl rfl ?_
    refine y_getF 40 3 (c := 15) (z := 53) dX16_open_295 i65 rfl in_X16 q1102 rfl rfl rfl fn_65_3 (Nat.le_trans (Nat.le_of_ble_eq_true rfl) hn) rfl ?_
    refine x_iload_n 3 dX16_open_298 rfl rfl rfl ?_
    refine x_iconst 0 (z := 0) dX16_open_299 rfl (by decide) rfl ?_
    refine y_Vi 128 (M := mX15_entry) (As := [(0, a3), (0, 0)]) (st := []) dX16_open_300 i53 rfl q1894 q1895 q1896 q382 q1897 rfl hmX15_entry rfl rfl rfl rfl rfl rfl rfl rfl (k_mono h (fun r2 w3 h => ?_))
    refine x_if_ge (t := 341) 38 dX16_open_303 rfl rfl (b_ite h (fun hc h => ?_) (fun hc h => ?_))
    · exact x_fg (fgk (fgk (fgk (fgk (fgk (fgd (fg0))))))) h
    · refine x_aload_n 0 dX16_open_306 rfl rfl rfl rfl rfl ?_
      refine x_iload_n 3 dX16_open_307 rfl rfl rfl ?_
      refine x_iconst 0 (z := 0) dX16_open_308 rfl (by decide) rfl ?_
      refine x_aload_n 0 dX16_open_309 rfl rfl rfl rfl rfl ?_
      refine y_getF 40 3 (c := 15) (z := 53) dX16_open_310 i65 rfl in_X16 q1102 rfl rfl rfl fn_65_3 (Nat.le_trans (Nat.le_of_ble_eq_true rfl) hn) rfl ?_
      refine y_getF 107 0 (c := 14) (z := 54) dX16_open_313 i53 rfl in_X15 q1021 rfl rfl rfl fn_53_0 (Nat.le_trans (Nat.le_of_ble_eq_true rfl) hn) rfl ?_
      refine x_iload_n 3 dX16_open_316 rfl rfl rfl ?_
      obtain ⟨e4, h⟩ := h
      refine y_iald (z := w3 54 a3) dX16_open_317 ⟨2000, i54, e4⟩ rfl rfl ?_
      refine x_lconst 0 (z := 0) dX16_open_318 rfl (by decide) rfl ?_
      refine x_iconst 0 (z := 0) dX16_open_319 rfl (by decide) rfl ?_
      refine y_Vv 131 (M := mX16_entry) (As := [(0, a3), (0, 0), (0, w3 54 a3), (1, 0), (0, 0)]) (st := []) dX16_open_320 i65 rfl q1898 q1900 qs28 q383 q1901 rfl hmX16_entry rfl rfl rfl rfl rfl rfl rfl (k_mono h (fun r5 w6 h => ?_))
      refine x_aload_n 0 dX16_open_323 rfl rfl rfl rfl rfl ?_
      refine y_getF 40 3 (c := 15) (z := 53) dX16_open_324 i65 rfl in_X16 q1102 rfl rfl rfl fn_65_3 (Nat.le_trans (Nat.le_of_ble_eq_true rfl) hn) rfl ?_
      refine y_getF 116 3 (c := 14) (z := 57) dX16_open_327 i53 rfl in_X15 q1030 rfl rfl rfl fn_53_3 (Nat.le_trans (Nat.le_of_ble_eq_true rfl) hn) rfl ?_
      refine x_iload_n 3 dX16_open_330 rfl rfl rfl ?_
      refine x_iconst 1 (z := 1) dX16_open_331 rfl (by decide) rfl ?_
      refine x_iadd dX16_open_332 rfl ?_
      refine x_aload_n 0 dX16_open_333 rfl rfl rfl rfl rfl ?_
      refine y_getF 40 3 (c := 15) (z := 53) dX16_open_334 i65 rfl in_X16 q1102 rfl rfl rfl fn_65_3 (Nat.le_trans (Nat.le_of_ble_eq_true rfl) hn) rfl ?_
      refine y_get 117 11 (c := 14) (z := w6 53 11) dX16_open_337 i53 rfl in_X15 q1054 rfl rfl rfl rfl rfl ?_
      refine y_iast (x' := w6 53 11) dX16_open_340 ⟨2001, i57, e1⟩ rfl rfl ?_
      exact x_fg (fgk (fgk (fgk (fgk (fgk (fgd (fg0))))))) h
  · refine x_aload_n 0 dX16_open_260 rfl rfl rfl rfl rfl ?_
    refine x_aload_n 0 dX16_open_261 rfl rfl rfl rfl rfl ?_
    refine y_getF 28 0 (c := 15) (z := 6) dX16_open_262 i65 rfl in_X16 q1099 rfl rfl rfl fn_65_0 (Nat.le_trans (Nat.le_of_ble_eq_true rfl) hn) rfl ?_
    refine x_iload_n 1 dX16_open_265 rfl rfl rfl ?_
    refine x_iconst 0 (z := 0) dX16_open_266 rfl (by decide) rfl ?_
    refine y_Vi 69 (M := mX4_child) (As := [(0, a1), (0, 0)]) (st := [(2, 65)]) dX16_open_267 i6 rfl q1829 q1830 q1831 q371 q1832 rfl hmX4_child rfl rfl rfl rfl rfl rfl rfl rfl (k_mono h (fun r7 w8 h => ?_))
    refine y_Vi 99 (M := mX16_wrong) (As := [(0, r7)]) (st := []) dX16_open_270 i65 rfl q1845 q1847 qs24 q383 q1848 rfl hmX16_wrong rfl rfl rfl rfl rfl rfl rfl rfl (k_mono h (fun r9 w10 h => ?_))
    refine x_iconst 1 (z := 1) dX16_open_273 rfl (by decide) rfl ?_
    refine x_isub dX16_open_274 rfl ?_
    exact y_iret dX16_open_275 rfl h
theorem sX16_open_341 {d n : Nat} {w : bW} {Q : Int → bW → Prop} {X : String → bW → Prop} (hn : 143 ≤ n) (a1 : Int) (a3 : Int) (h : b_K d mX4_child [(2, 6), (0, a1), (0, 1)] n w (fun r1 w2 => (0 ≤ r1 ∧ r1 < 4096) ∧ (b_K d mX7_of [(2, 19), (2, 6), (0, w2 16 r1)] n w2 (fun r4 w5 => (0 ≤ a3 ∧ a3 < 2000) ∧ (if (b_up w5 55 a3 r4) 55 a3 < 0 then (b_K d mX4_child [(2, 6), (0, a1), (0, 1)] n (b_up w5 55 a3 r4) (fun r7 w8 => b_K d mX16_wrong [(2, 65), (0, r7)] n w8 (fun r9 w10 => Q (b_i (r9 - 1)) w10) X) X) else (b_K d mX7_is [(2, 19), (0, (b_up w5 55 a3 r4) 55 a3), (0, 4)] n (b_up w5 55 a3 r4) (fun r11 w12 => if r11 ≠ 0 then (b_K d mX4_size [(2, 6), (0, a1)] n w12 (fun r13 w14 => (0 ≤ a3 ∧ a3 < 2000) ∧ ((0 ≤ a1 ∧ a1 < 4096) ∧ ((0 ≤ a1 ∧ a1 < 4096) ∧ ((0 ≤ a3 ∧ a3 < 2000) ∧ (Q a3 (b_up (b_up w14 58 a3 r13) 59 a3 (b_i ((w14 13 a1) - (w14 12 a1))))))))) X) else (b_K d mX4_child [(2, 6), (0, a1), (0, 1)] n w12 (fun r19 w20 => b_K d mX16_wrong [(2, 65), (0, r19)] n w20 (fun r21 w22 => Q (b_i (r21 - 1)) w22) X) X)) X))) X)) X) : LX16_open_341 d n Q X a1 a3 w := by
  have i6 := iz6 (Nat.le_trans (Nat.le_of_ble_eq_true rfl) hn)
  have i12 := iz12 (Nat.le_trans (Nat.le_of_ble_eq_true rfl) hn)
  have i13 := iz13 (Nat.le_trans (Nat.le_of_ble_eq_true rfl) hn)
  have i16 := iz16 (Nat.le_trans (Nat.le_of_ble_eq_true rfl) hn)
  have i19 := iz19 (Nat.le_trans (Nat.le_of_ble_eq_true rfl) hn)
  have i53 := iz53 (Nat.le_trans (Nat.le_of_ble_eq_true rfl) hn)
  have i55 := iz55 (Nat.le_trans (Nat.le_of_ble_eq_true rfl) hn)
  have i58 := iz58 (Nat.le_trans (Nat.le_of_ble_eq_true rfl) hn)
  have i59 := iz59 (Nat.le_trans (Nat.le_of_ble_eq_true rfl) hn)
  have i65 := iz65 (Nat.le_trans (Nat.le_of_ble_eq_true rfl) hn)
  refine x_aload_n 0 dX16_open_341 rfl rfl rfl rfl rfl ?_
  refine y_getF 40 3 (c := 15) (z := 53) dX16_open_342 i65 rfl in_X16 q1102 rfl rfl rfl fn_65_3 (Nat.le_trans (Nat.le_of_ble_eq_true rfl) hn) rfl ?_
  refine y_getF 134 1 (c := 14) (z := 55) dX16_open_345 i53 rfl in_X15 q1023 rfl rfl rfl fn_53_1 (Nat.le_trans (Nat.le_of_ble_eq_true rfl) hn) rfl ?_
  refine x_iload_n 3 dX16_open_348 rfl rfl rfl ?_
  refine x_aload_n 0 dX16_open_349 rfl rfl rfl rfl rfl ?_
  refine y_getF 32 1 (c := 15) (z := 19) dX16_open_350 i65 rfl in_X16 q1100 rfl rfl rfl fn_65_1 (Nat.le_trans (Nat.le_of_ble_eq_true rfl) hn) rfl ?_
  refine x_aload_n 0 dX16_open_353 rfl rfl rfl rfl rfl ?_
  refine y_getF 28 0 (c := 15) (z := 6) dX16_open_354 i65 rfl in_X16 q1099 rfl rfl rfl fn_65_0 (Nat.le_trans (Nat.le_of_ble_eq_true rfl) hn) rfl ?_
  refine x_aload_n 0 dX16_open_357 rfl rfl rfl rfl rfl ?_
  refine y_getF 28 0 (c := 15) (z := 6) dX16_open_358 i65 rfl in_X16 q1099 rfl rfl rfl fn_65_0 (Nat.le_trans (Nat.le_of_ble_eq_true rfl) hn) rfl ?_
  refine y_getF 96 9 (c := 3) (z := 16) dX16_open_361 i6 rfl in_X4 q674 rfl rfl rfl fn_6_9 (Nat.le_trans (Nat.le_of_ble_eq_true rfl) hn) rfl ?_
  refine x_aload_n 0 dX16_open_364 rfl rfl rfl rfl rfl ?_
  refine y_getF 28 0 (c := 15) (z := 6) dX16_open_365 i65 rfl in_X16 q1099 rfl rfl rfl fn_65_0 (Nat.le_trans (Nat.le_of_ble_eq_true rfl) hn) rfl ?_
  refine x_iload_n 1 dX16_open_368 rfl rfl rfl ?_
  refine x_iconst 1 (z := 1) dX16_open_369 rfl (by decide) rfl ?_
  refine y_Vi 69 (M := mX4_child) (As := [(0, a1), (0, 1)]) (st := [(2, 16), (2, 6), (2, 19), (0, a3), (2, 55)]) dX16_open_370 i6 rfl q1829 q1830 q1831 q371 q1832 rfl hmX4_child rfl rfl rfl rfl rfl rfl rfl rfl (k_mono h (fun r1 w2 h => ?_))
  obtain ⟨e3, h⟩ := h
  refine y_iald (z := w2 16 r1) dX16_open_373 ⟨4096, i16, e3⟩ rfl rfl ?_
  refine y_Vi 110 (M := mX7_of) (As := [(2, 6), (0, w2 16 r1)]) (st := [(0, a3), (2, 55)]) dX16_open_374 i19 rfl q1849 q1850 q1851 q374 q1852 rfl hmX7_of rfl rfl rfl rfl rfl rfl rfl rfl (k_mono h (fun r4 w5 h => ?_))
  obtain ⟨e6, h⟩ := h
  refine y_iast (x' := r4) dX16_open_377 ⟨2000, i55, e6⟩ rfl rfl ?_
  refine x_aload_n 0 dX16_open_378 rfl rfl rfl rfl rfl ?_
  refine y_getF 40 3 (c := 15) (z := 53) dX16_open_379 i65 rfl in_X16 q1102 rfl rfl rfl fn_65_3 (Nat.le_trans (Nat.le_of_ble_eq_true rfl) hn) rfl ?_
  refine y_getF 134 1 (c := 14) (z := 55) dX16_open_382 i53 rfl in_X15 q1023 rfl rfl rfl fn_53_1 (Nat.le_trans (Nat.le_of_ble_eq_true rfl) hn) rfl ?_
  refine x_iload_n 3 dX16_open_385 rfl rfl rfl ?_
  refine y_iald (z := (b_up w5 55 a3 r4) 55 a3) dX16_open_386 ⟨2000, i55, e6⟩ rfl rfl ?_
  refine x_if_lt (t := 410) 23 dX16_open_387 rfl rfl (b_ite h (fun hc h => ?_) (fun hc h => ?_))
  · refine x_aload_n 0 dX16_open_410 rfl rfl rfl rfl rfl ?_
    refine x_aload_n 0 dX16_open_411 rfl rfl rfl rfl rfl ?_
    refine y_getF 28 0 (c := 15) (z := 6) dX16_open_412 i65 rfl in_X16 q1099 rfl rfl rfl fn_65_0 (Nat.le_trans (Nat.le_of_ble_eq_true rfl) hn) rfl ?_
    refine x_iload_n 1 dX16_open_415 rfl rfl rfl ?_
    refine x_iconst 1 (z := 1) dX16_open_416 rfl (by decide) rfl ?_
    refine y_Vi 69 (M := mX4_child) (As := [(0, a1), (0, 1)]) (st := [(2, 65)]) dX16_open_417 i6 rfl q1829 q1830 q1831 q371 q1832 rfl hmX4_child rfl rfl rfl rfl rfl rfl rfl rfl (k_mono h (fun r7 w8 h => ?_))
    refine y_Vi 99 (M := mX16_wrong) (As := [(0, r7)]) (st := []) dX16_open_420 i65 rfl q1845 q1847 qs24 q383 q1848 rfl hmX16_wrong rfl rfl rfl rfl rfl rfl rfl rfl (k_mono h (fun r9 w10 h => ?_))
    refine x_iconst 1 (z := 1) dX16_open_423 rfl (by decide) rfl ?_
    refine x_isub dX16_open_424 rfl ?_
    exact y_iret dX16_open_425 rfl h
  · refine x_aload_n 0 dX16_open_390 rfl rfl rfl rfl rfl ?_
    refine y_getF 32 1 (c := 15) (z := 19) dX16_open_391 i65 rfl in_X16 q1100 rfl rfl rfl fn_65_1 (Nat.le_trans (Nat.le_of_ble_eq_true rfl) hn) rfl ?_
    refine x_aload_n 0 dX16_open_394 rfl rfl rfl rfl rfl ?_
    refine y_getF 40 3 (c := 15) (z := 53) dX16_open_395 i65 rfl in_X16 q1102 rfl rfl rfl fn_65_3 (Nat.le_trans (Nat.le_of_ble_eq_true rfl) hn) rfl ?_
    refine y_getF 134 1 (c := 14) (z := 55) dX16_open_398 i53 rfl in_X15 q1023 rfl rfl rfl fn_53_1 (Nat.le_trans (Nat.le_of_ble_eq_true rfl) hn) rfl ?_
    refine x_iload_n 3 dX16_open_401 rfl rfl rfl ?_
    refine y_iald (z := (b_up w5 55 a3 r4) 55 a3) dX16_open_402 ⟨2000, i55, e6⟩ rfl rfl ?_
    refine x_iconst 4 (z := 4) dX16_open_403 rfl (by decide) rfl ?_
    refine y_Vi 120 (M := mX7_is) (As := [(0, (b_up w5 55 a3 r4) 55 a3), (0, 4)]) (st := []) dX16_open_404 i19 rfl q1866 q744 q745 q374 q746 rfl hmX7_is rfl rfl rfl rfl rfl rfl rfl rfl (k_mono h (fun r11 w12 h => ?_))
    refine x_if_ne (t := 426) 19 dX16_open_407 rfl rfl (b_ite h (fun hc h => ?_) (fun hc h => ?_))
    · refine x_aload_n 0 dX16_open_426 rfl rfl rfl rfl rfl ?_
      refine y_getF 40 3 (c := 15) (z := 53) dX16_open_427 i65 rfl in_X16 q1102 rfl rfl rfl fn_65_3 (Nat.le_trans (Nat.le_of_ble_eq_true rfl) hn) rfl ?_
      refine y_getF 137 4 (c := 14) (z := 58) dX16_open_430 i53 rfl in_X15 q1032 rfl rfl rfl fn_53_4 (Nat.le_trans (Nat.le_of_ble_eq_true rfl) hn) rfl ?_
      refine x_iload_n 3 dX16_open_433 rfl rfl rfl ?_
      refine x_aload_n 0 dX16_open_434 rfl rfl rfl rfl rfl ?_
      refine y_getF 28 0 (c := 15) (z := 6) dX16_open_435 i65 rfl in_X16 q1099 rfl rfl rfl fn_65_0 (Nat.le_trans (Nat.le_of_ble_eq_true rfl) hn) rfl ?_
      refine x_iload_n 1 dX16_open_438 rfl rfl rfl ?_
      refine y_Vi 139 (M := mX4_size) (As := [(0, a1)]) (st := [(0, a3), (2, 58)]) dX16_open_439 i6 rfl q1902 q1903 q1904 q371 q1905 rfl hmX4_size rfl rfl rfl rfl rfl rfl rfl rfl (k_mono h (fun r13 w14 h => ?_))
      obtain ⟨e15, h⟩ := h
      refine y_iast (x' := r13) dX16_open_442 ⟨2000, i58, e15⟩ rfl rfl ?_
      refine x_aload_n 0 dX16_open_443 rfl rfl rfl rfl rfl ?_
      refine y_getF 40 3 (c := 15) (z := 53) dX16_open_444 i65 rfl in_X16 q1102 rfl rfl rfl fn_65_3 (Nat.le_trans (Nat.le_of_ble_eq_true rfl) hn) rfl ?_
      refine y_getF 142 5 (c := 14) (z := 59) dX16_open_447 i53 rfl in_X15 q1035 rfl rfl rfl fn_53_5 (Nat.le_trans (Nat.le_of_ble_eq_true rfl) hn) rfl ?_
      refine x_iload_n 3 dX16_open_450 rfl rfl rfl ?_
      refine x_aload_n 0 dX16_open_451 rfl rfl rfl rfl rfl ?_
      refine y_getF 28 0 (c := 15) (z := 6) dX16_open_452 i65 rfl in_X16 q1099 rfl rfl rfl fn_65_0 (Nat.le_trans (Nat.le_of_ble_eq_true rfl) hn) rfl ?_
      refine y_getF 145 6 (c := 3) (z := 13) dX16_open_455 i6 rfl in_X4 q666 rfl rfl rfl fn_6_6 (Nat.le_trans (Nat.le_of_ble_eq_true rfl) hn) rfl ?_
      refine x_iload_n 1 dX16_open_458 rfl rfl rfl ?_
      obtain ⟨e16, h⟩ := h
      refine y_iald (z := w14 13 a1) dX16_open_459 ⟨4096, i13, e16⟩ rfl rfl ?_
      refine x_aload_n 0 dX16_open_460 rfl rfl rfl rfl rfl ?_
      refine y_getF 28 0 (c := 15) (z := 6) dX16_open_461 i65 rfl in_X16 q1099 rfl rfl rfl fn_65_0 (Nat.le_trans (Nat.le_of_ble_eq_true rfl) hn) rfl ?_
      refine y_getF 148 5 (c := 3) (z := 12) dX16_open_464 i6 rfl in_X4 q663 rfl rfl rfl fn_6_5 (Nat.le_trans (Nat.le_of_ble_eq_true rfl) hn) rfl ?_
      refine x_iload_n 1 dX16_open_467 rfl rfl rfl ?_
      obtain ⟨e17, h⟩ := h
      refine y_iald (z := w14 12 a1) dX16_open_468 ⟨4096, i12, e17⟩ rfl rfl ?_
      refine x_isub dX16_open_469 rfl ?_
      obtain ⟨e18, h⟩ := h
      refine y_iast (x' := b_i ((w14 13 a1) - (w14 12 a1))) dX16_open_470 ⟨2000, i59, e18⟩ rfl rfl ?_
      refine x_iload_n 3 dX16_open_471 rfl rfl rfl ?_
      exact y_iret dX16_open_472 rfl h
    · refine x_aload_n 0 dX16_open_410 rfl rfl rfl rfl rfl ?_
      refine x_aload_n 0 dX16_open_411 rfl rfl rfl rfl rfl ?_
      refine y_getF 28 0 (c := 15) (z := 6) dX16_open_412 i65 rfl in_X16 q1099 rfl rfl rfl fn_65_0 (Nat.le_trans (Nat.le_of_ble_eq_true rfl) hn) rfl ?_
      refine x_iload_n 1 dX16_open_415 rfl rfl rfl ?_
      refine x_iconst 1 (z := 1) dX16_open_416 rfl (by decide) rfl ?_
      refine y_Vi 69 (M := mX4_child) (As := [(0, a1), (0, 1)]) (st := [(2, 65)]) dX16_open_417 i6 rfl q1829 q1830 q1831 q371 q1832 rfl hmX4_child rfl rfl rfl rfl rfl rfl rfl rfl (k_mono h (fun r19 w20 h => ?_))
      refine y_Vi 99 (M := mX16_wrong) (As := [(0, r19)]) (st := []) dX16_open_420 i65 rfl q1845 q1847 qs24 q383 q1848 rfl hmX16_wrong rfl rfl rfl rfl rfl rfl rfl rfl (k_mono h (fun r21 w22 h => ?_))
      refine x_iconst 1 (z := 1) dX16_open_423 rfl (by decide) rfl ?_
      refine x_isub dX16_open_424 rfl ?_
      exact y_iret dX16_open_425 rfl h
theorem rX16_isPart {d n : Nat} {w : bW} {Q : Int → bW → Prop} {X : String → bW → Prop} (hn : 143 ≤ n) (a1 : Int) (a2 : Int) (h : b_K d mX4_isBare [(2, 6), (0, a1), (0, a2), (0, 1)] n w (fun r1 w2 => (r1 = 0 ∨ r1 = 1) ∧ Q r1 w2) X) : b_K (d + 1) mX16_isPart [(2, 65), (0, a1), (0, a2)] n w Q X := by
  have i6 := iz6 (Nat.le_trans (Nat.le_of_ble_eq_true rfl) hn)
  have i65 := iz65 (Nat.le_trans (Nat.le_of_ble_eq_true rfl) hn)
  refine k_of (by decide) rfl rfl rfl (ls := [(2, 65), (0, a1), (0, a2)]) rfl ?_
  refine x_aload_n 0 dX16_isPart_0 rfl rfl rfl rfl rfl ?_
  refine y_getF 28 0 (c := 15) (z := 6) dX16_isPart_1 i65 rfl in_X16 q1099 rfl rfl rfl fn_65_0 (Nat.le_trans (Nat.le_of_ble_eq_true rfl) hn) rfl ?_
  refine x_iload_n 1 dX16_isPart_4 rfl rfl rfl ?_
  refine x_iload_n 2 dX16_isPart_5 rfl rfl rfl ?_
  refine x_iconst 1 (z := 1) dX16_isPart_6 rfl (by decide) rfl ?_
  refine y_Vi 79 (M := mX4_isBare) (As := [(0, a1), (0, a2), (0, 1)]) (st := []) dX16_isPart_7 i6 rfl q1837 q1838 q1839 q371 q1840 rfl hmX4_isBare rfl rfl rfl rfl rfl rfl rfl rfl (k_mono h (fun r1 w2 h => ?_))
  exact y_zret dX16_isPart_10 rfl h.1 h.2
theorem rX16_wrong {d n : Nat} {w : bW} {Q : Int → bW → Prop} {X : String → bW → Prop} (hn : 66 ≤ n) (a1 : Int) (h : if 0 ≤ w 65 15 then (Q 0 w) else (Q 0 (b_up w 65 15 a1))) : b_K (d + 1) mX16_wrong [(2, 65), (0, a1)] n w Q X := by
  have i65 := iz65 (Nat.le_trans (Nat.le_of_ble_eq_true rfl) hn)
  refine k_of (by decide) rfl rfl rfl (ls := [(2, 65), (0, a1)]) rfl ?_
  refine x_aload_n 0 dX16_wrong_0 rfl rfl rfl rfl rfl ?_
  refine y_get 52 15 (c := 15) (z := w 65 15) dX16_wrong_1 i65 rfl in_X16 q1114 rfl rfl rfl rfl rfl ?_
  refine x_if_ge (t := 12) 8 dX16_wrong_4 rfl rfl (b_ite h (fun hc h => ?_) (fun hc h => ?_))
  · refine x_iconst 0 (z := 0) dX16_wrong_12 rfl (by decide) rfl ?_
    exact y_iret dX16_wrong_13 rfl h
  · refine x_aload_n 0 dX16_wrong_7 rfl rfl rfl rfl rfl ?_
    refine x_iload_n 1 dX16_wrong_8 rfl rfl rfl ?_
    refine x_put 52 15 (c := 15) dX16_wrong_9 i65 rfl in_X16 tyX16_ok nmX16 q1114 rfl rfl rfl (Or.inl rfl) (Or.inl ⟨rfl, rfl⟩) rfl ?_
    refine x_iconst 0 (z := 0) dX16_wrong_12 rfl (by decide) rfl ?_
    exact y_iret dX16_wrong_13 rfl h
abbrev LX16_entries_33 (d n : Nat) (Q : Int → bW → Prop) (X : String → bW → Prop) (a1 : Int) (a3 : Int) (a4 : Int) (a6 : Int) (a7 : Int) (a8 : Int) (a9 : Int) (w : bW) : Prop := b_Y (d + 1) mX16_entries n Q X 33 [(2, 65), (0, a1), (9, 0), (0, a3), (1, a4), (9, 0), (0, a6), (0, a7), (0, a8), (0, a9), (9, 0), (9, 0), (9, 0), (9, 0)] [] w
abbrev LX16_entries_70 (d n : Nat) (Q : Int → bW → Prop) (X : String → bW → Prop) (a1 : Int) (a3 : Int) (a4 : Int) (a6 : Int) (a7 : Int) (a8 : Int) (a9 : Int) (s0 : Int) (w : bW) : Prop := b_Y (d + 1) mX16_entries n Q X 70 [(2, 65), (0, a1), (9, 0), (0, a3), (1, a4), (9, 0), (0, a6), (0, a7), (0, a8), (0, a9), (9, 0), (9, 0), (9, 0), (9, 0)] [(0, s0)] w
abbrev LX16_entries_185 (d n : Nat) (Q : Int → bW → Prop) (X : String → bW → Prop) (a1 : Int) (a3 : Int) (a4 : Int) (a6 : Int) (a7 : Int) (a8 : Int) (a9 : Int) (a10 : Int) (a11 : Int) (w : bW) : Prop := b_Y (d + 1) mX16_entries n Q X 185 [(2, 65), (0, a1), (9, 0), (0, a3), (1, a4), (9, 0), (0, a6), (0, a7), (0, a8), (0, a9), (0, a10), (1, a11), (9, 0), (9, 0)] [] w
theorem rX16_entries {d n : Nat} {w : bW} {Q : Int → bW → Prop} {X : String → bW → Prop} (hn : 143 ≤ n) (a1 : Int) (a2 : Int) (a3 : Int) (a4 : Int) (a6 : Int) (h : (0 ≤ a3 ∧ a3 < 60000) ∧ (if w 20 a3 = 14 then ((0 ≤ a2 ∧ a2 < 4096) ∧ (LX16_entries_33 d n Q X a1 a3 a4 a6 1 (w 16 a2) 0 w)) else (Q 1 w))) : b_K (d + 1) mX16_entries [(2, 65), (0, a1), (0, a2), (0, a3), (1, a4), (0, a6)] n w Q X := by
  have i6 := iz6 (Nat.le_trans (Nat.le_of_ble_eq_true rfl) hn)
  have i16 := iz16 (Nat.le_trans (Nat.le_of_ble_eq_true rfl) hn)
  have i19 := iz19 (Nat.le_trans (Nat.le_of_ble_eq_true rfl) hn)
  have i20 := iz20 (Nat.le_trans (Nat.le_of_ble_eq_true rfl) hn)
  have i65 := iz65 (Nat.le_trans (Nat.le_of_ble_eq_true rfl) hn)
  refine k_of (by decide) rfl rfl rfl (ls := [(2, 65), (0, a1), (0, a2), (0, a3), (1, a4), (9, 0), (0, a6), (9, 0), (9, 0), (9, 0), (9, 0), (9, 0), (9, 0), (9, 0)]) rfl ?_
  refine x_aload_n 0 dX16_entries_0 rfl rfl rfl rfl rfl ?_
  refine y_getF 32 1 (c := 15) (z := 19) dX16_entries_1 i65 rfl in_X16 q1100 rfl rfl rfl fn_65_1 (Nat.le_trans (Nat.le_of_ble_eq_true rfl) hn) rfl ?_
  refine y_getF 163 0 (c := 6) (z := 20) dX16_entries_4 i19 rfl in_X7 q755 rfl rfl rfl fn_19_0 (Nat.le_trans (Nat.le_of_ble_eq_true rfl) hn) rfl ?_
  refine x_iload_n 3 dX16_entries_7 rfl rfl rfl ?_
  obtain ⟨e1, h⟩ := h
  refine y_bald (z := w 20 a3) dX16_entries_8 ⟨60000, i20, e1⟩ rfl rfl ?_
  refine x_bipush 14 (z := 14) dX16_entries_9 rfl (by decide) rfl ?_
  refine x_icmp_eq (t := 16) 5 dX16_entries_11 rfl rfl (b_ite h (fun hc h => ?_) (fun hc h => ?_))
  · refine x_iconst 1 (z := 1) dX16_entries_16 rfl (by decide) rfl ?_
    refine x_istore 7 (ls' := [(2, 65), (0, a1), (0, a2), (0, a3), (1, a4), (9, 0), (0, a6), (0, 1), (9, 0), (9, 0), (9, 0), (9, 0), (9, 0), (9, 0)]) dX16_entries_17 rfl rfl rfl ?_
    refine x_aload_n 0 dX16_entries_19 rfl rfl rfl rfl rfl ?_
    refine y_getF 28 0 (c := 15) (z := 6) dX16_entries_20 i65 rfl in_X16 q1099 rfl rfl rfl fn_65_0 (Nat.le_trans (Nat.le_of_ble_eq_true rfl) hn) rfl ?_
    refine y_getF 96 9 (c := 3) (z := 16) dX16_entries_23 i6 rfl in_X4 q674 rfl rfl rfl fn_6_9 (Nat.le_trans (Nat.le_of_ble_eq_true rfl) hn) rfl ?_
    refine x_iload_n 2 dX16_entries_26 rfl rfl rfl ?_
    obtain ⟨e2, h⟩ := h
    refine y_iald (z := w 16 a2) dX16_entries_27 ⟨4096, i16, e2⟩ rfl rfl ?_
    refine x_istore 8 (ls' := [(2, 65), (0, a1), (0, a2), (0, a3), (1, a4), (9, 0), (0, a6), (0, 1), (0, w 16 a2), (9, 0), (9, 0), (9, 0), (9, 0), (9, 0)]) dX16_entries_28 rfl rfl rfl ?_
    refine x_iconst 0 (z := 0) dX16_entries_30 rfl (by decide) rfl ?_
    refine x_istore 9 (ls' := [(2, 65), (0, a1), (0, a2), (0, a3), (1, a4), (9, 0), (0, a6), (0, 1), (0, w 16 a2), (0, 0), (9, 0), (9, 0), (9, 0), (9, 0)]) dX16_entries_31 rfl rfl rfl ?_
    exact x_fg (fgk (fgk (fgd (fgk (fgk (fgk (fgk (fgk (fgk (fgk (fgk (fgk (fgk (fgk (fg0))))))))))))))) h
  · refine x_iconst 1 (z := 1) dX16_entries_14 rfl (by decide) rfl ?_
    exact y_zret dX16_entries_15 rfl (by decide) h
theorem sX16_entries_33 {d n : Nat} {w : bW} {Q : Int → bW → Prop} {X : String → bW → Prop} (hn : 143 ≤ n) (a1 : Int) (a3 : Int) (a4 : Int) (a6 : Int) (a7 : Int) (a8 : Int) (a9 : Int) (h : if 2 ≤ a9 then ((a7 = 0 ∨ a7 = 1) ∧ Q a7 w) else (if a7 = 0 then ((a7 = 0 ∨ a7 = 1) ∧ Q a7 w) else (if a9 ≠ 0 then ((0 ≤ a3 ∧ a3 < 60000) ∧ (LX16_entries_70 d n Q X a1 a3 a4 a6 a7 a8 a9 (w 22 a3) w)) else ((0 ≤ a3 ∧ a3 < 60000) ∧ (LX16_entries_70 d n Q X a1 a3 a4 a6 a7 a8 a9 (w 21 a3) w))))) : LX16_entries_33 d n Q X a1 a3 a4 a6 a7 a8 a9 w := by
  have i19 := iz19 (Nat.le_trans (Nat.le_of_ble_eq_true rfl) hn)
  have i21 := iz21 (Nat.le_trans (Nat.le_of_ble_eq_true rfl) hn)
  have i22 := iz22 (Nat.le_trans (Nat.le_of_ble_eq_true rfl) hn)
  have i65 := iz65 (Nat.le_trans (Nat.le_of_ble_eq_true rfl) hn)
  refine x_iload 9 dX16_entries_33 rfl rfl ?_
  refine x_iconst 2 (z := 2) dX16_entries_35 rfl (by decide) rfl ?_
  refine x_icmp_ge (t := 233) 197 dX16_entries_36 rfl rfl (b_ite h (fun hc h => ?_) (fun hc h => ?_))
  · refine x_iload 7 dX16_entries_233 rfl rfl ?_
    exact y_zret dX16_entries_235 rfl h.1 h.2
  · refine x_iload 7 dX16_entries_39 rfl rfl ?_
    refine x_if_eq (t := 233) 192 dX16_entries_41 rfl rfl (b_ite h (fun hc h => ?_) (fun hc h => ?_))
    · refine x_iload 7 dX16_entries_233 rfl rfl ?_
      exact y_zret dX16_entries_235 rfl h.1 h.2
    · refine x_iload 9 dX16_entries_44 rfl rfl ?_
      refine x_if_ne (t := 61) 15 dX16_entries_46 rfl rfl (b_ite h (fun hc h => ?_) (fun hc h => ?_))
      · refine x_aload_n 0 dX16_entries_61 rfl rfl rfl rfl rfl ?_
        refine y_getF 32 1 (c := 15) (z := 19) dX16_entries_62 i65 rfl in_X16 q1100 rfl rfl rfl fn_65_1 (Nat.le_trans (Nat.le_of_ble_eq_true rfl) hn) rfl ?_
        refine y_getF 169 2 (c := 6) (z := 22) dX16_entries_65 i19 rfl in_X7 q767 rfl rfl rfl fn_19_2 (Nat.le_trans (Nat.le_of_ble_eq_true rfl) hn) rfl ?_
        refine x_iload_n 3 dX16_entries_68 rfl rfl rfl ?_
        obtain ⟨e1, h⟩ := h
        refine y_iald (z := w 22 a3) dX16_entries_69 ⟨60000, i22, e1⟩ rfl rfl ?_
        exact x_fg (fgk (fgk (fgk (fgk (fgk (fgk (fgk (fgk (fgk (fgk (fgk (fgk (fgk (fgk (fg0))))))))))))))) h
      · refine x_aload_n 0 dX16_entries_49 rfl rfl rfl rfl rfl ?_
        refine y_getF 32 1 (c := 15) (z := 19) dX16_entries_50 i65 rfl in_X16 q1100 rfl rfl rfl fn_65_1 (Nat.le_trans (Nat.le_of_ble_eq_true rfl) hn) rfl ?_
        refine y_getF 166 1 (c := 6) (z := 21) dX16_entries_53 i19 rfl in_X7 q761 rfl rfl rfl fn_19_1 (Nat.le_trans (Nat.le_of_ble_eq_true rfl) hn) rfl ?_
        refine x_iload_n 3 dX16_entries_56 rfl rfl rfl ?_
        obtain ⟨e2, h⟩ := h
        refine y_iald (z := w 21 a3) dX16_entries_57 ⟨60000, i21, e2⟩ rfl rfl ?_
        refine x_goto 12 (q := 70) dX16_entries_58 rfl ?_
        exact x_fg (fgk (fgk (fgk (fgk (fgk (fgk (fgk (fgk (fgk (fgk (fgk (fgk (fgk (fgk (fg0))))))))))))))) h
theorem sX16_entries_70 {d n : Nat} {w : bW} {Q : Int → bW → Prop} {X : String → bW → Prop} (hn : 143 ≤ n) (a1 : Int) (a3 : Int) (a4 : Int) (a6 : Int) (a7 : Int) (a8 : Int) (a9 : Int) (s0 : Int) (h : (0 ≤ a8 ∧ a8 < 4096) ∧ (if w 14 a8 = 0 then (LX16_entries_185 d n Q X a1 a3 a4 a6 a7 a8 a9 s0 (b_lor a4 (b_lshl a9 a6)) w) else (b_K d mX4_text [(2, 6)] n w (fun r2 w3 => (0 ≤ a8 ∧ a8 < 4096) ∧ (b_K d mX14_keep [(2, 50), (2, r2), (0, w3 14 a8), (0, w3 15 a8)] n w3 (fun r5 w6 => (0 ≤ b_i (a1 + 1) ∧ b_i (a1 + 1) < 2001) ∧ (b_K d mX15_entry [(2, 53), (0, a1), (0, r5)] n (b_up w6 57 (b_i (a1 + 1)) (w6 53 11)) (fun r8 w9 => if 0 ≤ r8 then (b_K d mX16_entry [(2, 65), (0, a1), (0, r5), (0, s0), (1, b_lor a4 (b_lshl a9 a6)), (0, b_i (a6 + 1))] n w9 (fun r10 w11 => LX16_entries_185 d n Q X a1 a3 a4 a6 0 a8 a9 s0 (b_lor a4 (b_lshl a9 a6)) w11) X) else (b_K d mX16_entry [(2, 65), (0, a1), (0, r5), (0, s0), (1, b_lor a4 (b_lshl a9 a6)), (0, b_i (a6 + 1))] n w9 (fun r12 w13 => LX16_entries_185 d n Q X a1 a3 a4 a6 1 a8 a9 s0 (b_lor a4 (b_lshl a9 a6)) w13) X)) X)) X)) X))) : LX16_entries_70 d n Q X a1 a3 a4 a6 a7 a8 a9 s0 w := by
  have i6 := iz6 (Nat.le_trans (Nat.le_of_ble_eq_true rfl) hn)
  have i14 := iz14 (Nat.le_trans (Nat.le_of_ble_eq_true rfl) hn)
  have i15 := iz15 (Nat.le_trans (Nat.le_of_ble_eq_true rfl) hn)
  have i50 := iz50 (Nat.le_trans (Nat.le_of_ble_eq_true rfl) hn)
  have i53 := iz53 (Nat.le_trans (Nat.le_of_ble_eq_true rfl) hn)
  have i57 := iz57 (Nat.le_trans (Nat.le_of_ble_eq_true rfl) hn)
  have i65 := iz65 (Nat.le_trans (Nat.le_of_ble_eq_true rfl) hn)
  refine x_istore 10 (ls' := [(2, 65), (0, a1), (9, 0), (0, a3), (1, a4), (9, 0), (0, a6), (0, a7), (0, a8), (0, a9), (0, s0), (9, 0), (9, 0), (9, 0)]) dX16_entries_70 rfl rfl rfl ?_
  refine x_lload 4 dX16_entries_72 rfl rfl ?_
  refine x_iload 9 dX16_entries_74 rfl rfl ?_
  refine x_i2l dX16_entries_76 rfl ?_
  refine x_iload 6 dX16_entries_77 rfl rfl ?_
  refine x_lshl dX16_entries_79 rfl ?_
  refine x_lor dX16_entries_80 rfl ?_
  refine x_lstore 11 (ls' := [(2, 65), (0, a1), (9, 0), (0, a3), (1, a4), (9, 0), (0, a6), (0, a7), (0, a8), (0, a9), (0, s0), (1, b_lor a4 (b_lshl a9 a6)), (9, 0), (9, 0)]) dX16_entries_81 rfl rfl rfl ?_
  refine x_aload_n 0 dX16_entries_83 rfl rfl rfl rfl rfl ?_
  refine y_getF 28 0 (c := 15) (z := 6) dX16_entries_84 i65 rfl in_X16 q1099 rfl rfl rfl fn_65_0 (Nat.le_trans (Nat.le_of_ble_eq_true rfl) hn) rfl ?_
  refine y_getF 172 7 (c := 3) (z := 14) dX16_entries_87 i6 rfl in_X4 q669 rfl rfl rfl fn_6_7 (Nat.le_trans (Nat.le_of_ble_eq_true rfl) hn) rfl ?_
  refine x_iload 8 dX16_entries_90 rfl rfl ?_
  obtain ⟨e1, h⟩ := h
  refine y_iald (z := w 14 a8) dX16_entries_92 ⟨4096, i14, e1⟩ rfl rfl ?_
  refine x_if_eq (t := 185) 92 dX16_entries_93 rfl rfl (b_ite h (fun hc h => ?_) (fun hc h => ?_))
  · exact x_fg (fgk (fgk (fgk (fgk (fgk (fgk (fgk (fgk (fgk (fgk (fgk (fgk (fgk (fgk (fg0))))))))))))))) h
  · refine x_aload_n 0 dX16_entries_96 rfl rfl rfl rfl rfl ?_
    refine y_getF 36 2 (c := 15) (z := 50) dX16_entries_97 i65 rfl in_X16 q1101 rfl rfl rfl fn_65_2 (Nat.le_trans (Nat.le_of_ble_eq_true rfl) hn) rfl ?_
    refine x_aload_n 0 dX16_entries_100 rfl rfl rfl rfl rfl ?_
    refine y_getF 28 0 (c := 15) (z := 6) dX16_entries_101 i65 rfl in_X16 q1099 rfl rfl rfl fn_65_0 (Nat.le_trans (Nat.le_of_ble_eq_true rfl) hn) rfl ?_
    refine y_Vr 175 (M := mX4_text) (As := []) (st := [(2, 50)]) dX16_entries_104 i6 rfl q1871 q1872 q1873 q371 q1874 rfl hmX4_text rfl rfl rfl rfl rfl rfl rfl rfl (k_mono h (fun r2 w3 h => ?_))
    refine x_aload_n 0 dX16_entries_107 rfl rfl rfl rfl rfl ?_
    refine y_getF 28 0 (c := 15) (z := 6) dX16_entries_108 i65 rfl in_X16 q1099 rfl rfl rfl fn_65_0 (Nat.le_trans (Nat.le_of_ble_eq_true rfl) hn) rfl ?_
    refine y_getF 172 7 (c := 3) (z := 14) dX16_entries_111 i6 rfl in_X4 q669 rfl rfl rfl fn_6_7 (Nat.le_trans (Nat.le_of_ble_eq_true rfl) hn) rfl ?_
    refine x_iload 8 dX16_entries_114 rfl rfl ?_
    refine y_iald (z := w3 14 a8) dX16_entries_116 ⟨4096, i14, e1⟩ rfl rfl ?_
    refine x_aload_n 0 dX16_entries_117 rfl rfl rfl rfl rfl ?_
    refine y_getF 28 0 (c := 15) (z := 6) dX16_entries_118 i65 rfl in_X16 q1099 rfl rfl rfl fn_65_0 (Nat.le_trans (Nat.le_of_ble_eq_true rfl) hn) rfl ?_
    refine y_getF 179 8 (c := 3) (z := 15) dX16_entries_121 i6 rfl in_X4 q671 rfl rfl rfl fn_6_8 (Nat.le_trans (Nat.le_of_ble_eq_true rfl) hn) rfl ?_
    refine x_iload 8 dX16_entries_124 rfl rfl ?_
    obtain ⟨e4, h⟩ := h
    refine y_iald (z := w3 15 a8) dX16_entries_126 ⟨4096, i15, e4⟩ rfl rfl ?_
    refine y_Vi 182 (M := mX14_keep) (As := [(2, r2), (0, w3 14 a8), (0, w3 15 a8)]) (st := []) dX16_entries_127 i50 rfl q1875 q1876 q1877 q381 q1878 rfl hmX14_keep rfl rfl rfl rfl rfl rfl rfl rfl (k_mono h (fun r5 w6 h => ?_))
    refine x_istore 13 (ls' := [(2, 65), (0, a1), (9, 0), (0, a3), (1, a4), (9, 0), (0, a6), (0, a7), (0, a8), (0, a9), (0, s0), (1, b_lor a4 (b_lshl a9 a6)), (9, 0), (0, r5)]) dX16_entries_130 rfl rfl rfl ?_
    refine x_aload_n 0 dX16_entries_132 rfl rfl rfl rfl rfl ?_
    refine y_getF 40 3 (c := 15) (z := 53) dX16_entries_133 i65 rfl in_X16 q1102 rfl rfl rfl fn_65_3 (Nat.le_trans (Nat.le_of_ble_eq_true rfl) hn) rfl ?_
    refine y_getF 116 3 (c := 14) (z := 57) dX16_entries_136 i53 rfl in_X15 q1030 rfl rfl rfl fn_53_3 (Nat.le_trans (Nat.le_of_ble_eq_true rfl) hn) rfl ?_
    refine x_iload_n 1 dX16_entries_139 rfl rfl rfl ?_
    refine x_iconst 1 (z := 1) dX16_entries_140 rfl (by decide) rfl ?_
    refine x_iadd dX16_entries_141 rfl ?_
    refine x_aload_n 0 dX16_entries_142 rfl rfl rfl rfl rfl ?_
    refine y_getF 40 3 (c := 15) (z := 53) dX16_entries_143 i65 rfl in_X16 q1102 rfl rfl rfl fn_65_3 (Nat.le_trans (Nat.le_of_ble_eq_true rfl) hn) rfl ?_
    refine y_get 117 11 (c := 14) (z := w6 53 11) dX16_entries_146 i53 rfl in_X15 q1054 rfl rfl rfl rfl rfl ?_
    obtain ⟨e7, h⟩ := h
    refine y_iast (x' := w6 53 11) dX16_entries_149 ⟨2001, i57, e7⟩ rfl rfl ?_
    refine x_aload_n 0 dX16_entries_150 rfl rfl rfl rfl rfl ?_
    refine y_getF 40 3 (c := 15) (z := 53) dX16_entries_151 i65 rfl in_X16 q1102 rfl rfl rfl fn_65_3 (Nat.le_trans (Nat.le_of_ble_eq_true rfl) hn) rfl ?_
    refine x_iload_n 1 dX16_entries_154 rfl rfl rfl ?_
    refine x_iload 13 dX16_entries_155 rfl rfl ?_
    refine y_Vi 128 (M := mX15_entry) (As := [(0, a1), (0, r5)]) (st := []) dX16_entries_157 i53 rfl q1894 q1895 q1896 q382 q1897 rfl hmX15_entry rfl rfl rfl rfl rfl rfl rfl rfl (k_mono h (fun r8 w9 h => ?_))
    refine x_if_ge (t := 167) 7 dX16_entries_160 rfl rfl (b_ite h (fun hc h => ?_) (fun hc h => ?_))
    · refine x_iconst 0 (z := 0) dX16_entries_167 rfl (by decide) rfl ?_
      refine x_istore 7 (ls' := [(2, 65), (0, a1), (9, 0), (0, a3), (1, a4), (9, 0), (0, a6), (0, 0), (0, a8), (0, a9), (0, s0), (1, b_lor a4 (b_lshl a9 a6)), (9, 0), (0, r5)]) dX16_entries_168 rfl rfl rfl ?_
      refine x_aload_n 0 dX16_entries_170 rfl rfl rfl rfl rfl ?_
      refine x_iload_n 1 dX16_entries_171 rfl rfl rfl ?_
      refine x_iload 13 dX16_entries_172 rfl rfl ?_
      refine x_iload 10 dX16_entries_174 rfl rfl ?_
      refine x_lload 11 dX16_entries_176 rfl rfl ?_
      refine x_iload 6 dX16_entries_178 rfl rfl ?_
      refine x_iconst 1 (z := 1) dX16_entries_180 rfl (by decide) rfl ?_
      refine x_iadd dX16_entries_181 rfl ?_
      refine y_Vv 131 (M := mX16_entry) (As := [(0, a1), (0, r5), (0, s0), (1, b_lor a4 (b_lshl a9 a6)), (0, b_i (a6 + 1))]) (st := []) dX16_entries_182 i65 rfl q1898 q1900 qs28 q383 q1901 rfl hmX16_entry rfl rfl rfl rfl rfl rfl rfl (k_mono h (fun r10 w11 h => ?_))
      exact x_fg (fgk (fgk (fgk (fgk (fgk (fgk (fgk (fgk (fgk (fgk (fgk (fgk (fgk (fgd (fg0))))))))))))))) h
    · refine x_iconst 1 (z := 1) dX16_entries_163 rfl (by decide) rfl ?_
      refine x_goto 4 (q := 168) dX16_entries_164 rfl ?_
      refine x_istore 7 (ls' := [(2, 65), (0, a1), (9, 0), (0, a3), (1, a4), (9, 0), (0, a6), (0, 1), (0, a8), (0, a9), (0, s0), (1, b_lor a4 (b_lshl a9 a6)), (9, 0), (0, r5)]) dX16_entries_168 rfl rfl rfl ?_
      refine x_aload_n 0 dX16_entries_170 rfl rfl rfl rfl rfl ?_
      refine x_iload_n 1 dX16_entries_171 rfl rfl rfl ?_
      refine x_iload 13 dX16_entries_172 rfl rfl ?_
      refine x_iload 10 dX16_entries_174 rfl rfl ?_
      refine x_lload 11 dX16_entries_176 rfl rfl ?_
      refine x_iload 6 dX16_entries_178 rfl rfl ?_
      refine x_iconst 1 (z := 1) dX16_entries_180 rfl (by decide) rfl ?_
      refine x_iadd dX16_entries_181 rfl ?_
      refine y_Vv 131 (M := mX16_entry) (As := [(0, a1), (0, r5), (0, s0), (1, b_lor a4 (b_lshl a9 a6)), (0, b_i (a6 + 1))]) (st := []) dX16_entries_182 i65 rfl q1898 q1900 qs28 q383 q1901 rfl hmX16_entry rfl rfl rfl rfl rfl rfl rfl (k_mono h (fun r12 w13 h => ?_))
      exact x_fg (fgk (fgk (fgk (fgk (fgk (fgk (fgk (fgk (fgk (fgk (fgk (fgk (fgk (fgd (fg0))))))))))))))) h
theorem sX16_entries_185 {d n : Nat} {w : bW} {Q : Int → bW → Prop} {X : String → bW → Prop} (hn : 143 ≤ n) (a1 : Int) (a3 : Int) (a4 : Int) (a6 : Int) (a7 : Int) (a8 : Int) (a9 : Int) (a10 : Int) (a11 : Int) (h : if a7 = 0 then ((0 ≤ a8 ∧ a8 < 4096) ∧ (LX16_entries_33 d n Q X a1 a3 a4 a6 0 (w 17 a8) (b_i (a9 + 1)) w)) else (b_K d mX16_entries [(2, 65), (0, a1), (0, a8), (0, a10), (1, a11), (0, b_i (a6 + 1))] n w (fun r2 w3 => if r2 = 0 then ((0 ≤ a8 ∧ a8 < 4096) ∧ (LX16_entries_33 d n Q X a1 a3 a4 a6 0 (w3 17 a8) (b_i (a9 + 1)) w3)) else ((0 ≤ a8 ∧ a8 < 4096) ∧ (LX16_entries_33 d n Q X a1 a3 a4 a6 1 (w3 17 a8) (b_i (a9 + 1)) w3))) X)) : LX16_entries_185 d n Q X a1 a3 a4 a6 a7 a8 a9 a10 a11 w := by
  have i6 := iz6 (Nat.le_trans (Nat.le_of_ble_eq_true rfl) hn)
  have i17 := iz17 (Nat.le_trans (Nat.le_of_ble_eq_true rfl) hn)
  have i65 := iz65 (Nat.le_trans (Nat.le_of_ble_eq_true rfl) hn)
  refine x_iload 7 dX16_entries_185 rfl rfl ?_
  refine x_if_eq (t := 212) 25 dX16_entries_187 rfl rfl (b_ite h (fun hc h => ?_) (fun hc h => ?_))
  · refine x_iconst 0 (z := 0) dX16_entries_212 rfl (by decide) rfl ?_
    refine x_istore 7 (ls' := [(2, 65), (0, a1), (9, 0), (0, a3), (1, a4), (9, 0), (0, a6), (0, 0), (0, a8), (0, a9), (0, a10), (1, a11), (9, 0), (9, 0)]) dX16_entries_213 rfl rfl rfl ?_
    refine x_aload_n 0 dX16_entries_215 rfl rfl rfl rfl rfl ?_
    refine y_getF 28 0 (c := 15) (z := 6) dX16_entries_216 i65 rfl in_X16 q1099 rfl rfl rfl fn_65_0 (Nat.le_trans (Nat.le_of_ble_eq_true rfl) hn) rfl ?_
    refine y_getF 186 10 (c := 3) (z := 17) dX16_entries_219 i6 rfl in_X4 q678 rfl rfl rfl fn_6_10 (Nat.le_trans (Nat.le_of_ble_eq_true rfl) hn) rfl ?_
    refine x_iload 8 dX16_entries_222 rfl rfl ?_
    obtain ⟨e1, h⟩ := h
    refine y_iald (z := w 17 a8) dX16_entries_224 ⟨4096, i17, e1⟩ rfl rfl ?_
    refine x_istore 8 (ls' := [(2, 65), (0, a1), (9, 0), (0, a3), (1, a4), (9, 0), (0, a6), (0, 0), (0, w 17 a8), (0, a9), (0, a10), (1, a11), (9, 0), (9, 0)]) dX16_entries_225 rfl rfl rfl ?_
    refine x_iinc 9 1 (ls' := [(2, 65), (0, a1), (9, 0), (0, a3), (1, a4), (9, 0), (0, a6), (0, 0), (0, w 17 a8), (0, b_i (a9 + 1)), (0, a10), (1, a11), (9, 0), (9, 0)]) dX16_entries_227 rfl rfl rfl rfl ?_
    refine x_goto (-197) (q := 33) dX16_entries_230 rfl ?_
    exact x_fg (fgk (fgk (fgk (fgk (fgk (fgk (fgk (fgk (fgk (fgk (fgd (fgd (fgk (fgk (fg0))))))))))))))) h
  · refine x_aload_n 0 dX16_entries_190 rfl rfl rfl rfl rfl ?_
    refine x_iload_n 1 dX16_entries_191 rfl rfl rfl ?_
    refine x_iload 8 dX16_entries_192 rfl rfl ?_
    refine x_iload 10 dX16_entries_194 rfl rfl ?_
    refine x_lload 11 dX16_entries_196 rfl rfl ?_
    refine x_iload 6 dX16_entries_198 rfl rfl ?_
    refine x_iconst 1 (z := 1) dX16_entries_200 rfl (by decide) rfl ?_
    refine x_iadd dX16_entries_201 rfl ?_
    refine y_Vi 123 (M := mX16_entries) (As := [(0, a1), (0, a8), (0, a10), (1, a11), (0, b_i (a6 + 1))]) (st := []) dX16_entries_202 i65 rfl q1867 q1869 qs26 q383 q1870 rfl hmX16_entries rfl rfl rfl rfl rfl rfl rfl rfl (k_mono h (fun r2 w3 h => ?_))
    refine x_if_eq (t := 212) 7 dX16_entries_205 rfl rfl (b_ite h (fun hc h => ?_) (fun hc h => ?_))
    · refine x_iconst 0 (z := 0) dX16_entries_212 rfl (by decide) rfl ?_
      refine x_istore 7 (ls' := [(2, 65), (0, a1), (9, 0), (0, a3), (1, a4), (9, 0), (0, a6), (0, 0), (0, a8), (0, a9), (0, a10), (1, a11), (9, 0), (9, 0)]) dX16_entries_213 rfl rfl rfl ?_
      refine x_aload_n 0 dX16_entries_215 rfl rfl rfl rfl rfl ?_
      refine y_getF 28 0 (c := 15) (z := 6) dX16_entries_216 i65 rfl in_X16 q1099 rfl rfl rfl fn_65_0 (Nat.le_trans (Nat.le_of_ble_eq_true rfl) hn) rfl ?_
      refine y_getF 186 10 (c := 3) (z := 17) dX16_entries_219 i6 rfl in_X4 q678 rfl rfl rfl fn_6_10 (Nat.le_trans (Nat.le_of_ble_eq_true rfl) hn) rfl ?_
      refine x_iload 8 dX16_entries_222 rfl rfl ?_
      obtain ⟨e4, h⟩ := h
      refine y_iald (z := w3 17 a8) dX16_entries_224 ⟨4096, i17, e4⟩ rfl rfl ?_
      refine x_istore 8 (ls' := [(2, 65), (0, a1), (9, 0), (0, a3), (1, a4), (9, 0), (0, a6), (0, 0), (0, w3 17 a8), (0, a9), (0, a10), (1, a11), (9, 0), (9, 0)]) dX16_entries_225 rfl rfl rfl ?_
      refine x_iinc 9 1 (ls' := [(2, 65), (0, a1), (9, 0), (0, a3), (1, a4), (9, 0), (0, a6), (0, 0), (0, w3 17 a8), (0, b_i (a9 + 1)), (0, a10), (1, a11), (9, 0), (9, 0)]) dX16_entries_227 rfl rfl rfl rfl ?_
      refine x_goto (-197) (q := 33) dX16_entries_230 rfl ?_
      exact x_fg (fgk (fgk (fgk (fgk (fgk (fgk (fgk (fgk (fgk (fgk (fgd (fgd (fgk (fgk (fg0))))))))))))))) h
    · refine x_iconst 1 (z := 1) dX16_entries_208 rfl (by decide) rfl ?_
      refine x_goto 4 (q := 213) dX16_entries_209 rfl ?_
      refine x_istore 7 (ls' := [(2, 65), (0, a1), (9, 0), (0, a3), (1, a4), (9, 0), (0, a6), (0, 1), (0, a8), (0, a9), (0, a10), (1, a11), (9, 0), (9, 0)]) dX16_entries_213 rfl rfl rfl ?_
      refine x_aload_n 0 dX16_entries_215 rfl rfl rfl rfl rfl ?_
      refine y_getF 28 0 (c := 15) (z := 6) dX16_entries_216 i65 rfl in_X16 q1099 rfl rfl rfl fn_65_0 (Nat.le_trans (Nat.le_of_ble_eq_true rfl) hn) rfl ?_
      refine y_getF 186 10 (c := 3) (z := 17) dX16_entries_219 i6 rfl in_X4 q678 rfl rfl rfl fn_6_10 (Nat.le_trans (Nat.le_of_ble_eq_true rfl) hn) rfl ?_
      refine x_iload 8 dX16_entries_222 rfl rfl ?_
      obtain ⟨e5, h⟩ := h
      refine y_iald (z := w3 17 a8) dX16_entries_224 ⟨4096, i17, e5⟩ rfl rfl ?_
      refine x_istore 8 (ls' := [(2, 65), (0, a1), (9, 0), (0, a3), (1, a4), (9, 0), (0, a6), (0, 1), (0, w3 17 a8), (0, a9), (0, a10), (1, a11), (9, 0), (9, 0)]) dX16_entries_225 rfl rfl rfl ?_
      refine x_iinc 9 1 (ls' := [(2, 65), (0, a1), (9, 0), (0, a3), (1, a4), (9, 0), (0, a6), (0, 1), (0, w3 17 a8), (0, b_i (a9 + 1)), (0, a10), (1, a11), (9, 0), (9, 0)]) dX16_entries_227 rfl rfl rfl rfl ?_
      refine x_goto (-197) (q := 33) dX16_entries_230 rfl ?_
      exact x_fg (fgk (fgk (fgk (fgk (fgk (fgk (fgk (fgk (fgk (fgk (fgd (fgd (fgk (fgk (fg0))))))))))))))) h
theorem rX16_entry {d n : Nat} {w : bW} {Q : Int → bW → Prop} {X : String → bW → Prop} (hn : 143 ≤ n) (a1 : Int) (a2 : Int) (a3 : Int) (a4 : Int) (a6 : Int) (h : (0 ≤ w 53 11 ∧ w 53 11 < 12000) ∧ ((0 ≤ w 53 11 ∧ w 53 11 < 12000) ∧ ((0 ≤ w 53 11 ∧ w 53 11 < 12000) ∧ ((0 ≤ w 53 11 ∧ w 53 11 < 12000) ∧ (Q 0 (b_up (b_up (b_up (b_up (b_up w 53 11 (b_i ((w 53 11) + 1))) 60 (w 53 11) a2) 61 (w 53 11) a3) 62 (w 53 11) a4) 63 (w 53 11) (b_b8 a6))))))) : b_K (d + 1) mX16_entry [(2, 65), (0, a1), (0, a2), (0, a3), (1, a4), (0, a6)] n w Q X := by
  have i53 := iz53 (Nat.le_trans (Nat.le_of_ble_eq_true rfl) hn)
  have i60 := iz60 (Nat.le_trans (Nat.le_of_ble_eq_true rfl) hn)
  have i61 := iz61 (Nat.le_trans (Nat.le_of_ble_eq_true rfl) hn)
  have i62 := iz62 (Nat.le_trans (Nat.le_of_ble_eq_true rfl) hn)
  have i63 := iz63 (Nat.le_trans (Nat.le_of_ble_eq_true rfl) hn)
  have i65 := iz65 (Nat.le_trans (Nat.le_of_ble_eq_true rfl) hn)
  refine k_of (by decide) rfl rfl rfl (ls := [(2, 65), (0, a1), (0, a2), (0, a3), (1, a4), (9, 0), (0, a6), (9, 0)]) rfl ?_
  refine x_aload_n 0 dX16_entry_0 rfl rfl rfl rfl rfl ?_
  refine y_getF 40 3 (c := 15) (z := 53) dX16_entry_1 i65 rfl in_X16 q1102 rfl rfl rfl fn_65_3 (Nat.le_trans (Nat.le_of_ble_eq_true rfl) hn) rfl ?_
  refine x_dup dX16_entry_4 rfl rfl ?_
  refine y_get 117 11 (c := 14) (z := w 53 11) dX16_entry_5 i53 rfl in_X15 q1054 rfl rfl rfl rfl rfl ?_
  refine x_dup_x1 dX16_entry_8 rfl rfl rfl ?_
  refine x_iconst 1 (z := 1) dX16_entry_9 rfl (by decide) rfl ?_
  refine x_iadd dX16_entry_10 rfl ?_
  refine x_put 117 11 (c := 14) dX16_entry_11 i53 rfl in_X15 tyX15_ok nmX15 q1054 rfl rfl rfl (Or.inl rfl) (Or.inl ⟨rfl, rfl⟩) rfl ?_
  refine x_istore 7 (ls' := [(2, 65), (0, a1), (0, a2), (0, a3), (1, a4), (9, 0), (0, a6), (0, w 53 11)]) dX16_entry_14 rfl rfl rfl ?_
  refine x_aload_n 0 dX16_entry_16 rfl rfl rfl rfl rfl ?_
  refine y_getF 40 3 (c := 15) (z := 53) dX16_entry_17 i65 rfl in_X16 q1102 rfl rfl rfl fn_65_3 (Nat.le_trans (Nat.le_of_ble_eq_true rfl) hn) rfl ?_
  refine y_getF 151 7 (c := 14) (z := 60) dX16_entry_20 i53 rfl in_X15 q1041 rfl rfl rfl fn_53_7 (Nat.le_trans (Nat.le_of_ble_eq_true rfl) hn) rfl ?_
  refine x_iload 7 dX16_entry_23 rfl rfl ?_
  refine x_iload_n 2 dX16_entry_25 rfl rfl rfl ?_
  obtain ⟨e1, h⟩ := h
  refine y_iast (x' := a2) dX16_entry_26 ⟨12000, i60, e1⟩ rfl rfl ?_
  refine x_aload_n 0 dX16_entry_27 rfl rfl rfl rfl rfl ?_
  refine y_getF 40 3 (c := 15) (z := 53) dX16_entry_28 i65 rfl in_X16 q1102 rfl rfl rfl fn_65_3 (Nat.le_trans (Nat.le_of_ble_eq_true rfl) hn) rfl ?_
  refine y_getF 153 8 (c := 14) (z := 61) dX16_entry_31 i53 rfl in_X15 q1043 rfl rfl rfl fn_53_8 (Nat.le_trans (Nat.le_of_ble_eq_true rfl) hn) rfl ?_
  refine x_iload 7 dX16_entry_34 rfl rfl ?_
  refine x_iload_n 3 dX16_entry_36 rfl rfl rfl ?_
  obtain ⟨e2, h⟩ := h
  refine y_iast (x' := a3) dX16_entry_37 ⟨12000, i61, e2⟩ rfl rfl ?_
  refine x_aload_n 0 dX16_entry_38 rfl rfl rfl rfl rfl ?_
  refine y_getF 40 3 (c := 15) (z := 53) dX16_entry_39 i65 rfl in_X16 q1102 rfl rfl rfl fn_65_3 (Nat.le_trans (Nat.le_of_ble_eq_true rfl) hn) rfl ?_
  refine y_getF 155 9 (c := 14) (z := 62) dX16_entry_42 i53 rfl in_X15 q1047 rfl rfl rfl fn_53_9 (Nat.le_trans (Nat.le_of_ble_eq_true rfl) hn) rfl ?_
  refine x_iload 7 dX16_entry_45 rfl rfl ?_
  refine x_lload 4 dX16_entry_47 rfl rfl ?_
  obtain ⟨e3, h⟩ := h
  refine y_last (x' := a4) dX16_entry_49 ⟨12000, i62, e3⟩ rfl rfl ?_
  refine x_aload_n 0 dX16_entry_50 rfl rfl rfl rfl rfl ?_
  refine y_getF 40 3 (c := 15) (z := 53) dX16_entry_51 i65 rfl in_X16 q1102 rfl rfl rfl fn_65_3 (Nat.le_trans (Nat.le_of_ble_eq_true rfl) hn) rfl ?_
  refine y_getF 159 10 (c := 14) (z := 63) dX16_entry_54 i53 rfl in_X15 q1050 rfl rfl rfl fn_53_10 (Nat.le_trans (Nat.le_of_ble_eq_true rfl) hn) rfl ?_
  refine x_iload 7 dX16_entry_57 rfl rfl ?_
  refine x_iload 6 dX16_entry_59 rfl rfl ?_
  refine x_i2b dX16_entry_61 rfl ?_
  obtain ⟨e4, h⟩ := h
  refine y_bast (x' := b_b8 a6) dX16_entry_62 ⟨12000, i63, e4⟩ (b_b8_i _) rfl ?_
  exact y_vret dX16_entry_63 rfl h
theorem rX16_body {d n : Nat} {w : bW} {Q : Int → bW → Prop} {X : String → bW → Prop} (hn : 143 ≤ n) (a1 : Int) (a2 : Int) (a3 : Int) (h : (0 ≤ a1 ∧ a1 < 2000) ∧ ((0 ≤ a1 ∧ a1 < 2000) ∧ (b_K d mX7_pair [(2, 19), (0, w 54 a1), (0, w 55 a1)] n w (fun r3 w4 => b_K d mX7_make [(2, 19), (0, 11), (0, 9), (0, (-1))] n w4 (fun r5 w6 => b_K d mX7_pair [(2, 19), (0, r5), (0, w 55 a1)] n w6 (fun r7 w8 => if 0 ≤ r3 then (b_K d mX4_child [(2, 6), (0, a2), (0, 2)] n (b_up (b_up (b_up (b_up (b_up (b_up w8 65 13 a1) 65 14 0) 65 8 0) 65 11 0) 65 8 (b_i (0 + 1))) 68 0 r3) (fun r9 w10 => (0 ≤ r9 ∧ r9 < 4096) ∧ (b_K d mX16_code [(2, 65), (0, w10 16 r9)] n w10 (fun r12 w13 => (0 ≤ a1 ∧ a1 < 2000) ∧ (if 0 ≤ w13 65 15 then (Q 0 (b_up (b_up (b_up w13 56 a1 r12) 65 13 (w 65 13)) 65 14 (w 65 14))) else (if w13 65 11 ≠ 0 then (Q 0 (b_up (b_up (b_up w13 56 a1 r12) 65 13 (w 65 13)) 65 14 (w 65 14))) else (if w13 65 8 ≠ 1 then (b_K d mX16_wrong [(2, 65), (0, a3)] n (b_up w13 56 a1 r12) (fun r15 w16 => Q 0 (b_up (b_up w16 65 13 (w 65 13)) 65 14 (w 65 14))) X) else (if w13 68 0 = r7 then (Q 0 (b_up (b_up (b_up w13 56 a1 r12) 65 13 (w 65 13)) 65 14 (w 65 14))) else (b_K d mX16_wrong [(2, 65), (0, a3)] n (b_up w13 56 a1 r12) (fun r17 w18 => Q 0 (b_up (b_up w18 65 13 (w 65 13)) 65 14 (w 65 14))) X)))))) X)) X) else (b_K d mX16_wrong [(2, 65), (0, a3)] n (b_up (b_up (b_up (b_up w8 65 13 a1) 65 14 0) 65 8 0) 65 11 0) (fun r19 w20 => Q 0 (b_up (b_up w20 65 13 (w 65 13)) 65 14 (w 65 14))) X)) X) X) X))) : b_K (d + 1) mX16_body [(2, 65), (0, a1), (0, a2), (0, a3)] n w Q X := by
  have i6 := iz6 (Nat.le_trans (Nat.le_of_ble_eq_true rfl) hn)
  have i16 := iz16 (Nat.le_trans (Nat.le_of_ble_eq_true rfl) hn)
  have i19 := iz19 (Nat.le_trans (Nat.le_of_ble_eq_true rfl) hn)
  have i53 := iz53 (Nat.le_trans (Nat.le_of_ble_eq_true rfl) hn)
  have i54 := iz54 (Nat.le_trans (Nat.le_of_ble_eq_true rfl) hn)
  have i55 := iz55 (Nat.le_trans (Nat.le_of_ble_eq_true rfl) hn)
  have i56 := iz56 (Nat.le_trans (Nat.le_of_ble_eq_true rfl) hn)
  have i65 := iz65 (Nat.le_trans (Nat.le_of_ble_eq_true rfl) hn)
  have i68 := iz68 (Nat.le_trans (Nat.le_of_ble_eq_true rfl) hn)
  refine k_of (by decide) rfl rfl rfl (ls := [(2, 65), (0, a1), (0, a2), (0, a3), (9, 0), (9, 0), (9, 0), (9, 0), (9, 0)]) rfl ?_
  refine x_aload_n 0 dX16_body_0 rfl rfl rfl rfl rfl ?_
  refine y_get 189 13 (c := 15) (z := w 65 13) dX16_body_1 i65 rfl in_X16 q1112 rfl rfl rfl rfl rfl ?_
  refine x_istore 4 (ls' := [(2, 65), (0, a1), (0, a2), (0, a3), (0, w 65 13), (9, 0), (9, 0), (9, 0), (9, 0)]) dX16_body_4 rfl rfl rfl ?_
  refine x_aload_n 0 dX16_body_6 rfl rfl rfl rfl rfl ?_
  refine y_get 62 14 (c := 15) (z := w 65 14) dX16_body_7 i65 rfl in_X16 q1113 rfl rfl rfl rfl rfl ?_
  refine x_istore 5 (ls' := [(2, 65), (0, a1), (0, a2), (0, a3), (0, w 65 13), (0, w 65 14), (9, 0), (9, 0), (9, 0)]) dX16_body_10 rfl rfl rfl ?_
  refine x_aload_n 0 dX16_body_12 rfl rfl rfl rfl rfl ?_
  refine y_getF 40 3 (c := 15) (z := 53) dX16_body_13 i65 rfl in_X16 q1102 rfl rfl rfl fn_65_3 (Nat.le_trans (Nat.le_of_ble_eq_true rfl) hn) rfl ?_
  refine y_getF 134 1 (c := 14) (z := 55) dX16_body_16 i53 rfl in_X15 q1023 rfl rfl rfl fn_53_1 (Nat.le_trans (Nat.le_of_ble_eq_true rfl) hn) rfl ?_
  refine x_iload_n 1 dX16_body_19 rfl rfl rfl ?_
  obtain ⟨e1, h⟩ := h
  refine y_iald (z := w 55 a1) dX16_body_20 ⟨2000, i55, e1⟩ rfl rfl ?_
  refine x_istore 6 (ls' := [(2, 65), (0, a1), (0, a2), (0, a3), (0, w 65 13), (0, w 65 14), (0, w 55 a1), (9, 0), (9, 0)]) dX16_body_21 rfl rfl rfl ?_
  refine x_aload_n 0 dX16_body_23 rfl rfl rfl rfl rfl ?_
  refine y_getF 32 1 (c := 15) (z := 19) dX16_body_24 i65 rfl in_X16 q1100 rfl rfl rfl fn_65_1 (Nat.le_trans (Nat.le_of_ble_eq_true rfl) hn) rfl ?_
  refine x_aload_n 0 dX16_body_27 rfl rfl rfl rfl rfl ?_
  refine y_getF 40 3 (c := 15) (z := 53) dX16_body_28 i65 rfl in_X16 q1102 rfl rfl rfl fn_65_3 (Nat.le_trans (Nat.le_of_ble_eq_true rfl) hn) rfl ?_
  refine y_getF 107 0 (c := 14) (z := 54) dX16_body_31 i53 rfl in_X15 q1021 rfl rfl rfl fn_53_0 (Nat.le_trans (Nat.le_of_ble_eq_true rfl) hn) rfl ?_
  refine x_iload_n 1 dX16_body_34 rfl rfl rfl ?_
  obtain ⟨e2, h⟩ := h
  refine y_iald (z := w 54 a1) dX16_body_35 ⟨2000, i54, e2⟩ rfl rfl ?_
  refine x_iload 6 dX16_body_36 rfl rfl ?_
  refine y_Vi 192 (M := mX7_pair) (As := [(0, w 54 a1), (0, w 55 a1)]) (st := []) dX16_body_38 i19 rfl q1910 q1863 q1864 q374 q1865 rfl hmX7_pair rfl rfl rfl rfl rfl rfl rfl rfl (k_mono h (fun r3 w4 h => ?_))
  refine x_istore 7 (ls' := [(2, 65), (0, a1), (0, a2), (0, a3), (0, w 65 13), (0, w 65 14), (0, w 55 a1), (0, r3), (9, 0)]) dX16_body_41 rfl rfl rfl ?_
  refine x_aload_n 0 dX16_body_43 rfl rfl rfl rfl rfl ?_
  refine y_getF 32 1 (c := 15) (z := 19) dX16_body_44 i65 rfl in_X16 q1100 rfl rfl rfl fn_65_1 (Nat.le_trans (Nat.le_of_ble_eq_true rfl) hn) rfl ?_
  refine x_aload_n 0 dX16_body_47 rfl rfl rfl rfl rfl ?_
  refine y_getF 32 1 (c := 15) (z := 19) dX16_body_48 i65 rfl in_X16 q1100 rfl rfl rfl fn_65_1 (Nat.le_trans (Nat.le_of_ble_eq_true rfl) hn) rfl ?_
  refine x_bipush 11 (z := 11) dX16_body_51 rfl (by decide) rfl ?_
  refine x_bipush 9 (z := 9) dX16_body_53 rfl (by decide) rfl ?_
  refine x_iconst (-1) (z := (-1)) dX16_body_55 rfl (by decide) rfl ?_
  refine y_Vi 195 (M := mX7_make) (As := [(0, 11), (0, 9), (0, (-1))]) (st := [(2, 19)]) dX16_body_56 i19 rfl q1911 q728 q729 q374 q730 rfl hmX7_make rfl rfl rfl rfl rfl rfl rfl rfl (k_mono h (fun r5 w6 h => ?_))
  refine x_iload 6 dX16_body_59 rfl rfl ?_
  refine y_Vi 192 (M := mX7_pair) (As := [(0, r5), (0, w 55 a1)]) (st := []) dX16_body_61 i19 rfl q1910 q1863 q1864 q374 q1865 rfl hmX7_pair rfl rfl rfl rfl rfl rfl rfl rfl (k_mono h (fun r7 w8 h => ?_))
  refine x_istore 8 (ls' := [(2, 65), (0, a1), (0, a2), (0, a3), (0, w 65 13), (0, w 65 14), (0, w 55 a1), (0, r3), (0, r7)]) dX16_body_64 rfl rfl rfl ?_
  refine x_aload_n 0 dX16_body_66 rfl rfl rfl rfl rfl ?_
  refine x_iload_n 1 dX16_body_67 rfl rfl rfl ?_
  refine x_put 189 13 (c := 15) dX16_body_68 i65 rfl in_X16 tyX16_ok nmX16 q1112 rfl rfl rfl (Or.inl rfl) (Or.inl ⟨rfl, rfl⟩) rfl ?_
  refine x_aload_n 0 dX16_body_71 rfl rfl rfl rfl rfl ?_
  refine x_iconst 0 (z := 0) dX16_body_72 rfl (by decide) rfl ?_
  refine x_put 62 14 (c := 15) dX16_body_73 i65 rfl in_X16 tyX16_ok nmX16 q1113 rfl rfl rfl (Or.inl rfl) (Or.inl ⟨rfl, rfl⟩) rfl ?_
  refine x_aload_n 0 dX16_body_76 rfl rfl rfl rfl rfl ?_
  refine x_iconst 0 (z := 0) dX16_body_77 rfl (by decide) rfl ?_
  refine x_put 56 8 (c := 15) dX16_body_78 i65 rfl in_X16 tyX16_ok nmX16 q1107 rfl rfl rfl (Or.inl rfl) (Or.inl ⟨rfl, rfl⟩) rfl ?_
  refine x_aload_n 0 dX16_body_81 rfl rfl rfl rfl rfl ?_
  refine x_iconst 0 (z := 0) dX16_body_82 rfl (by decide) rfl ?_
  refine x_put 199 11 (c := 15) dX16_body_83 i65 rfl in_X16 tyX16_ok nmX16 q1110 rfl rfl rfl (Or.inl rfl) (Or.inr (Or.inl ⟨rfl, rfl, by decide⟩)) rfl ?_
  refine x_iload 7 dX16_body_86 rfl rfl ?_
  refine x_if_ge (t := 100) 12 dX16_body_88 rfl rfl (b_ite h (fun hc h => ?_) (fun hc h => ?_))
  · refine x_aload_n 0 dX16_body_100 rfl rfl rfl rfl rfl ?_
    refine y_getF 20 7 (c := 15) (z := 68) dX16_body_101 i65 rfl in_X16 q1106 rfl rfl rfl fn_65_7 (Nat.le_trans (Nat.le_of_ble_eq_true rfl) hn) rfl ?_
    refine x_aload_n 0 dX16_body_104 rfl rfl rfl rfl rfl ?_
    refine x_dup dX16_body_105 rfl rfl ?_
    refine y_get 56 8 (c := 15) (z := 0) dX16_body_106 i65 rfl in_X16 q1107 rfl rfl rfl rfl rfl ?_
    refine x_dup_x1 dX16_body_109 rfl rfl rfl ?_
    refine x_iconst 1 (z := 1) dX16_body_110 rfl (by decide) rfl ?_
    refine x_iadd dX16_body_111 rfl ?_
    refine x_put 56 8 (c := 15) dX16_body_112 i65 rfl in_X16 tyX16_ok nmX16 q1107 rfl rfl rfl (Or.inl rfl) (Or.inl ⟨rfl, rfl⟩) rfl ?_
    refine x_iload 7 dX16_body_115 rfl rfl ?_
    refine y_iast (x' := r3) dX16_body_117 ⟨310, i68, by decide⟩ rfl rfl ?_
    refine x_aload_n 0 dX16_body_118 rfl rfl rfl rfl rfl ?_
    refine y_getF 40 3 (c := 15) (z := 53) dX16_body_119 i65 rfl in_X16 q1102 rfl rfl rfl fn_65_3 (Nat.le_trans (Nat.le_of_ble_eq_true rfl) hn) rfl ?_
    refine y_getF 203 2 (c := 14) (z := 56) dX16_body_122 i53 rfl in_X15 q1027 rfl rfl rfl fn_53_2 (Nat.le_trans (Nat.le_of_ble_eq_true rfl) hn) rfl ?_
    refine x_iload_n 1 dX16_body_125 rfl rfl rfl ?_
    refine x_aload_n 0 dX16_body_126 rfl rfl rfl rfl rfl ?_
    refine x_aload_n 0 dX16_body_127 rfl rfl rfl rfl rfl ?_
    refine y_getF 28 0 (c := 15) (z := 6) dX16_body_128 i65 rfl in_X16 q1099 rfl rfl rfl fn_65_0 (Nat.le_trans (Nat.le_of_ble_eq_true rfl) hn) rfl ?_
    refine y_getF 96 9 (c := 3) (z := 16) dX16_body_131 i6 rfl in_X4 q674 rfl rfl rfl fn_6_9 (Nat.le_trans (Nat.le_of_ble_eq_true rfl) hn) rfl ?_
    refine x_aload_n 0 dX16_body_134 rfl rfl rfl rfl rfl ?_
    refine y_getF 28 0 (c := 15) (z := 6) dX16_body_135 i65 rfl in_X16 q1099 rfl rfl rfl fn_65_0 (Nat.le_trans (Nat.le_of_ble_eq_true rfl) hn) rfl ?_
    refine x_iload_n 2 dX16_body_138 rfl rfl rfl ?_
    refine x_iconst 2 (z := 2) dX16_body_139 rfl (by decide) rfl ?_
    refine y_Vi 69 (M := mX4_child) (As := [(0, a2), (0, 2)]) (st := [(2, 16), (2, 65), (0, a1), (2, 56)]) dX16_body_140 i6 rfl q1829 q1830 q1831 q371 q1832 rfl hmX4_child rfl rfl rfl rfl rfl rfl rfl rfl (k_mono h (fun r9 w10 h => ?_))
    obtain ⟨e11, h⟩ := h
    refine y_iald (z := w10 16 r9) dX16_body_143 ⟨4096, i16, e11⟩ rfl rfl ?_
    refine y_Vi 206 (M := mX16_code) (As := [(0, w10 16 r9)]) (st := [(0, a1), (2, 56)]) dX16_body_144 i65 rfl q1912 q1914 qs30 q383 q1915 rfl hmX16_code rfl rfl rfl rfl rfl rfl rfl rfl (k_mono h (fun r12 w13 h => ?_))
    obtain ⟨e14, h⟩ := h
    refine y_iast (x' := r12) dX16_body_147 ⟨2000, i56, e14⟩ rfl rfl ?_
    refine x_aload_n 0 dX16_body_148 rfl rfl rfl rfl rfl ?_
    refine y_get 52 15 (c := 15) (z := w13 65 15) dX16_body_149 i65 rfl in_X16 q1114 rfl rfl rfl rfl rfl ?_
    refine x_if_ge (t := 187) 35 dX16_body_152 rfl rfl (b_ite h (fun hc h => ?_) (fun hc h => ?_))
    · refine x_aload_n 0 dX16_body_187 rfl rfl rfl rfl rfl ?_
      refine x_iload 4 dX16_body_188 rfl rfl ?_
      refine x_put 189 13 (c := 15) dX16_body_190 i65 rfl in_X16 tyX16_ok nmX16 q1112 rfl rfl rfl (Or.inl rfl) (Or.inl ⟨rfl, rfl⟩) rfl ?_
      refine x_aload_n 0 dX16_body_193 rfl rfl rfl rfl rfl ?_
      refine x_iload 5 dX16_body_194 rfl rfl ?_
      refine x_put 62 14 (c := 15) dX16_body_196 i65 rfl in_X16 tyX16_ok nmX16 q1113 rfl rfl rfl (Or.inl rfl) (Or.inl ⟨rfl, rfl⟩) rfl ?_
      exact y_vret dX16_body_199 rfl h
    · refine x_aload_n 0 dX16_body_155 rfl rfl rfl rfl rfl ?_
      refine y_get 199 11 (c := 15) (z := w13 65 11) dX16_body_156 i65 rfl in_X16 q1110 rfl rfl rfl rfl rfl ?_
      refine x_if_ne (t := 187) 28 dX16_body_159 rfl rfl (b_ite h (fun hc h => ?_) (fun hc h => ?_))
      · refine x_aload_n 0 dX16_body_187 rfl rfl rfl rfl rfl ?_
        refine x_iload 4 dX16_body_188 rfl rfl ?_
        refine x_put 189 13 (c := 15) dX16_body_190 i65 rfl in_X16 tyX16_ok nmX16 q1112 rfl rfl rfl (Or.inl rfl) (Or.inl ⟨rfl, rfl⟩) rfl ?_
        refine x_aload_n 0 dX16_body_193 rfl rfl rfl rfl rfl ?_
        refine x_iload 5 dX16_body_194 rfl rfl ?_
        refine x_put 62 14 (c := 15) dX16_body_196 i65 rfl in_X16 tyX16_ok nmX16 q1113 rfl rfl rfl (Or.inl rfl) (Or.inl ⟨rfl, rfl⟩) rfl ?_
        exact y_vret dX16_body_199 rfl h
      · refine x_aload_n 0 dX16_body_162 rfl rfl rfl rfl rfl ?_
        refine y_get 56 8 (c := 15) (z := w13 65 8) dX16_body_163 i65 rfl in_X16 q1107 rfl rfl rfl rfl rfl ?_
        refine x_iconst 1 (z := 1) dX16_body_166 rfl (by decide) rfl ?_
        refine x_icmp_ne (t := 181) 14 dX16_body_167 rfl rfl (b_ite h (fun hc h => ?_) (fun hc h => ?_))
        · refine x_aload_n 0 dX16_body_181 rfl rfl rfl rfl rfl ?_
          refine x_iload_n 3 dX16_body_182 rfl rfl rfl ?_
          refine y_Vi 99 (M := mX16_wrong) (As := [(0, a3)]) (st := []) dX16_body_183 i65 rfl q1845 q1847 qs24 q383 q1848 rfl hmX16_wrong rfl rfl rfl rfl rfl rfl rfl rfl (k_mono h (fun r15 w16 h => ?_))
          refine x_pop dX16_body_186 rfl rfl ?_
          refine x_aload_n 0 dX16_body_187 rfl rfl rfl rfl rfl ?_
          refine x_iload 4 dX16_body_188 rfl rfl ?_
          refine x_put 189 13 (c := 15) dX16_body_190 i65 rfl in_X16 tyX16_ok nmX16 q1112 rfl rfl rfl (Or.inl rfl) (Or.inl ⟨rfl, rfl⟩) rfl ?_
          refine x_aload_n 0 dX16_body_193 rfl rfl rfl rfl rfl ?_
          refine x_iload 5 dX16_body_194 rfl rfl ?_
          refine x_put 62 14 (c := 15) dX16_body_196 i65 rfl in_X16 tyX16_ok nmX16 q1113 rfl rfl rfl (Or.inl rfl) (Or.inl ⟨rfl, rfl⟩) rfl ?_
          exact y_vret dX16_body_199 rfl h
        · refine x_aload_n 0 dX16_body_170 rfl rfl rfl rfl rfl ?_
          refine y_getF 20 7 (c := 15) (z := 68) dX16_body_171 i65 rfl in_X16 q1106 rfl rfl rfl fn_65_7 (Nat.le_trans (Nat.le_of_ble_eq_true rfl) hn) rfl ?_
          refine x_iconst 0 (z := 0) dX16_body_174 rfl (by decide) rfl ?_
          refine y_iald (z := w13 68 0) dX16_body_175 ⟨310, i68, by decide⟩ rfl rfl ?_
          refine x_iload 8 dX16_body_176 rfl rfl ?_
          refine x_icmp_eq (t := 187) 9 dX16_body_178 rfl rfl (b_ite h (fun hc h => ?_) (fun hc h => ?_))
          · refine x_aload_n 0 dX16_body_187 rfl rfl rfl rfl rfl ?_
            refine x_iload 4 dX16_body_188 rfl rfl ?_
            refine x_put 189 13 (c := 15) dX16_body_190 i65 rfl in_X16 tyX16_ok nmX16 q1112 rfl rfl rfl (Or.inl rfl) (Or.inl ⟨rfl, rfl⟩) rfl ?_
            refine x_aload_n 0 dX16_body_193 rfl rfl rfl rfl rfl ?_
            refine x_iload 5 dX16_body_194 rfl rfl ?_
            refine x_put 62 14 (c := 15) dX16_body_196 i65 rfl in_X16 tyX16_ok nmX16 q1113 rfl rfl rfl (Or.inl rfl) (Or.inl ⟨rfl, rfl⟩) rfl ?_
            exact y_vret dX16_body_199 rfl h
          · refine x_aload_n 0 dX16_body_181 rfl rfl rfl rfl rfl ?_
            refine x_iload_n 3 dX16_body_182 rfl rfl rfl ?_
            refine y_Vi 99 (M := mX16_wrong) (As := [(0, a3)]) (st := []) dX16_body_183 i65 rfl q1845 q1847 qs24 q383 q1848 rfl hmX16_wrong rfl rfl rfl rfl rfl rfl rfl rfl (k_mono h (fun r17 w18 h => ?_))
            refine x_pop dX16_body_186 rfl rfl ?_
            refine x_aload_n 0 dX16_body_187 rfl rfl rfl rfl rfl ?_
            refine x_iload 4 dX16_body_188 rfl rfl ?_
            refine x_put 189 13 (c := 15) dX16_body_190 i65 rfl in_X16 tyX16_ok nmX16 q1112 rfl rfl rfl (Or.inl rfl) (Or.inl ⟨rfl, rfl⟩) rfl ?_
            refine x_aload_n 0 dX16_body_193 rfl rfl rfl rfl rfl ?_
            refine x_iload 5 dX16_body_194 rfl rfl ?_
            refine x_put 62 14 (c := 15) dX16_body_196 i65 rfl in_X16 tyX16_ok nmX16 q1113 rfl rfl rfl (Or.inl rfl) (Or.inl ⟨rfl, rfl⟩) rfl ?_
            exact y_vret dX16_body_199 rfl h
  · refine x_aload_n 0 dX16_body_91 rfl rfl rfl rfl rfl ?_
    refine x_iload_n 3 dX16_body_92 rfl rfl rfl ?_
    refine y_Vi 99 (M := mX16_wrong) (As := [(0, a3)]) (st := []) dX16_body_93 i65 rfl q1845 q1847 qs24 q383 q1848 rfl hmX16_wrong rfl rfl rfl rfl rfl rfl rfl rfl (k_mono h (fun r19 w20 h => ?_))
    refine x_pop dX16_body_96 rfl rfl ?_
    refine x_goto 90 (q := 187) dX16_body_97 rfl ?_
    refine x_aload_n 0 dX16_body_187 rfl rfl rfl rfl rfl ?_
    refine x_iload 4 dX16_body_188 rfl rfl ?_
    refine x_put 189 13 (c := 15) dX16_body_190 i65 rfl in_X16 tyX16_ok nmX16 q1112 rfl rfl rfl (Or.inl rfl) (Or.inl ⟨rfl, rfl⟩) rfl ?_
    refine x_aload_n 0 dX16_body_193 rfl rfl rfl rfl rfl ?_
    refine x_iload 5 dX16_body_194 rfl rfl ?_
    refine x_put 62 14 (c := 15) dX16_body_196 i65 rfl in_X16 tyX16_ok nmX16 q1113 rfl rfl rfl (Or.inl rfl) (Or.inl ⟨rfl, rfl⟩) rfl ?_
    exact y_vret dX16_body_199 rfl h
abbrev LX16_code_20 (d n : Nat) (Q : Int → bW → Prop) (X : String → bW → Prop) (a2 : Int) (a3 : Int) (a4 : Int) (w : bW) : Prop := b_Y (d + 1) mX16_code n Q X 20 [(2, 65), (9, 0), (0, a2), (0, a3), (0, a4), (9, 0)] [] w
abbrev LX16_code_83 (d n : Nat) (Q : Int → bW → Prop) (X : String → bW → Prop) (a2 : Int) (a3 : Int) (a4 : Int) (a5 : Int) (w : bW) : Prop := b_Y (d + 1) mX16_code n Q X 83 [(2, 65), (9, 0), (0, a2), (0, a3), (0, a4), (0, a5)] [] w
theorem rX16_code {d n : Nat} {w : bW} {Q : Int → bW → Prop} {X : String → bW → Prop} (hn : 143 ≤ n) (a1 : Int) (h : (0 ≤ a1 ∧ a1 < 4096) ∧ (LX16_code_20 d n Q X 0 0 (w 16 a1) (b_up w 65 11 0))) : b_K (d + 1) mX16_code [(2, 65), (0, a1)] n w Q X := by
  have i6 := iz6 (Nat.le_trans (Nat.le_of_ble_eq_true rfl) hn)
  have i16 := iz16 (Nat.le_trans (Nat.le_of_ble_eq_true rfl) hn)
  have i65 := iz65 (Nat.le_trans (Nat.le_of_ble_eq_true rfl) hn)
  refine k_of (by decide) rfl rfl rfl (ls := [(2, 65), (0, a1), (9, 0), (9, 0), (9, 0), (9, 0)]) rfl ?_
  refine x_iconst 0 (z := 0) dX16_code_0 rfl (by decide) rfl ?_
  refine x_istore_n 2 (ls' := [(2, 65), (0, a1), (0, 0), (9, 0), (9, 0), (9, 0)]) dX16_code_1 rfl rfl rfl rfl ?_
  refine x_iconst 0 (z := 0) dX16_code_2 rfl (by decide) rfl ?_
  refine x_istore_n 3 (ls' := [(2, 65), (0, a1), (0, 0), (0, 0), (9, 0), (9, 0)]) dX16_code_3 rfl rfl rfl rfl ?_
  refine x_aload_n 0 dX16_code_4 rfl rfl rfl rfl rfl ?_
  refine x_iconst 0 (z := 0) dX16_code_5 rfl (by decide) rfl ?_
  refine x_put 199 11 (c := 15) dX16_code_6 i65 rfl in_X16 tyX16_ok nmX16 q1110 rfl rfl rfl (Or.inl rfl) (Or.inr (Or.inl ⟨rfl, rfl, by decide⟩)) rfl ?_
  refine x_aload_n 0 dX16_code_9 rfl rfl rfl rfl rfl ?_
  refine y_getF 28 0 (c := 15) (z := 6) dX16_code_10 i65 rfl in_X16 q1099 rfl rfl rfl fn_65_0 (Nat.le_trans (Nat.le_of_ble_eq_true rfl) hn) rfl ?_
  refine y_getF 96 9 (c := 3) (z := 16) dX16_code_13 i6 rfl in_X4 q674 rfl rfl rfl fn_6_9 (Nat.le_trans (Nat.le_of_ble_eq_true rfl) hn) rfl ?_
  refine x_iload_n 1 dX16_code_16 rfl rfl rfl ?_
  obtain ⟨e1, h⟩ := h
  refine y_iald (z := w 16 a1) dX16_code_17 ⟨4096, i16, e1⟩ rfl rfl ?_
  refine x_istore 4 (ls' := [(2, 65), (0, a1), (0, 0), (0, 0), (0, w 16 a1), (9, 0)]) dX16_code_18 rfl rfl rfl ?_
  exact x_fg (fgk (fgd (fgk (fgk (fgk (fgk (fg0))))))) h
theorem sX16_code_20 {d n : Nat} {w : bW} {Q : Int → bW → Prop} {X : String → bW → Prop} (hn : 143 ≤ n) (a2 : Int) (a3 : Int) (a4 : Int) (h : if a4 < 0 then (Q a2 (b_up w 65 12 a3)) else (if 0 ≤ w 65 15 then (Q a2 (b_up w 65 12 a3)) else (if w 65 11 = 0 then (b_K d mX4_isSequence [(2, 6), (0, a4)] n w (fun r1 w2 => if r1 = 0 then (b_K d mX16_instruction [(2, 65), (0, a4)] n w2 (fun r3 w4 => LX16_code_83 d n Q X a2 a3 a4 r3 (b_up w4 65 12 r3)) X) else (b_K d mX16_code [(2, 65), (0, a4)] n w2 (fun r5 w6 => LX16_code_83 d n Q X a2 a3 a4 r5 w6) X)) X) else (b_K d mX16_wrong [(2, 65), (0, a4)] n w (fun r7 w8 => Q r7 w8) X)))) : LX16_code_20 d n Q X a2 a3 a4 w := by
  have i6 := iz6 (Nat.le_trans (Nat.le_of_ble_eq_true rfl) hn)
  have i65 := iz65 (Nat.le_trans (Nat.le_of_ble_eq_true rfl) hn)
  refine x_iload 4 dX16_code_20 rfl rfl ?_
  refine x_if_lt (t := 131) 109 dX16_code_22 rfl rfl (b_ite h (fun hc h => ?_) (fun hc h => ?_))
  · refine x_aload_n 0 dX16_code_131 rfl rfl rfl rfl rfl ?_
    refine x_iload_n 3 dX16_code_132 rfl rfl rfl ?_
    refine x_put 221 12 (c := 15) dX16_code_133 i65 rfl in_X16 tyX16_ok nmX16 q1111 rfl rfl rfl (Or.inl rfl) (Or.inl ⟨rfl, rfl⟩) rfl ?_
    refine x_iload_n 2 dX16_code_136 rfl rfl rfl ?_
    exact y_iret dX16_code_137 rfl h
  · refine x_aload_n 0 dX16_code_25 rfl rfl rfl rfl rfl ?_
    refine y_get 52 15 (c := 15) (z := w 65 15) dX16_code_26 i65 rfl in_X16 q1114 rfl rfl rfl rfl rfl ?_
    refine x_if_ge (t := 131) 102 dX16_code_29 rfl rfl (b_ite h (fun hc h => ?_) (fun hc h => ?_))
    · refine x_aload_n 0 dX16_code_131 rfl rfl rfl rfl rfl ?_
      refine x_iload_n 3 dX16_code_132 rfl rfl rfl ?_
      refine x_put 221 12 (c := 15) dX16_code_133 i65 rfl in_X16 tyX16_ok nmX16 q1111 rfl rfl rfl (Or.inl rfl) (Or.inl ⟨rfl, rfl⟩) rfl ?_
      refine x_iload_n 2 dX16_code_136 rfl rfl rfl ?_
      exact y_iret dX16_code_137 rfl h
    · refine x_aload_n 0 dX16_code_32 rfl rfl rfl rfl rfl ?_
      refine y_get 199 11 (c := 15) (z := w 65 11) dX16_code_33 i65 rfl in_X16 q1110 rfl rfl rfl rfl rfl ?_
      refine x_if_eq (t := 46) 10 dX16_code_36 rfl rfl (b_ite h (fun hc h => ?_) (fun hc h => ?_))
      · refine x_aload_n 0 dX16_code_46 rfl rfl rfl rfl rfl ?_
        refine y_getF 28 0 (c := 15) (z := 6) dX16_code_47 i65 rfl in_X16 q1099 rfl rfl rfl fn_65_0 (Nat.le_trans (Nat.le_of_ble_eq_true rfl) hn) rfl ?_
        refine x_iload 4 dX16_code_50 rfl rfl ?_
        refine y_Vi 83 (M := mX4_isSequence) (As := [(0, a4)]) (st := []) dX16_code_52 i6 rfl q1825 q1826 q1827 q371 q1828 rfl hmX4_isSequence rfl rfl rfl rfl rfl rfl rfl rfl (k_mono h (fun r1 w2 h => ?_))
        refine x_if_eq (t := 69) 14 dX16_code_55 rfl rfl (b_ite h (fun hc h => ?_) (fun hc h => ?_))
        · refine x_aload_n 0 dX16_code_69 rfl rfl rfl rfl rfl ?_
          refine x_iload 4 dX16_code_70 rfl rfl ?_
          refine y_Vi 218 (M := mX16_instruction) (As := [(0, a4)]) (st := []) dX16_code_72 i65 rfl q1916 q1918 qs31 q383 q1919 rfl hmX16_instruction rfl rfl rfl rfl rfl rfl rfl rfl (k_mono h (fun r3 w4 h => ?_))
          refine x_istore 5 (ls' := [(2, 65), (9, 0), (0, a2), (0, a3), (0, a4), (0, r3)]) dX16_code_75 rfl rfl rfl ?_
          refine x_aload_n 0 dX16_code_77 rfl rfl rfl rfl rfl ?_
          refine x_iload 5 dX16_code_78 rfl rfl ?_
          refine x_put 221 12 (c := 15) dX16_code_80 i65 rfl in_X16 tyX16_ok nmX16 q1111 rfl rfl rfl (Or.inl rfl) (Or.inl ⟨rfl, rfl⟩) rfl ?_
          exact x_fg (fgk (fgk (fgk (fgk (fgk (fgk (fg0))))))) h
        · refine x_aload_n 0 dX16_code_58 rfl rfl rfl rfl rfl ?_
          refine x_iload 4 dX16_code_59 rfl rfl ?_
          refine y_Vi 206 (M := mX16_code) (As := [(0, a4)]) (st := []) dX16_code_61 i65 rfl q1912 q1914 qs30 q383 q1915 rfl hmX16_code rfl rfl rfl rfl rfl rfl rfl rfl (k_mono h (fun r5 w6 h => ?_))
          refine x_istore 5 (ls' := [(2, 65), (9, 0), (0, a2), (0, a3), (0, a4), (0, r5)]) dX16_code_64 rfl rfl rfl ?_
          refine x_goto 17 (q := 83) dX16_code_66 rfl ?_
          exact x_fg (fgk (fgk (fgk (fgk (fgk (fgk (fg0))))))) h
      · refine x_aload_n 0 dX16_code_39 rfl rfl rfl rfl rfl ?_
        refine x_iload 4 dX16_code_40 rfl rfl ?_
        refine y_Vi 99 (M := mX16_wrong) (As := [(0, a4)]) (st := []) dX16_code_42 i65 rfl q1845 q1847 qs24 q383 q1848 rfl hmX16_wrong rfl rfl rfl rfl rfl rfl rfl rfl (k_mono h (fun r7 w8 h => ?_))
        exact y_iret dX16_code_45 rfl h
theorem sX16_code_83 {d n : Nat} {w : bW} {Q : Int → bW → Prop} {X : String → bW → Prop} (hn : 143 ≤ n) (a2 : Int) (a3 : Int) (a4 : Int) (a5 : Int) (h : if a5 = 0 then ((0 ≤ a4 ∧ a4 < 4096) ∧ (LX16_code_20 d n Q X a2 a3 (w 17 a4) w)) else (if a3 ≠ 0 then ((0 ≤ b_i (a3 + 4) ∧ b_i (a3 + 4) < 160000) ∧ ((0 ≤ a4 ∧ a4 < 4096) ∧ (LX16_code_20 d n Q X a2 (w 65 12) (w 17 a4) (b_up w 64 (b_i (a3 + 4)) a5)))) else ((0 ≤ a4 ∧ a4 < 4096) ∧ (LX16_code_20 d n Q X a5 (w 65 12) (w 17 a4) w)))) : LX16_code_83 d n Q X a2 a3 a4 a5 w := by
  have i6 := iz6 (Nat.le_trans (Nat.le_of_ble_eq_true rfl) hn)
  have i17 := iz17 (Nat.le_trans (Nat.le_of_ble_eq_true rfl) hn)
  have i53 := iz53 (Nat.le_trans (Nat.le_of_ble_eq_true rfl) hn)
  have i64 := iz64 (Nat.le_trans (Nat.le_of_ble_eq_true rfl) hn)
  have i65 := iz65 (Nat.le_trans (Nat.le_of_ble_eq_true rfl) hn)
  refine x_iload 5 dX16_code_83 rfl rfl ?_
  refine x_if_eq (t := 116) 31 dX16_code_85 rfl rfl (b_ite h (fun hc h => ?_) (fun hc h => ?_))
  · refine x_aload_n 0 dX16_code_116 rfl rfl rfl rfl rfl ?_
    refine y_getF 28 0 (c := 15) (z := 6) dX16_code_117 i65 rfl in_X16 q1099 rfl rfl rfl fn_65_0 (Nat.le_trans (Nat.le_of_ble_eq_true rfl) hn) rfl ?_
    refine y_getF 186 10 (c := 3) (z := 17) dX16_code_120 i6 rfl in_X4 q678 rfl rfl rfl fn_6_10 (Nat.le_trans (Nat.le_of_ble_eq_true rfl) hn) rfl ?_
    refine x_iload 4 dX16_code_123 rfl rfl ?_
    obtain ⟨e1, h⟩ := h
    refine y_iald (z := w 17 a4) dX16_code_125 ⟨4096, i17, e1⟩ rfl rfl ?_
    refine x_istore 4 (ls' := [(2, 65), (9, 0), (0, a2), (0, a3), (0, w 17 a4), (0, a5)]) dX16_code_126 rfl rfl rfl ?_
    refine x_goto (-108) (q := 20) dX16_code_128 rfl ?_
    exact x_fg (fgk (fgk (fgk (fgk (fgk (fgd (fg0))))))) h
  · refine x_iload_n 3 dX16_code_88 rfl rfl rfl ?_
    refine x_if_ne (t := 98) 9 dX16_code_89 rfl rfl (b_ite h (fun hc h => ?_) (fun hc h => ?_))
    · refine x_aload_n 0 dX16_code_98 rfl rfl rfl rfl rfl ?_
      refine y_getF 40 3 (c := 15) (z := 53) dX16_code_99 i65 rfl in_X16 q1102 rfl rfl rfl fn_65_3 (Nat.le_trans (Nat.le_of_ble_eq_true rfl) hn) rfl ?_
      refine y_getF 224 12 (c := 14) (z := 64) dX16_code_102 i53 rfl in_X15 q1057 rfl rfl rfl fn_53_12 (Nat.le_trans (Nat.le_of_ble_eq_true rfl) hn) rfl ?_
      refine x_iload_n 3 dX16_code_105 rfl rfl rfl ?_
      refine x_iconst 4 (z := 4) dX16_code_106 rfl (by decide) rfl ?_
      refine x_iadd dX16_code_107 rfl ?_
      refine x_iload 5 dX16_code_108 rfl rfl ?_
      obtain ⟨e2, h⟩ := h
      refine y_iast (x' := a5) dX16_code_110 ⟨160000, i64, e2⟩ rfl rfl ?_
      refine x_aload_n 0 dX16_code_111 rfl rfl rfl rfl rfl ?_
      refine y_get 221 12 (c := 15) (z := w 65 12) dX16_code_112 i65 rfl in_X16 q1111 rfl rfl rfl rfl rfl ?_
      refine x_istore_n 3 (ls' := [(2, 65), (9, 0), (0, a2), (0, w 65 12), (0, a4), (0, a5)]) dX16_code_115 rfl rfl rfl rfl ?_
      refine x_aload_n 0 dX16_code_116 rfl rfl rfl rfl rfl ?_
      refine y_getF 28 0 (c := 15) (z := 6) dX16_code_117 i65 rfl in_X16 q1099 rfl rfl rfl fn_65_0 (Nat.le_trans (Nat.le_of_ble_eq_true rfl) hn) rfl ?_
      refine y_getF 186 10 (c := 3) (z := 17) dX16_code_120 i6 rfl in_X4 q678 rfl rfl rfl fn_6_10 (Nat.le_trans (Nat.le_of_ble_eq_true rfl) hn) rfl ?_
      refine x_iload 4 dX16_code_123 rfl rfl ?_
      obtain ⟨e3, h⟩ := h
      refine y_iald (z := w 17 a4) dX16_code_125 ⟨4096, i17, e3⟩ rfl rfl ?_
      refine x_istore 4 (ls' := [(2, 65), (9, 0), (0, a2), (0, w 65 12), (0, w 17 a4), (0, a5)]) dX16_code_126 rfl rfl rfl ?_
      refine x_goto (-108) (q := 20) dX16_code_128 rfl ?_
      exact x_fg (fgk (fgk (fgk (fgk (fgk (fgd (fg0))))))) h
    · refine x_iload 5 dX16_code_92 rfl rfl ?_
      refine x_istore_n 2 (ls' := [(2, 65), (9, 0), (0, a5), (0, a3), (0, a4), (0, a5)]) dX16_code_94 rfl rfl rfl rfl ?_
      refine x_goto 16 (q := 111) dX16_code_95 rfl ?_
      refine x_aload_n 0 dX16_code_111 rfl rfl rfl rfl rfl ?_
      refine y_get 221 12 (c := 15) (z := w 65 12) dX16_code_112 i65 rfl in_X16 q1111 rfl rfl rfl rfl rfl ?_
      refine x_istore_n 3 (ls' := [(2, 65), (9, 0), (0, a5), (0, w 65 12), (0, a4), (0, a5)]) dX16_code_115 rfl rfl rfl rfl ?_
      refine x_aload_n 0 dX16_code_116 rfl rfl rfl rfl rfl ?_
      refine y_getF 28 0 (c := 15) (z := 6) dX16_code_117 i65 rfl in_X16 q1099 rfl rfl rfl fn_65_0 (Nat.le_trans (Nat.le_of_ble_eq_true rfl) hn) rfl ?_
      refine y_getF 186 10 (c := 3) (z := 17) dX16_code_120 i6 rfl in_X4 q678 rfl rfl rfl fn_6_10 (Nat.le_trans (Nat.le_of_ble_eq_true rfl) hn) rfl ?_
      refine x_iload 4 dX16_code_123 rfl rfl ?_
      obtain ⟨e4, h⟩ := h
      refine y_iald (z := w 17 a4) dX16_code_125 ⟨4096, i17, e4⟩ rfl rfl ?_
      refine x_istore 4 (ls' := [(2, 65), (9, 0), (0, a5), (0, w 65 12), (0, w 17 a4), (0, a5)]) dX16_code_126 rfl rfl rfl ?_
      refine x_goto (-108) (q := 20) dX16_code_128 rfl ?_
      exact x_fg (fgk (fgk (fgk (fgk (fgk (fgd (fg0))))))) h
abbrev LX16_instruction_27 (d n : Nat) (Q : Int → bW → Prop) (X : String → bW → Prop) (a1 : Int) (s0 : Int) (w : bW) : Prop := b_Y (d + 1) mX16_instruction n Q X 27 [(2, 65), (0, a1), (9, 0), (9, 0), (9, 0), (9, 0)] [(0, s0)] w
abbrev LX16_instruction_74 (d n : Nat) (Q : Int → bW → Prop) (X : String → bW → Prop) (a1 : Int) (a2 : Int) (w : bW) : Prop := b_Y (d + 1) mX16_instruction n Q X 74 [(2, 65), (0, a1), (0, a2), (9, 0), (9, 0), (9, 0)] [] w
theorem rX16_instruction {d n : Nat} {w : bW} {Q : Int → bW → Prop} {X : String → bW → Prop} (hn : 143 ≤ n) (a1 : Int) (h : (0 ≤ a1 ∧ a1 < 4096) ∧ (if w 10 a1 ≠ 8 then (LX16_instruction_27 d n Q X a1 (-1) w) else ((0 ≤ a1 ∧ a1 < 4096) ∧ (LX16_instruction_27 d n Q X a1 (w 11 a1) w)))) : b_K (d + 1) mX16_instruction [(2, 65), (0, a1)] n w Q X := by
  have i6 := iz6 (Nat.le_trans (Nat.le_of_ble_eq_true rfl) hn)
  have i10 := iz10 (Nat.le_trans (Nat.le_of_ble_eq_true rfl) hn)
  have i11 := iz11 (Nat.le_trans (Nat.le_of_ble_eq_true rfl) hn)
  have i65 := iz65 (Nat.le_trans (Nat.le_of_ble_eq_true rfl) hn)
  refine k_of (by decide) rfl rfl rfl (ls := [(2, 65), (0, a1), (9, 0), (9, 0), (9, 0), (9, 0)]) rfl ?_
  refine x_aload_n 0 dX16_instruction_0 rfl rfl rfl rfl rfl ?_
  refine y_getF 28 0 (c := 15) (z := 6) dX16_instruction_1 i65 rfl in_X16 q1099 rfl rfl rfl fn_65_0 (Nat.le_trans (Nat.le_of_ble_eq_true rfl) hn) rfl ?_
  refine y_getF 229 3 (c := 3) (z := 10) dX16_instruction_4 i6 rfl in_X4 q656 rfl rfl rfl fn_6_3 (Nat.le_trans (Nat.le_of_ble_eq_true rfl) hn) rfl ?_
  refine x_iload_n 1 dX16_instruction_7 rfl rfl rfl ?_
  obtain ⟨e1, h⟩ := h
  refine y_bald (z := w 10 a1) dX16_instruction_8 ⟨4096, i10, e1⟩ rfl rfl ?_
  refine x_bipush 8 (z := 8) dX16_instruction_9 rfl (by decide) rfl ?_
  refine x_icmp_ne (t := 26) 15 dX16_instruction_11 rfl rfl (b_ite h (fun hc h => ?_) (fun hc h => ?_))
  · refine x_iconst (-1) (z := (-1)) dX16_instruction_26 rfl (by decide) rfl ?_
    exact x_fg (fgk (fgk (fgk (fgk (fgk (fgk (fg0))))))) h
  · refine x_aload_n 0 dX16_instruction_14 rfl rfl rfl rfl rfl ?_
    refine y_getF 28 0 (c := 15) (z := 6) dX16_instruction_15 i65 rfl in_X16 q1099 rfl rfl rfl fn_65_0 (Nat.le_trans (Nat.le_of_ble_eq_true rfl) hn) rfl ?_
    refine y_getF 245 4 (c := 3) (z := 11) dX16_instruction_18 i6 rfl in_X4 q660 rfl rfl rfl fn_6_4 (Nat.le_trans (Nat.le_of_ble_eq_true rfl) hn) rfl ?_
    refine x_iload_n 1 dX16_instruction_21 rfl rfl rfl ?_
    obtain ⟨e2, h⟩ := h
    refine y_bald (z := w 11 a1) dX16_instruction_22 ⟨4096, i11, e2⟩ rfl rfl ?_
    refine x_goto 4 (q := 27) dX16_instruction_23 rfl ?_
    exact x_fg (fgk (fgk (fgk (fgk (fgk (fgk (fg0))))))) h
theorem sX16_instruction_27 {d n : Nat} {w : bW} {Q : Int → bW → Prop} {X : String → bW → Prop} (hn : 143 ≤ n) (a1 : Int) (s0 : Int) (h : if s0 = 102 then (if s0 < 31 then (b_K d mX16_wrong [(2, 65), (0, a1)] n w (fun r1 w2 => Q r1 w2) X) else ((0 ≤ a1 ∧ a1 < 4096) ∧ (if w 14 a1 = 0 then (LX16_instruction_74 d n Q X a1 s0 w) else (LX16_instruction_74 d n Q X a1 s0 w)))) else (if s0 ≠ 104 then (if s0 < 31 then (b_K d mX16_wrong [(2, 65), (0, a1)] n w (fun r4 w5 => Q r4 w5) X) else ((0 ≤ a1 ∧ a1 < 4096) ∧ (if w 14 a1 = 0 then (LX16_instruction_74 d n Q X a1 s0 w) else (b_K d mX16_wrong [(2, 65), (0, a1)] n w (fun r7 w8 => Q r7 w8) X)))) else (if s0 < 31 then (b_K d mX16_wrong [(2, 65), (0, a1)] n w (fun r9 w10 => Q r9 w10) X) else ((0 ≤ a1 ∧ a1 < 4096) ∧ (if w 14 a1 = 0 then (LX16_instruction_74 d n Q X a1 s0 w) else (LX16_instruction_74 d n Q X a1 s0 w)))))) : LX16_instruction_27 d n Q X a1 s0 w := by
  have i6 := iz6 (Nat.le_trans (Nat.le_of_ble_eq_true rfl) hn)
  have i14 := iz14 (Nat.le_trans (Nat.le_of_ble_eq_true rfl) hn)
  have i65 := iz65 (Nat.le_trans (Nat.le_of_ble_eq_true rfl) hn)
  refine x_istore_n 2 (ls' := [(2, 65), (0, a1), (0, s0), (9, 0), (9, 0), (9, 0)]) dX16_instruction_27 rfl rfl rfl rfl ?_
  refine x_iload_n 2 dX16_instruction_28 rfl rfl rfl ?_
  refine x_bipush 102 (z := 102) dX16_instruction_29 rfl (by decide) rfl ?_
  refine x_icmp_eq (t := 40) 9 dX16_instruction_31 rfl rfl (b_ite h (fun hc h => ?_) (fun hc h => ?_))
  · refine x_iconst 1 (z := 1) dX16_instruction_40 rfl (by decide) rfl ?_
    refine x_goto 4 (q := 45) dX16_instruction_41 rfl ?_
    refine x_istore_n 3 (ls' := [(2, 65), (0, a1), (0, s0), (0, 1), (9, 0), (9, 0)]) dX16_instruction_45 rfl rfl rfl rfl ?_
    refine x_iload_n 2 dX16_instruction_46 rfl rfl rfl ?_
    refine x_bipush 31 (z := 31) dX16_instruction_47 rfl (by decide) rfl ?_
    refine x_icmp_lt (t := 68) 19 dX16_instruction_49 rfl rfl (b_ite h (fun hc h => ?_) (fun hc h => ?_))
    · refine x_aload_n 0 dX16_instruction_68 rfl rfl rfl rfl rfl ?_
      refine x_iload_n 1 dX16_instruction_69 rfl rfl rfl ?_
      refine y_Vi 99 (M := mX16_wrong) (As := [(0, a1)]) (st := []) dX16_instruction_70 i65 rfl q1845 q1847 qs24 q383 q1848 rfl hmX16_wrong rfl rfl rfl rfl rfl rfl rfl rfl (k_mono h (fun r1 w2 h => ?_))
      exact y_iret dX16_instruction_73 rfl h
    · refine x_aload_n 0 dX16_instruction_52 rfl rfl rfl rfl rfl ?_
      refine y_getF 28 0 (c := 15) (z := 6) dX16_instruction_53 i65 rfl in_X16 q1099 rfl rfl rfl fn_65_0 (Nat.le_trans (Nat.le_of_ble_eq_true rfl) hn) rfl ?_
      refine y_getF 172 7 (c := 3) (z := 14) dX16_instruction_56 i6 rfl in_X4 q669 rfl rfl rfl fn_6_7 (Nat.le_trans (Nat.le_of_ble_eq_true rfl) hn) rfl ?_
      refine x_iload_n 1 dX16_instruction_59 rfl rfl rfl ?_
      obtain ⟨e3, h⟩ := h
      refine y_iald (z := w 14 a1) dX16_instruction_60 ⟨4096, i14, e3⟩ rfl rfl ?_
      refine x_if_eq (t := 74) 13 dX16_instruction_61 rfl rfl (b_ite h (fun hc h => ?_) (fun hc h => ?_))
      · exact x_fg (fgk (fgk (fgk (fgd (fgk (fgk (fg0))))))) h
      · refine x_iload_n 3 dX16_instruction_64 rfl rfl rfl ?_
        refine x_if_ne (t := 74) 9 dX16_instruction_65 rfl rfl (b_ifT (by decide) ?_)
        exact x_fg (fgk (fgk (fgk (fgd (fgk (fgk (fg0))))))) h
  · refine x_iload_n 2 dX16_instruction_34 rfl rfl rfl ?_
    refine x_bipush 104 (z := 104) dX16_instruction_35 rfl (by decide) rfl ?_
    refine x_icmp_ne (t := 44) 7 dX16_instruction_37 rfl rfl (b_ite h (fun hc h => ?_) (fun hc h => ?_))
    · refine x_iconst 0 (z := 0) dX16_instruction_44 rfl (by decide) rfl ?_
      refine x_istore_n 3 (ls' := [(2, 65), (0, a1), (0, s0), (0, 0), (9, 0), (9, 0)]) dX16_instruction_45 rfl rfl rfl rfl ?_
      refine x_iload_n 2 dX16_instruction_46 rfl rfl rfl ?_
      refine x_bipush 31 (z := 31) dX16_instruction_47 rfl (by decide) rfl ?_
      refine x_icmp_lt (t := 68) 19 dX16_instruction_49 rfl rfl (b_ite h (fun hc h => ?_) (fun hc h => ?_))
      · refine x_aload_n 0 dX16_instruction_68 rfl rfl rfl rfl rfl ?_
        refine x_iload_n 1 dX16_instruction_69 rfl rfl rfl ?_
        refine y_Vi 99 (M := mX16_wrong) (As := [(0, a1)]) (st := []) dX16_instruction_70 i65 rfl q1845 q1847 qs24 q383 q1848 rfl hmX16_wrong rfl rfl rfl rfl rfl rfl rfl rfl (k_mono h (fun r4 w5 h => ?_))
        exact y_iret dX16_instruction_73 rfl h
      · refine x_aload_n 0 dX16_instruction_52 rfl rfl rfl rfl rfl ?_
        refine y_getF 28 0 (c := 15) (z := 6) dX16_instruction_53 i65 rfl in_X16 q1099 rfl rfl rfl fn_65_0 (Nat.le_trans (Nat.le_of_ble_eq_true rfl) hn) rfl ?_
        refine y_getF 172 7 (c := 3) (z := 14) dX16_instruction_56 i6 rfl in_X4 q669 rfl rfl rfl fn_6_7 (Nat.le_trans (Nat.le_of_ble_eq_true rfl) hn) rfl ?_
        refine x_iload_n 1 dX16_instruction_59 rfl rfl rfl ?_
        obtain ⟨e6, h⟩ := h
        refine y_iald (z := w 14 a1) dX16_instruction_60 ⟨4096, i14, e6⟩ rfl rfl ?_
        refine x_if_eq (t := 74) 13 dX16_instruction_61 rfl rfl (b_ite h (fun hc h => ?_) (fun hc h => ?_))
        · exact x_fg (fgk (fgk (fgk (fgd (fgk (fgk (fg0))))))) h
        · refine x_iload_n 3 dX16_instruction_64 rfl rfl rfl ?_
          refine x_if_ne (t := 74) 9 dX16_instruction_65 rfl rfl (b_ifF (by decide) ?_)
          refine x_aload_n 0 dX16_instruction_68 rfl rfl rfl rfl rfl ?_
          refine x_iload_n 1 dX16_instruction_69 rfl rfl rfl ?_
          refine y_Vi 99 (M := mX16_wrong) (As := [(0, a1)]) (st := []) dX16_instruction_70 i65 rfl q1845 q1847 qs24 q383 q1848 rfl hmX16_wrong rfl rfl rfl rfl rfl rfl rfl rfl (k_mono h (fun r7 w8 h => ?_))
          exact y_iret dX16_instruction_73 rfl h
    · refine x_iconst 1 (z := 1) dX16_instruction_40 rfl (by decide) rfl ?_
      refine x_goto 4 (q := 45) dX16_instruction_41 rfl ?_
      refine x_istore_n 3 (ls' := [(2, 65), (0, a1), (0, s0), (0, 1), (9, 0), (9, 0)]) dX16_instruction_45 rfl rfl rfl rfl ?_
      refine x_iload_n 2 dX16_instruction_46 rfl rfl rfl ?_
      refine x_bipush 31 (z := 31) dX16_instruction_47 rfl (by decide) rfl ?_
      refine x_icmp_lt (t := 68) 19 dX16_instruction_49 rfl rfl (b_ite h (fun hc h => ?_) (fun hc h => ?_))
      · refine x_aload_n 0 dX16_instruction_68 rfl rfl rfl rfl rfl ?_
        refine x_iload_n 1 dX16_instruction_69 rfl rfl rfl ?_
        refine y_Vi 99 (M := mX16_wrong) (As := [(0, a1)]) (st := []) dX16_instruction_70 i65 rfl q1845 q1847 qs24 q383 q1848 rfl hmX16_wrong rfl rfl rfl rfl rfl rfl rfl rfl (k_mono h (fun r9 w10 h => ?_))
        exact y_iret dX16_instruction_73 rfl h
      · refine x_aload_n 0 dX16_instruction_52 rfl rfl rfl rfl rfl ?_
        refine y_getF 28 0 (c := 15) (z := 6) dX16_instruction_53 i65 rfl in_X16 q1099 rfl rfl rfl fn_65_0 (Nat.le_trans (Nat.le_of_ble_eq_true rfl) hn) rfl ?_
        refine y_getF 172 7 (c := 3) (z := 14) dX16_instruction_56 i6 rfl in_X4 q669 rfl rfl rfl fn_6_7 (Nat.le_trans (Nat.le_of_ble_eq_true rfl) hn) rfl ?_
        refine x_iload_n 1 dX16_instruction_59 rfl rfl rfl ?_
        obtain ⟨e11, h⟩ := h
        refine y_iald (z := w 14 a1) dX16_instruction_60 ⟨4096, i14, e11⟩ rfl rfl ?_
        refine x_if_eq (t := 74) 13 dX16_instruction_61 rfl rfl (b_ite h (fun hc h => ?_) (fun hc h => ?_))
        · exact x_fg (fgk (fgk (fgk (fgd (fgk (fgk (fg0))))))) h
        · refine x_iload_n 3 dX16_instruction_64 rfl rfl rfl ?_
          refine x_if_ne (t := 74) 9 dX16_instruction_65 rfl rfl (b_ifT (by decide) ?_)
          exact x_fg (fgk (fgk (fgk (fgd (fgk (fgk (fg0))))))) h
theorem sX16_instruction_74 {d n : Nat} {w : bW} {Q : Int → bW → Prop} {X : String → bW → Prop} (hn : 143 ≤ n) (a1 : Int) (a2 : Int) (h : (0 ≤ a1 ∧ a1 < 4096) ∧ (if 37 < a2 then (if 51 < a2 then (if 63 < a2 then (if 85 < a2 then (b_K d mX16_other [(2, 65), (0, a1), (0, a2), (0, w 18 a1)] n w (fun r2 w3 => if r2 ≤ 0 then (b_K d mX16_wrong [(2, 65), (0, a1)] n w3 (fun r4 w5 => Q r4 w5) X) else (Q r2 w3)) X) else (b_K d mX16_plain [(2, 65), (0, a2), (0, w 18 a1)] n w (fun r6 w7 => if r6 ≤ 0 then (b_K d mX16_wrong [(2, 65), (0, a1)] n w7 (fun r8 w9 => Q r8 w9) X) else (Q r6 w7)) X)) else (b_K d mX16_control [(2, 65), (0, a1), (0, a2), (0, w 18 a1)] n w (fun r10 w11 => if r10 ≤ 0 then (b_K d mX16_wrong [(2, 65), (0, a1)] n w11 (fun r12 w13 => Q r12 w13) X) else (Q r10 w11)) X)) else (b_K d mX16_maker [(2, 65), (0, a1), (0, a2), (0, w 18 a1)] n w (fun r14 w15 => if r14 ≤ 0 then (b_K d mX16_wrong [(2, 65), (0, a1)] n w15 (fun r16 w17 => Q r16 w17) X) else (Q r14 w15)) X)) else (b_K d mX16_shuffle [(2, 65), (0, a1), (0, a2), (0, w 18 a1)] n w (fun r18 w19 => if r18 ≤ 0 then (b_K d mX16_wrong [(2, 65), (0, a1)] n w19 (fun r20 w21 => Q r20 w21) X) else (Q r18 w19)) X))) : LX16_instruction_74 d n Q X a1 a2 w := by
  have i6 := iz6 (Nat.le_trans (Nat.le_of_ble_eq_true rfl) hn)
  have i18 := iz18 (Nat.le_trans (Nat.le_of_ble_eq_true rfl) hn)
  have i65 := iz65 (Nat.le_trans (Nat.le_of_ble_eq_true rfl) hn)
  refine x_aload_n 0 dX16_instruction_74 rfl rfl rfl rfl rfl ?_
  refine y_getF 28 0 (c := 15) (z := 6) dX16_instruction_75 i65 rfl in_X16 q1099 rfl rfl rfl fn_65_0 (Nat.le_trans (Nat.le_of_ble_eq_true rfl) hn) rfl ?_
  refine y_getF 87 11 (c := 3) (z := 18) dX16_instruction_78 i6 rfl in_X4 q682 rfl rfl rfl fn_6_11 (Nat.le_trans (Nat.le_of_ble_eq_true rfl) hn) rfl ?_
  refine x_iload_n 1 dX16_instruction_81 rfl rfl rfl ?_
  obtain ⟨e1, h⟩ := h
  refine y_iald (z := w 18 a1) dX16_instruction_82 ⟨4096, i18, e1⟩ rfl rfl ?_
  refine x_istore 4 (ls' := [(2, 65), (0, a1), (0, a2), (9, 0), (0, w 18 a1), (9, 0)]) dX16_instruction_83 rfl rfl rfl ?_
  refine x_iload_n 2 dX16_instruction_85 rfl rfl rfl ?_
  refine x_bipush 37 (z := 37) dX16_instruction_86 rfl (by decide) rfl ?_
  refine x_icmp_gt (t := 102) 14 dX16_instruction_88 rfl rfl (b_ite h (fun hc h => ?_) (fun hc h => ?_))
  · refine x_iload_n 2 dX16_instruction_102 rfl rfl rfl ?_
    refine x_bipush 51 (z := 51) dX16_instruction_103 rfl (by decide) rfl ?_
    refine x_icmp_gt (t := 119) 14 dX16_instruction_105 rfl rfl (b_ite h (fun hc h => ?_) (fun hc h => ?_))
    · refine x_iload_n 2 dX16_instruction_119 rfl rfl rfl ?_
      refine x_bipush 63 (z := 63) dX16_instruction_120 rfl (by decide) rfl ?_
      refine x_icmp_gt (t := 136) 14 dX16_instruction_122 rfl rfl (b_ite h (fun hc h => ?_) (fun hc h => ?_))
      · refine x_iload_n 2 dX16_instruction_136 rfl rfl rfl ?_
        refine x_bipush 85 (z := 85) dX16_instruction_137 rfl (by decide) rfl ?_
        refine x_icmp_gt (t := 152) 13 dX16_instruction_139 rfl rfl (b_ite h (fun hc h => ?_) (fun hc h => ?_))
        · refine x_aload_n 0 dX16_instruction_152 rfl rfl rfl rfl rfl ?_
          refine x_iload_n 1 dX16_instruction_153 rfl rfl rfl ?_
          refine x_iload_n 2 dX16_instruction_154 rfl rfl rfl ?_
          refine x_iload 4 dX16_instruction_155 rfl rfl ?_
          refine y_Vi 259 (M := mX16_other) (As := [(0, a1), (0, a2), (0, w 18 a1)]) (st := []) dX16_instruction_157 i65 rfl q2278 q2280 qs76 q383 q2281 rfl hmX16_other rfl rfl rfl rfl rfl rfl rfl rfl (k_mono h (fun r2 w3 h => ?_))
          refine x_istore 5 (ls' := [(2, 65), (0, a1), (0, a2), (9, 0), (0, w 18 a1), (0, r2)]) dX16_instruction_160 rfl rfl rfl ?_
          refine x_iload 5 dX16_instruction_162 rfl rfl ?_
          refine x_if_le (t := 172) 8 dX16_instruction_164 rfl rfl (b_ite h (fun hc h => ?_) (fun hc h => ?_))
          · refine x_aload_n 0 dX16_instruction_172 rfl rfl rfl rfl rfl ?_
            refine x_iload_n 1 dX16_instruction_173 rfl rfl rfl ?_
            refine y_Vi 99 (M := mX16_wrong) (As := [(0, a1)]) (st := []) dX16_instruction_174 i65 rfl q1845 q1847 qs24 q383 q1848 rfl hmX16_wrong rfl rfl rfl rfl rfl rfl rfl rfl (k_mono h (fun r4 w5 h => ?_))
            exact y_iret dX16_instruction_177 rfl h
          · refine x_iload 5 dX16_instruction_167 rfl rfl ?_
            refine x_goto 8 (q := 177) dX16_instruction_169 rfl ?_
            exact y_iret dX16_instruction_177 rfl h
        · refine x_aload_n 0 dX16_instruction_142 rfl rfl rfl rfl rfl ?_
          refine x_iload_n 2 dX16_instruction_143 rfl rfl rfl ?_
          refine x_iload 4 dX16_instruction_144 rfl rfl ?_
          refine y_Vi 256 (M := mX16_plain) (As := [(0, a2), (0, w 18 a1)]) (st := []) dX16_instruction_146 i65 rfl q2243 q2245 qs71 q383 q2246 rfl hmX16_plain rfl rfl rfl rfl rfl rfl rfl rfl (k_mono h (fun r6 w7 h => ?_))
          refine x_goto 11 (q := 160) dX16_instruction_149 rfl ?_
          refine x_istore 5 (ls' := [(2, 65), (0, a1), (0, a2), (9, 0), (0, w 18 a1), (0, r6)]) dX16_instruction_160 rfl rfl rfl ?_
          refine x_iload 5 dX16_instruction_162 rfl rfl ?_
          refine x_if_le (t := 172) 8 dX16_instruction_164 rfl rfl (b_ite h (fun hc h => ?_) (fun hc h => ?_))
          · refine x_aload_n 0 dX16_instruction_172 rfl rfl rfl rfl rfl ?_
            refine x_iload_n 1 dX16_instruction_173 rfl rfl rfl ?_
            refine y_Vi 99 (M := mX16_wrong) (As := [(0, a1)]) (st := []) dX16_instruction_174 i65 rfl q1845 q1847 qs24 q383 q1848 rfl hmX16_wrong rfl rfl rfl rfl rfl rfl rfl rfl (k_mono h (fun r8 w9 h => ?_))
            exact y_iret dX16_instruction_177 rfl h
          · refine x_iload 5 dX16_instruction_167 rfl rfl ?_
            refine x_goto 8 (q := 177) dX16_instruction_169 rfl ?_
            exact y_iret dX16_instruction_177 rfl h
      · refine x_aload_n 0 dX16_instruction_125 rfl rfl rfl rfl rfl ?_
        refine x_iload_n 1 dX16_instruction_126 rfl rfl rfl ?_
        refine x_iload_n 2 dX16_instruction_127 rfl rfl rfl ?_
        refine x_iload 4 dX16_instruction_128 rfl rfl ?_
        refine y_Vi 253 (M := mX16_control) (As := [(0, a1), (0, a2), (0, w 18 a1)]) (st := []) dX16_instruction_130 i65 rfl q2207 q2209 qs62 q383 q2210 rfl hmX16_control rfl rfl rfl rfl rfl rfl rfl rfl (k_mono h (fun r10 w11 h => ?_))
        refine x_goto 27 (q := 160) dX16_instruction_133 rfl ?_
        refine x_istore 5 (ls' := [(2, 65), (0, a1), (0, a2), (9, 0), (0, w 18 a1), (0, r10)]) dX16_instruction_160 rfl rfl rfl ?_
        refine x_iload 5 dX16_instruction_162 rfl rfl ?_
        refine x_if_le (t := 172) 8 dX16_instruction_164 rfl rfl (b_ite h (fun hc h => ?_) (fun hc h => ?_))
        · refine x_aload_n 0 dX16_instruction_172 rfl rfl rfl rfl rfl ?_
          refine x_iload_n 1 dX16_instruction_173 rfl rfl rfl ?_
          refine y_Vi 99 (M := mX16_wrong) (As := [(0, a1)]) (st := []) dX16_instruction_174 i65 rfl q1845 q1847 qs24 q383 q1848 rfl hmX16_wrong rfl rfl rfl rfl rfl rfl rfl rfl (k_mono h (fun r12 w13 h => ?_))
          exact y_iret dX16_instruction_177 rfl h
        · refine x_iload 5 dX16_instruction_167 rfl rfl ?_
          refine x_goto 8 (q := 177) dX16_instruction_169 rfl ?_
          exact y_iret dX16_instruction_177 rfl h
    · refine x_aload_n 0 dX16_instruction_108 rfl rfl rfl rfl rfl ?_
      refine x_iload_n 1 dX16_instruction_109 rfl rfl rfl ?_
      refine x_iload_n 2 dX16_instruction_110 rfl rfl rfl ?_
      refine x_iload 4 dX16_instruction_111 rfl rfl ?_
      refine y_Vi 250 (M := mX16_maker) (As := [(0, a1), (0, a2), (0, w 18 a1)]) (st := []) dX16_instruction_113 i65 rfl q2179 q2181 qs56 q383 q2182 rfl hmX16_maker rfl rfl rfl rfl rfl rfl rfl rfl (k_mono h (fun r14 w15 h => ?_))
      refine x_goto 44 (q := 160) dX16_instruction_116 rfl ?_
      refine x_istore 5 (ls' := [(2, 65), (0, a1), (0, a2), (9, 0), (0, w 18 a1), (0, r14)]) dX16_instruction_160 rfl rfl rfl ?_
      refine x_iload 5 dX16_instruction_162 rfl rfl ?_
      refine x_if_le (t := 172) 8 dX16_instruction_164 rfl rfl (b_ite h (fun hc h => ?_) (fun hc h => ?_))
      · refine x_aload_n 0 dX16_instruction_172 rfl rfl rfl rfl rfl ?_
        refine x_iload_n 1 dX16_instruction_173 rfl rfl rfl ?_
        refine y_Vi 99 (M := mX16_wrong) (As := [(0, a1)]) (st := []) dX16_instruction_174 i65 rfl q1845 q1847 qs24 q383 q1848 rfl hmX16_wrong rfl rfl rfl rfl rfl rfl rfl rfl (k_mono h (fun r16 w17 h => ?_))
        exact y_iret dX16_instruction_177 rfl h
      · refine x_iload 5 dX16_instruction_167 rfl rfl ?_
        refine x_goto 8 (q := 177) dX16_instruction_169 rfl ?_
        exact y_iret dX16_instruction_177 rfl h
  · refine x_aload_n 0 dX16_instruction_91 rfl rfl rfl rfl rfl ?_
    refine x_iload_n 1 dX16_instruction_92 rfl rfl rfl ?_
    refine x_iload_n 2 dX16_instruction_93 rfl rfl rfl ?_
    refine x_iload 4 dX16_instruction_94 rfl rfl ?_
    refine y_Vi 247 (M := mX16_shuffle) (As := [(0, a1), (0, a2), (0, w 18 a1)]) (st := []) dX16_instruction_96 i65 rfl q1920 q1922 qs32 q383 q1923 rfl hmX16_shuffle rfl rfl rfl rfl rfl rfl rfl rfl (k_mono h (fun r18 w19 h => ?_))
    refine x_goto 61 (q := 160) dX16_instruction_99 rfl ?_
    refine x_istore 5 (ls' := [(2, 65), (0, a1), (0, a2), (9, 0), (0, w 18 a1), (0, r18)]) dX16_instruction_160 rfl rfl rfl ?_
    refine x_iload 5 dX16_instruction_162 rfl rfl ?_
    refine x_if_le (t := 172) 8 dX16_instruction_164 rfl rfl (b_ite h (fun hc h => ?_) (fun hc h => ?_))
    · refine x_aload_n 0 dX16_instruction_172 rfl rfl rfl rfl rfl ?_
      refine x_iload_n 1 dX16_instruction_173 rfl rfl rfl ?_
      refine y_Vi 99 (M := mX16_wrong) (As := [(0, a1)]) (st := []) dX16_instruction_174 i65 rfl q1845 q1847 qs24 q383 q1848 rfl hmX16_wrong rfl rfl rfl rfl rfl rfl rfl rfl (k_mono h (fun r20 w21 h => ?_))
      exact y_iret dX16_instruction_177 rfl h
    · refine x_iload 5 dX16_instruction_167 rfl rfl ?_
      refine x_goto 8 (q := 177) dX16_instruction_169 rfl ?_
      exact y_iret dX16_instruction_177 rfl h
abbrev LX16_shuffle_60 (d n : Nat) (Q : Int → bW → Prop) (X : String → bW → Prop) (a2 : Int) (a3 : Int) (a4 : Int) (s0 : Int) (w : bW) : Prop := b_Y (d + 1) mX16_shuffle n Q X 60 [(2, 65), (9, 0), (0, a2), (0, a3), (0, a4), (9, 0), (9, 0)] [(0, s0)] w
abbrev LX16_shuffle_107 (d n : Nat) (Q : Int → bW → Prop) (X : String → bW → Prop) (a2 : Int) (a3 : Int) (a5 : Int) (s0 : Int) (w : bW) : Prop := b_Y (d + 1) mX16_shuffle n Q X 107 [(2, 65), (9, 0), (0, a2), (0, a3), (9, 0), (0, a5), (9, 0)] [(0, s0)] w
abbrev LX16_shuffle_194 (d n : Nat) (Q : Int → bW → Prop) (X : String → bW → Prop) (a2 : Int) (a6 : Int) (s0 : Int) (w : bW) : Prop := b_Y (d + 1) mX16_shuffle n Q X 194 [(2, 65), (9, 0), (0, a2), (9, 0), (9, 0), (9, 0), (0, a6)] [(0, s0)] w
theorem rX16_shuffle {d n : Nat} {w : bW} {Q : Int → bW → Prop} {X : String → bW → Prop} (hn : 66 ≤ n) (a1 : Int) (a2 : Int) (a3 : Int) (h : if a2 ≠ 36 then (if a2 ≠ 37 then (if a2 = 34 then (if a3 ≠ 1 then (LX16_shuffle_60 d n Q X a2 a3 1 (-1) w) else (b_K d mX16_told [(2, 65), (0, a1), (0, 0)] n w (fun r1 w2 => LX16_shuffle_60 d n Q X a2 a3 1 r1 w2) X)) else (if a2 ≠ 35 then (if a3 ≠ 1 then (LX16_shuffle_60 d n Q X a2 a3 0 (-1) w) else (b_K d mX16_told [(2, 65), (0, a1), (0, 0)] n w (fun r3 w4 => LX16_shuffle_60 d n Q X a2 a3 0 r3 w4) X)) else (if a3 ≠ 1 then (LX16_shuffle_60 d n Q X a2 a3 1 (-1) w) else (b_K d mX16_told [(2, 65), (0, a1), (0, 0)] n w (fun r5 w6 => LX16_shuffle_60 d n Q X a2 a3 1 r5 w6) X)))) else (b_K d mX16_dip [(2, 65), (0, a1), (0, a3)] n w (fun r7 w8 => Q r7 w8) X)) else (b_K d mX16_push [(2, 65), (0, a1), (0, a3)] n w (fun r9 w10 => Q r9 w10) X)) : b_K (d + 1) mX16_shuffle [(2, 65), (0, a1), (0, a2), (0, a3)] n w Q X := by
  have i65 := iz65 (Nat.le_trans (Nat.le_of_ble_eq_true rfl) hn)
  refine k_of (by decide) rfl rfl rfl (ls := [(2, 65), (0, a1), (0, a2), (0, a3), (9, 0), (9, 0), (9, 0)]) rfl ?_
  refine x_iload_n 2 dX16_shuffle_0 rfl rfl rfl ?_
  refine x_bipush 36 (z := 36) dX16_shuffle_1 rfl (by decide) rfl ?_
  refine x_icmp_ne (t := 13) 10 dX16_shuffle_3 rfl rfl (b_ite h (fun hc h => ?_) (fun hc h => ?_))
  · refine x_iload_n 2 dX16_shuffle_13 rfl rfl rfl ?_
    refine x_bipush 37 (z := 37) dX16_shuffle_14 rfl (by decide) rfl ?_
    refine x_icmp_ne (t := 26) 10 dX16_shuffle_16 rfl rfl (b_ite h (fun hc h => ?_) (fun hc h => ?_))
    · refine x_iload_n 2 dX16_shuffle_26 rfl rfl rfl ?_
      refine x_bipush 34 (z := 34) dX16_shuffle_27 rfl (by decide) rfl ?_
      refine x_icmp_eq (t := 38) 9 dX16_shuffle_29 rfl rfl (b_ite h (fun hc h => ?_) (fun hc h => ?_))
      · refine x_iconst 1 (z := 1) dX16_shuffle_38 rfl (by decide) rfl ?_
        refine x_goto 4 (q := 43) dX16_shuffle_39 rfl ?_
        refine x_istore 4 (ls' := [(2, 65), (0, a1), (0, a2), (0, a3), (0, 1), (9, 0), (9, 0)]) dX16_shuffle_43 rfl rfl rfl ?_
        refine x_iload_n 3 dX16_shuffle_45 rfl rfl rfl ?_
        refine x_iconst 1 (z := 1) dX16_shuffle_46 rfl (by decide) rfl ?_
        refine x_icmp_ne (t := 59) 12 dX16_shuffle_47 rfl rfl (b_ite h (fun hc h => ?_) (fun hc h => ?_))
        · refine x_iconst (-1) (z := (-1)) dX16_shuffle_59 rfl (by decide) rfl ?_
          exact x_fg (fgk (fgd (fgk (fgk (fgk (fgk (fgk (fg0)))))))) h
        · refine x_aload_n 0 dX16_shuffle_50 rfl rfl rfl rfl rfl ?_
          refine x_iload_n 1 dX16_shuffle_51 rfl rfl rfl ?_
          refine x_iconst 0 (z := 0) dX16_shuffle_52 rfl (by decide) rfl ?_
          refine y_Vi 271 (M := mX16_told) (As := [(0, a1), (0, 0)]) (st := []) dX16_shuffle_53 i65 rfl q2159 q2161 qs52 q383 q2162 rfl hmX16_told rfl rfl rfl rfl rfl rfl rfl rfl (k_mono h (fun r1 w2 h => ?_))
          refine x_goto 4 (q := 60) dX16_shuffle_56 rfl ?_
          exact x_fg (fgk (fgd (fgk (fgk (fgk (fgk (fgk (fg0)))))))) h
      · refine x_iload_n 2 dX16_shuffle_32 rfl rfl rfl ?_
        refine x_bipush 35 (z := 35) dX16_shuffle_33 rfl (by decide) rfl ?_
        refine x_icmp_ne (t := 42) 7 dX16_shuffle_35 rfl rfl (b_ite h (fun hc h => ?_) (fun hc h => ?_))
        · refine x_iconst 0 (z := 0) dX16_shuffle_42 rfl (by decide) rfl ?_
          refine x_istore 4 (ls' := [(2, 65), (0, a1), (0, a2), (0, a3), (0, 0), (9, 0), (9, 0)]) dX16_shuffle_43 rfl rfl rfl ?_
          refine x_iload_n 3 dX16_shuffle_45 rfl rfl rfl ?_
          refine x_iconst 1 (z := 1) dX16_shuffle_46 rfl (by decide) rfl ?_
          refine x_icmp_ne (t := 59) 12 dX16_shuffle_47 rfl rfl (b_ite h (fun hc h => ?_) (fun hc h => ?_))
          · refine x_iconst (-1) (z := (-1)) dX16_shuffle_59 rfl (by decide) rfl ?_
            exact x_fg (fgk (fgd (fgk (fgk (fgk (fgk (fgk (fg0)))))))) h
          · refine x_aload_n 0 dX16_shuffle_50 rfl rfl rfl rfl rfl ?_
            refine x_iload_n 1 dX16_shuffle_51 rfl rfl rfl ?_
            refine x_iconst 0 (z := 0) dX16_shuffle_52 rfl (by decide) rfl ?_
            refine y_Vi 271 (M := mX16_told) (As := [(0, a1), (0, 0)]) (st := []) dX16_shuffle_53 i65 rfl q2159 q2161 qs52 q383 q2162 rfl hmX16_told rfl rfl rfl rfl rfl rfl rfl rfl (k_mono h (fun r3 w4 h => ?_))
            refine x_goto 4 (q := 60) dX16_shuffle_56 rfl ?_
            exact x_fg (fgk (fgd (fgk (fgk (fgk (fgk (fgk (fg0)))))))) h
        · refine x_iconst 1 (z := 1) dX16_shuffle_38 rfl (by decide) rfl ?_
          refine x_goto 4 (q := 43) dX16_shuffle_39 rfl ?_
          refine x_istore 4 (ls' := [(2, 65), (0, a1), (0, a2), (0, a3), (0, 1), (9, 0), (9, 0)]) dX16_shuffle_43 rfl rfl rfl ?_
          refine x_iload_n 3 dX16_shuffle_45 rfl rfl rfl ?_
          refine x_iconst 1 (z := 1) dX16_shuffle_46 rfl (by decide) rfl ?_
          refine x_icmp_ne (t := 59) 12 dX16_shuffle_47 rfl rfl (b_ite h (fun hc h => ?_) (fun hc h => ?_))
          · refine x_iconst (-1) (z := (-1)) dX16_shuffle_59 rfl (by decide) rfl ?_
            exact x_fg (fgk (fgd (fgk (fgk (fgk (fgk (fgk (fg0)))))))) h
          · refine x_aload_n 0 dX16_shuffle_50 rfl rfl rfl rfl rfl ?_
            refine x_iload_n 1 dX16_shuffle_51 rfl rfl rfl ?_
            refine x_iconst 0 (z := 0) dX16_shuffle_52 rfl (by decide) rfl ?_
            refine y_Vi 271 (M := mX16_told) (As := [(0, a1), (0, 0)]) (st := []) dX16_shuffle_53 i65 rfl q2159 q2161 qs52 q383 q2162 rfl hmX16_told rfl rfl rfl rfl rfl rfl rfl rfl (k_mono h (fun r5 w6 h => ?_))
            refine x_goto 4 (q := 60) dX16_shuffle_56 rfl ?_
            exact x_fg (fgk (fgd (fgk (fgk (fgk (fgk (fgk (fg0)))))))) h
    · refine x_aload_n 0 dX16_shuffle_19 rfl rfl rfl rfl rfl ?_
      refine x_iload_n 1 dX16_shuffle_20 rfl rfl rfl ?_
      refine x_iload_n 3 dX16_shuffle_21 rfl rfl rfl ?_
      refine y_Vi 268 (M := mX16_dip) (As := [(0, a1), (0, a3)]) (st := []) dX16_shuffle_22 i65 rfl q2155 q2157 qs51 q383 q2158 rfl hmX16_dip rfl rfl rfl rfl rfl rfl rfl rfl (k_mono h (fun r7 w8 h => ?_))
      exact y_iret dX16_shuffle_25 rfl h
  · refine x_aload_n 0 dX16_shuffle_6 rfl rfl rfl rfl rfl ?_
    refine x_iload_n 1 dX16_shuffle_7 rfl rfl rfl ?_
    refine x_iload_n 3 dX16_shuffle_8 rfl rfl rfl ?_
    refine y_Vi 265 (M := mX16_push) (As := [(0, a1), (0, a3)]) (st := []) dX16_shuffle_9 i65 rfl q1924 q1926 qs33 q383 q1927 rfl hmX16_push rfl rfl rfl rfl rfl rfl rfl rfl (k_mono h (fun r9 w10 h => ?_))
    exact y_iret dX16_shuffle_12 rfl h
theorem sX16_shuffle_60 {d n : Nat} {w : bW} {Q : Int → bW → Prop} {X : String → bW → Prop} (hn : 66 ≤ n) (a2 : Int) (a3 : Int) (a4 : Int) (s0 : Int) (h : if 1 < a3 then (Q 0 w) else (if a3 ≠ 1 then (if a3 ≠ 0 then (if a3 ≠ 1 then (LX16_shuffle_107 d n Q X a2 a3 s0 0 w) else (LX16_shuffle_107 d n Q X a2 a3 s0 (b_i (5 * s0)) w)) else (if a4 = 0 then (if a3 ≠ 1 then (LX16_shuffle_107 d n Q X a2 a3 s0 0 w) else (LX16_shuffle_107 d n Q X a2 a3 s0 (b_i (5 * s0)) w)) else (Q 0 w))) else (if s0 < 0 then (Q 0 w) else (if a2 = 33 then (Q 0 w) else (if a3 ≠ 0 then (if a3 ≠ 1 then (LX16_shuffle_107 d n Q X a2 a3 s0 0 w) else (LX16_shuffle_107 d n Q X a2 a3 s0 (b_i (5 * s0)) w)) else (if a4 = 0 then (if a3 ≠ 1 then (LX16_shuffle_107 d n Q X a2 a3 s0 0 w) else (LX16_shuffle_107 d n Q X a2 a3 s0 (b_i (5 * s0)) w)) else (Q 0 w))))))) : LX16_shuffle_60 d n Q X a2 a3 a4 s0 w := by
  refine x_istore 5 (ls' := [(2, 65), (9, 0), (0, a2), (0, a3), (0, a4), (0, s0), (9, 0)]) dX16_shuffle_60 rfl rfl rfl ?_
  refine x_iload_n 3 dX16_shuffle_62 rfl rfl rfl ?_
  refine x_iconst 1 (z := 1) dX16_shuffle_63 rfl (by decide) rfl ?_
  refine x_icmp_gt (t := 92) 28 dX16_shuffle_64 rfl rfl (b_ite h (fun hc h => ?_) (fun hc h => ?_))
  · refine x_iconst 0 (z := 0) dX16_shuffle_92 rfl (by decide) rfl ?_
    exact y_iret dX16_shuffle_93 rfl h
  · refine x_iload_n 3 dX16_shuffle_67 rfl rfl rfl ?_
    refine x_iconst 1 (z := 1) dX16_shuffle_68 rfl (by decide) rfl ?_
    refine x_icmp_ne (t := 83) 14 dX16_shuffle_69 rfl rfl (b_ite h (fun hc h => ?_) (fun hc h => ?_))
    · refine x_iload_n 3 dX16_shuffle_83 rfl rfl rfl ?_
      refine x_if_ne (t := 94) 10 dX16_shuffle_84 rfl rfl (b_ite h (fun hc h => ?_) (fun hc h => ?_))
      · refine x_iload_n 3 dX16_shuffle_94 rfl rfl rfl ?_
        refine x_iconst 1 (z := 1) dX16_shuffle_95 rfl (by decide) rfl ?_
        refine x_icmp_ne (t := 106) 10 dX16_shuffle_96 rfl rfl (b_ite h (fun hc h => ?_) (fun hc h => ?_))
        · refine x_iconst 0 (z := 0) dX16_shuffle_106 rfl (by decide) rfl ?_
          exact x_fg (fgk (fgk (fgk (fgk (fgd (fgk (fgk (fg0)))))))) h
        · refine x_iconst 5 (z := 5) dX16_shuffle_99 rfl (by decide) rfl ?_
          refine x_iload 5 dX16_shuffle_100 rfl rfl ?_
          refine x_imul dX16_shuffle_102 rfl ?_
          refine x_goto 4 (q := 107) dX16_shuffle_103 rfl ?_
          exact x_fg (fgk (fgk (fgk (fgk (fgd (fgk (fgk (fg0)))))))) h
      · refine x_iload 4 dX16_shuffle_87 rfl rfl ?_
        refine x_if_eq (t := 94) 5 dX16_shuffle_89 rfl rfl (b_ite h (fun hc h => ?_) (fun hc h => ?_))
        · refine x_iload_n 3 dX16_shuffle_94 rfl rfl rfl ?_
          refine x_iconst 1 (z := 1) dX16_shuffle_95 rfl (by decide) rfl ?_
          refine x_icmp_ne (t := 106) 10 dX16_shuffle_96 rfl rfl (b_ite h (fun hc h => ?_) (fun hc h => ?_))
          · refine x_iconst 0 (z := 0) dX16_shuffle_106 rfl (by decide) rfl ?_
            exact x_fg (fgk (fgk (fgk (fgk (fgd (fgk (fgk (fg0)))))))) h
          · refine x_iconst 5 (z := 5) dX16_shuffle_99 rfl (by decide) rfl ?_
            refine x_iload 5 dX16_shuffle_100 rfl rfl ?_
            refine x_imul dX16_shuffle_102 rfl ?_
            refine x_goto 4 (q := 107) dX16_shuffle_103 rfl ?_
            exact x_fg (fgk (fgk (fgk (fgk (fgd (fgk (fgk (fg0)))))))) h
        · refine x_iconst 0 (z := 0) dX16_shuffle_92 rfl (by decide) rfl ?_
          exact y_iret dX16_shuffle_93 rfl h
    · refine x_iload 5 dX16_shuffle_72 rfl rfl ?_
      refine x_if_lt (t := 92) 18 dX16_shuffle_74 rfl rfl (b_ite h (fun hc h => ?_) (fun hc h => ?_))
      · refine x_iconst 0 (z := 0) dX16_shuffle_92 rfl (by decide) rfl ?_
        exact y_iret dX16_shuffle_93 rfl h
      · refine x_iload_n 2 dX16_shuffle_77 rfl rfl rfl ?_
        refine x_bipush 33 (z := 33) dX16_shuffle_78 rfl (by decide) rfl ?_
        refine x_icmp_eq (t := 92) 12 dX16_shuffle_80 rfl rfl (b_ite h (fun hc h => ?_) (fun hc h => ?_))
        · refine x_iconst 0 (z := 0) dX16_shuffle_92 rfl (by decide) rfl ?_
          exact y_iret dX16_shuffle_93 rfl h
        · refine x_iload_n 3 dX16_shuffle_83 rfl rfl rfl ?_
          refine x_if_ne (t := 94) 10 dX16_shuffle_84 rfl rfl (b_ite h (fun hc h => ?_) (fun hc h => ?_))
          · refine x_iload_n 3 dX16_shuffle_94 rfl rfl rfl ?_
            refine x_iconst 1 (z := 1) dX16_shuffle_95 rfl (by decide) rfl ?_
            refine x_icmp_ne (t := 106) 10 dX16_shuffle_96 rfl rfl (b_ite h (fun hc h => ?_) (fun hc h => ?_))
            · refine x_iconst 0 (z := 0) dX16_shuffle_106 rfl (by decide) rfl ?_
              exact x_fg (fgk (fgk (fgk (fgk (fgd (fgk (fgk (fg0)))))))) h
            · refine x_iconst 5 (z := 5) dX16_shuffle_99 rfl (by decide) rfl ?_
              refine x_iload 5 dX16_shuffle_100 rfl rfl ?_
              refine x_imul dX16_shuffle_102 rfl ?_
              refine x_goto 4 (q := 107) dX16_shuffle_103 rfl ?_
              exact x_fg (fgk (fgk (fgk (fgk (fgd (fgk (fgk (fg0)))))))) h
          · refine x_iload 4 dX16_shuffle_87 rfl rfl ?_
            refine x_if_eq (t := 94) 5 dX16_shuffle_89 rfl rfl (b_ite h (fun hc h => ?_) (fun hc h => ?_))
            · refine x_iload_n 3 dX16_shuffle_94 rfl rfl rfl ?_
              refine x_iconst 1 (z := 1) dX16_shuffle_95 rfl (by decide) rfl ?_
              refine x_icmp_ne (t := 106) 10 dX16_shuffle_96 rfl rfl (b_ite h (fun hc h => ?_) (fun hc h => ?_))
              · refine x_iconst 0 (z := 0) dX16_shuffle_106 rfl (by decide) rfl ?_
                exact x_fg (fgk (fgk (fgk (fgk (fgd (fgk (fgk (fg0)))))))) h
              · refine x_iconst 5 (z := 5) dX16_shuffle_99 rfl (by decide) rfl ?_
                refine x_iload 5 dX16_shuffle_100 rfl rfl ?_
                refine x_imul dX16_shuffle_102 rfl ?_
                refine x_goto 4 (q := 107) dX16_shuffle_103 rfl ?_
                exact x_fg (fgk (fgk (fgk (fgk (fgd (fgk (fgk (fg0)))))))) h
            · refine x_iconst 0 (z := 0) dX16_shuffle_92 rfl (by decide) rfl ?_
              exact y_iret dX16_shuffle_93 rfl h
theorem sX16_shuffle_107 {d n : Nat} {w : bW} {Q : Int → bW → Prop} {X : String → bW → Prop} (hn : 66 ≤ n) (a2 : Int) (a3 : Int) (a5 : Int) (s0 : Int) (h : if a2 = 31 then (if a3 ≠ 1 then (if 1 ≤ w 65 8 then (b_K d mX16_done [(2, 65), (0, 1), (0, a2), (0, 1), (0, 0), (0, s0)] n (b_up w 65 8 (b_i ((w 65 8) - 1))) (fun r1 w2 => Q r1 w2) X) else (Q 0 w)) else (if a5 ≤ w 65 8 then (b_K d mX16_done [(2, 65), (0, 1), (0, a2), (0, a5), (0, 0), (0, s0)] n (b_up w 65 8 (b_i ((w 65 8) - a5))) (fun r3 w4 => Q r3 w4) X) else (Q 0 w))) else (if a2 = 32 then (if a3 ≠ 1 then (LX16_shuffle_194 d n Q X a2 s0 1 w) else (LX16_shuffle_194 d n Q X a2 s0 a5 w)) else (if a2 = 33 then (if w 65 8 ≤ 1 then (b_K d mX16_done [(2, 65), (0, 0), (0, a2), (0, 0), (0, 0), (0, 0)] n w (fun r5 w6 => Q r5 w6) X) else (b_K d mX16_turn [(2, 65), (0, 1), (0, 1)] n w (fun r7 w8 => if r7 = 0 then (b_K d mX16_done [(2, 65), (0, 0), (0, a2), (0, 0), (0, 0), (0, 0)] n w8 (fun r9 w10 => Q r9 w10) X) else (b_K d mX16_done [(2, 65), (0, 1), (0, a2), (0, 0), (0, 0), (0, 0)] n w8 (fun r11 w12 => Q r11 w12) X)) X)) else ((if w 65 8 ≤ a5 then (b_K d mX16_done [(2, 65), (0, 0), (0, a2), (0, a5), (0, 0), (0, s0)] n w (fun r13 w14 => Q r13 w14) X) else (if a2 ≠ 34 then (b_K d mX16_turn [(2, 65), (0, a5), (0, 0)] n w (fun r15 w16 => if r15 = 0 then (b_K d mX16_done [(2, 65), (0, 0), (0, a2), (0, a5), (0, 0), (0, s0)] n w16 (fun r17 w18 => Q r17 w18) X) else (b_K d mX16_done [(2, 65), (0, 1), (0, a2), (0, a5), (0, 0), (0, s0)] n w16 (fun r19 w20 => Q r19 w20) X)) X) else (b_K d mX16_turn [(2, 65), (0, a5), (0, 1)] n w (fun r21 w22 => if r21 = 0 then (b_K d mX16_done [(2, 65), (0, 0), (0, a2), (0, a5), (0, 0), (0, s0)] n w22 (fun r23 w24 => Q r23 w24) X) else (b_K d mX16_done [(2, 65), (0, 1), (0, a2), (0, a5), (0, 0), (0, s0)] n w22 (fun r25 w26 => Q r25 w26) X)) X))))))) : LX16_shuffle_107 d n Q X a2 a3 a5 s0 w := by
  have i65 := iz65 (Nat.le_trans (Nat.le_of_ble_eq_true rfl) hn)
  refine x_istore 6 (ls' := [(2, 65), (9, 0), (0, a2), (0, a3), (9, 0), (0, a5), (0, s0)]) dX16_shuffle_107 rfl rfl rfl ?_
  refine x_iload_n 2 dX16_shuffle_109 rfl rfl rfl ?_
  refine b_itc h (fun hc h => ?_) (fun hn0 h => ?_)
  · have key : b_Y (d + 1) mX16_shuffle n Q X 136 [(2, 65), (9, 0), (0, a2), (0, a3), (9, 0), (0, a5), (0, s0)] [] w := by
      refine x_iload_n 3 dX16_shuffle_136 rfl rfl rfl ?_
      refine x_iconst 1 (z := 1) dX16_shuffle_137 rfl (by decide) rfl ?_
      refine x_icmp_ne (t := 146) 8 dX16_shuffle_138 rfl rfl (b_ite h (fun hc h => ?_) (fun hc h => ?_))
      · refine x_iconst 1 (z := 1) dX16_shuffle_146 rfl (by decide) rfl ?_
        refine x_istore 5 (ls' := [(2, 65), (9, 0), (0, a2), (0, a3), (9, 0), (0, 1), (0, s0)]) dX16_shuffle_147 rfl rfl rfl ?_
        refine x_iload 5 dX16_shuffle_149 rfl rfl ?_
        refine x_aload_n 0 dX16_shuffle_151 rfl rfl rfl rfl rfl ?_
        refine y_get 56 8 (c := 15) (z := w 65 8) dX16_shuffle_152 i65 rfl in_X16 q1107 rfl rfl rfl rfl rfl ?_
        refine x_icmp_le (t := 160) 5 dX16_shuffle_155 rfl rfl (b_ite h (fun hc h => ?_) (fun hc h => ?_))
        · refine x_aload_n 0 dX16_shuffle_160 rfl rfl rfl rfl rfl ?_
          refine x_dup dX16_shuffle_161 rfl rfl ?_
          refine y_get 56 8 (c := 15) (z := w 65 8) dX16_shuffle_162 i65 rfl in_X16 q1107 rfl rfl rfl rfl rfl ?_
          refine x_iload 5 dX16_shuffle_165 rfl rfl ?_
          refine x_isub dX16_shuffle_167 rfl ?_
          refine x_put 56 8 (c := 15) dX16_shuffle_168 i65 rfl in_X16 tyX16_ok nmX16 q1107 rfl rfl rfl (Or.inl rfl) (Or.inl ⟨rfl, rfl⟩) rfl ?_
          refine x_aload_n 0 dX16_shuffle_171 rfl rfl rfl rfl rfl ?_
          refine x_iconst 1 (z := 1) dX16_shuffle_172 rfl (by decide) rfl ?_
          refine x_iload_n 2 dX16_shuffle_173 rfl rfl rfl ?_
          refine x_iload 5 dX16_shuffle_174 rfl rfl ?_
          refine x_iconst 0 (z := 0) dX16_shuffle_176 rfl (by decide) rfl ?_
          refine x_iload 6 dX16_shuffle_177 rfl rfl ?_
          refine y_Vi 274 (M := mX16_done) (As := [(0, 1), (0, a2), (0, 1), (0, 0), (0, s0)]) (st := []) dX16_shuffle_179 i65 rfl q2147 q2149 qs50 q383 q2150 rfl hmX16_done rfl rfl rfl rfl rfl rfl rfl rfl (k_mono h (fun r1 w2 h => ?_))
          exact y_iret dX16_shuffle_182 rfl h
        · refine x_iconst 0 (z := 0) dX16_shuffle_158 rfl (by decide) rfl ?_
          exact y_iret dX16_shuffle_159 rfl h
      · refine x_iload 5 dX16_shuffle_141 rfl rfl ?_
        refine x_goto 4 (q := 147) dX16_shuffle_143 rfl ?_
        refine x_istore 5 (ls' := [(2, 65), (9, 0), (0, a2), (0, a3), (9, 0), (0, a5), (0, s0)]) dX16_shuffle_147 rfl rfl rfl ?_
        refine x_iload 5 dX16_shuffle_149 rfl rfl ?_
        refine x_aload_n 0 dX16_shuffle_151 rfl rfl rfl rfl rfl ?_
        refine y_get 56 8 (c := 15) (z := w 65 8) dX16_shuffle_152 i65 rfl in_X16 q1107 rfl rfl rfl rfl rfl ?_
        refine x_icmp_le (t := 160) 5 dX16_shuffle_155 rfl rfl (b_ite h (fun hc h => ?_) (fun hc h => ?_))
        · refine x_aload_n 0 dX16_shuffle_160 rfl rfl rfl rfl rfl ?_
          refine x_dup dX16_shuffle_161 rfl rfl ?_
          refine y_get 56 8 (c := 15) (z := w 65 8) dX16_shuffle_162 i65 rfl in_X16 q1107 rfl rfl rfl rfl rfl ?_
          refine x_iload 5 dX16_shuffle_165 rfl rfl ?_
          refine x_isub dX16_shuffle_167 rfl ?_
          refine x_put 56 8 (c := 15) dX16_shuffle_168 i65 rfl in_X16 tyX16_ok nmX16 q1107 rfl rfl rfl (Or.inl rfl) (Or.inl ⟨rfl, rfl⟩) rfl ?_
          refine x_aload_n 0 dX16_shuffle_171 rfl rfl rfl rfl rfl ?_
          refine x_iconst 1 (z := 1) dX16_shuffle_172 rfl (by decide) rfl ?_
          refine x_iload_n 2 dX16_shuffle_173 rfl rfl rfl ?_
          refine x_iload 5 dX16_shuffle_174 rfl rfl ?_
          refine x_iconst 0 (z := 0) dX16_shuffle_176 rfl (by decide) rfl ?_
          refine x_iload 6 dX16_shuffle_177 rfl rfl ?_
          refine y_Vi 274 (M := mX16_done) (As := [(0, 1), (0, a2), (0, a5), (0, 0), (0, s0)]) (st := []) dX16_shuffle_179 i65 rfl q2147 q2149 qs50 q383 q2150 rfl hmX16_done rfl rfl rfl rfl rfl rfl rfl rfl (k_mono h (fun r3 w4 h => ?_))
          exact y_iret dX16_shuffle_182 rfl h
        · refine x_iconst 0 (z := 0) dX16_shuffle_158 rfl (by decide) rfl ?_
          exact y_iret dX16_shuffle_159 rfl h
    have e := hc
    exact x_tsI (off := 26) (t := 136) dX16_shuffle_110 (by rw [e]; decide) (by rw [e]; decide) (by rw [e]; rfl) rfl key
  · refine b_itc h (fun hc h => ?_) (fun hn1 h => ?_)
    · have key : b_Y (d + 1) mX16_shuffle n Q X 183 [(2, 65), (9, 0), (0, a2), (0, a3), (9, 0), (0, a5), (0, s0)] [] w := by
        refine x_iload_n 3 dX16_shuffle_183 rfl rfl rfl ?_
        refine x_iconst 1 (z := 1) dX16_shuffle_184 rfl (by decide) rfl ?_
        refine x_icmp_ne (t := 193) 8 dX16_shuffle_185 rfl rfl (b_ite h (fun hc h => ?_) (fun hc h => ?_))
        · refine x_iconst 1 (z := 1) dX16_shuffle_193 rfl (by decide) rfl ?_
          exact x_fg (fgk (fgk (fgk (fgd (fgk (fgd (fgk (fg0)))))))) h
        · refine x_iload 5 dX16_shuffle_188 rfl rfl ?_
          refine x_goto 4 (q := 194) dX16_shuffle_190 rfl ?_
          exact x_fg (fgk (fgk (fgk (fgd (fgk (fgd (fgk (fg0)))))))) h
      have e := hc
      exact x_tsI (off := 73) (t := 183) dX16_shuffle_110 (by rw [e]; decide) (by rw [e]; decide) (by rw [e]; rfl) rfl key
    · refine b_itc h (fun hc h => ?_) (fun hn2 h => ?_)
      · have key : b_Y (d + 1) mX16_shuffle n Q X 242 [(2, 65), (9, 0), (0, a2), (0, a3), (9, 0), (0, a5), (0, s0)] [] w := by
          refine x_aload_n 0 dX16_shuffle_242 rfl rfl rfl rfl rfl ?_
          refine x_aload_n 0 dX16_shuffle_243 rfl rfl rfl rfl rfl ?_
          refine y_get 56 8 (c := 15) (z := w 65 8) dX16_shuffle_244 i65 rfl in_X16 q1107 rfl rfl rfl rfl rfl ?_
          refine x_iconst 1 (z := 1) dX16_shuffle_247 rfl (by decide) rfl ?_
          refine x_icmp_le (t := 264) 16 dX16_shuffle_248 rfl rfl (b_ite h (fun hc h => ?_) (fun hc h => ?_))
          · refine x_iconst 0 (z := 0) dX16_shuffle_264 rfl (by decide) rfl ?_
            refine x_iload_n 2 dX16_shuffle_265 rfl rfl rfl ?_
            refine x_iconst 0 (z := 0) dX16_shuffle_266 rfl (by decide) rfl ?_
            refine x_iconst 0 (z := 0) dX16_shuffle_267 rfl (by decide) rfl ?_
            refine x_iconst 0 (z := 0) dX16_shuffle_268 rfl (by decide) rfl ?_
            refine y_Vi 274 (M := mX16_done) (As := [(0, 0), (0, a2), (0, 0), (0, 0), (0, 0)]) (st := []) dX16_shuffle_269 i65 rfl q2147 q2149 qs50 q383 q2150 rfl hmX16_done rfl rfl rfl rfl rfl rfl rfl rfl (k_mono h (fun r5 w6 h => ?_))
            exact y_iret dX16_shuffle_272 rfl h
          · refine x_aload_n 0 dX16_shuffle_251 rfl rfl rfl rfl rfl ?_
            refine x_iconst 1 (z := 1) dX16_shuffle_252 rfl (by decide) rfl ?_
            refine x_iconst 1 (z := 1) dX16_shuffle_253 rfl (by decide) rfl ?_
            refine y_Vi 281 (M := mX16_turn) (As := [(0, 1), (0, 1)]) (st := [(2, 65)]) dX16_shuffle_254 i65 rfl q2175 q2177 qs55 q383 q2178 rfl hmX16_turn rfl rfl rfl rfl rfl rfl rfl rfl (k_mono h (fun r7 w8 h => ?_))
            refine x_if_eq (t := 264) 7 dX16_shuffle_257 rfl rfl (b_ite h (fun hc h => ?_) (fun hc h => ?_))
            · refine x_iconst 0 (z := 0) dX16_shuffle_264 rfl (by decide) rfl ?_
              refine x_iload_n 2 dX16_shuffle_265 rfl rfl rfl ?_
              refine x_iconst 0 (z := 0) dX16_shuffle_266 rfl (by decide) rfl ?_
              refine x_iconst 0 (z := 0) dX16_shuffle_267 rfl (by decide) rfl ?_
              refine x_iconst 0 (z := 0) dX16_shuffle_268 rfl (by decide) rfl ?_
              refine y_Vi 274 (M := mX16_done) (As := [(0, 0), (0, a2), (0, 0), (0, 0), (0, 0)]) (st := []) dX16_shuffle_269 i65 rfl q2147 q2149 qs50 q383 q2150 rfl hmX16_done rfl rfl rfl rfl rfl rfl rfl rfl (k_mono h (fun r9 w10 h => ?_))
              exact y_iret dX16_shuffle_272 rfl h
            · refine x_iconst 1 (z := 1) dX16_shuffle_260 rfl (by decide) rfl ?_
              refine x_goto 4 (q := 265) dX16_shuffle_261 rfl ?_
              refine x_iload_n 2 dX16_shuffle_265 rfl rfl rfl ?_
              refine x_iconst 0 (z := 0) dX16_shuffle_266 rfl (by decide) rfl ?_
              refine x_iconst 0 (z := 0) dX16_shuffle_267 rfl (by decide) rfl ?_
              refine x_iconst 0 (z := 0) dX16_shuffle_268 rfl (by decide) rfl ?_
              refine y_Vi 274 (M := mX16_done) (As := [(0, 1), (0, a2), (0, 0), (0, 0), (0, 0)]) (st := []) dX16_shuffle_269 i65 rfl q2147 q2149 qs50 q383 q2150 rfl hmX16_done rfl rfl rfl rfl rfl rfl rfl rfl (k_mono h (fun r11 w12 h => ?_))
              exact y_iret dX16_shuffle_272 rfl h
        have e := hc
        exact x_tsI (off := 132) (t := 242) dX16_shuffle_110 (by rw [e]; decide) (by rw [e]; decide) (by rw [e]; rfl) rfl key
      · have key : b_Y (d + 1) mX16_shuffle n Q X 273 [(2, 65), (9, 0), (0, a2), (0, a3), (9, 0), (0, a5), (0, s0)] [] w := by
          refine x_aload_n 0 dX16_shuffle_273 rfl rfl rfl rfl rfl ?_
          refine x_iload 5 dX16_shuffle_274 rfl rfl ?_
          refine x_aload_n 0 dX16_shuffle_276 rfl rfl rfl rfl rfl ?_
          refine y_get 56 8 (c := 15) (z := w 65 8) dX16_shuffle_277 i65 rfl in_X16 q1107 rfl rfl rfl rfl rfl ?_
          refine x_icmp_ge (t := 307) 27 dX16_shuffle_280 rfl rfl (b_ite h (fun hc h => ?_) (fun hc h => ?_))
          · refine x_iconst 0 (z := 0) dX16_shuffle_307 rfl (by decide) rfl ?_
            refine x_iload_n 2 dX16_shuffle_308 rfl rfl rfl ?_
            refine x_iload 5 dX16_shuffle_309 rfl rfl ?_
            refine x_iconst 0 (z := 0) dX16_shuffle_311 rfl (by decide) rfl ?_
            refine x_iload 6 dX16_shuffle_312 rfl rfl ?_
            refine y_Vi 274 (M := mX16_done) (As := [(0, 0), (0, a2), (0, a5), (0, 0), (0, s0)]) (st := []) dX16_shuffle_314 i65 rfl q2147 q2149 qs50 q383 q2150 rfl hmX16_done rfl rfl rfl rfl rfl rfl rfl rfl (k_mono h (fun r13 w14 h => ?_))
            exact y_iret dX16_shuffle_317 rfl h
          · refine x_aload_n 0 dX16_shuffle_283 rfl rfl rfl rfl rfl ?_
            refine x_iload 5 dX16_shuffle_284 rfl rfl ?_
            refine x_iload_n 2 dX16_shuffle_286 rfl rfl rfl ?_
            refine x_bipush 34 (z := 34) dX16_shuffle_287 rfl (by decide) rfl ?_
            refine x_icmp_ne (t := 296) 7 dX16_shuffle_289 rfl rfl (b_ite h (fun hc h => ?_) (fun hc h => ?_))
            · refine x_iconst 0 (z := 0) dX16_shuffle_296 rfl (by decide) rfl ?_
              refine y_Vi 281 (M := mX16_turn) (As := [(0, a5), (0, 0)]) (st := [(2, 65)]) dX16_shuffle_297 i65 rfl q2175 q2177 qs55 q383 q2178 rfl hmX16_turn rfl rfl rfl rfl rfl rfl rfl rfl (k_mono h (fun r15 w16 h => ?_))
              refine x_if_eq (t := 307) 7 dX16_shuffle_300 rfl rfl (b_ite h (fun hc h => ?_) (fun hc h => ?_))
              · refine x_iconst 0 (z := 0) dX16_shuffle_307 rfl (by decide) rfl ?_
                refine x_iload_n 2 dX16_shuffle_308 rfl rfl rfl ?_
                refine x_iload 5 dX16_shuffle_309 rfl rfl ?_
                refine x_iconst 0 (z := 0) dX16_shuffle_311 rfl (by decide) rfl ?_
                refine x_iload 6 dX16_shuffle_312 rfl rfl ?_
                refine y_Vi 274 (M := mX16_done) (As := [(0, 0), (0, a2), (0, a5), (0, 0), (0, s0)]) (st := []) dX16_shuffle_314 i65 rfl q2147 q2149 qs50 q383 q2150 rfl hmX16_done rfl rfl rfl rfl rfl rfl rfl rfl (k_mono h (fun r17 w18 h => ?_))
                exact y_iret dX16_shuffle_317 rfl h
              · refine x_iconst 1 (z := 1) dX16_shuffle_303 rfl (by decide) rfl ?_
                refine x_goto 4 (q := 308) dX16_shuffle_304 rfl ?_
                refine x_iload_n 2 dX16_shuffle_308 rfl rfl rfl ?_
                refine x_iload 5 dX16_shuffle_309 rfl rfl ?_
                refine x_iconst 0 (z := 0) dX16_shuffle_311 rfl (by decide) rfl ?_
                refine x_iload 6 dX16_shuffle_312 rfl rfl ?_
                refine y_Vi 274 (M := mX16_done) (As := [(0, 1), (0, a2), (0, a5), (0, 0), (0, s0)]) (st := []) dX16_shuffle_314 i65 rfl q2147 q2149 qs50 q383 q2150 rfl hmX16_done rfl rfl rfl rfl rfl rfl rfl rfl (k_mono h (fun r19 w20 h => ?_))
                exact y_iret dX16_shuffle_317 rfl h
            · refine x_iconst 1 (z := 1) dX16_shuffle_292 rfl (by decide) rfl ?_
              refine x_goto 4 (q := 297) dX16_shuffle_293 rfl ?_
              refine y_Vi 281 (M := mX16_turn) (As := [(0, a5), (0, 1)]) (st := [(2, 65)]) dX16_shuffle_297 i65 rfl q2175 q2177 qs55 q383 q2178 rfl hmX16_turn rfl rfl rfl rfl rfl rfl rfl rfl (k_mono h (fun r21 w22 h => ?_))
              refine x_if_eq (t := 307) 7 dX16_shuffle_300 rfl rfl (b_ite h (fun hc h => ?_) (fun hc h => ?_))
              · refine x_iconst 0 (z := 0) dX16_shuffle_307 rfl (by decide) rfl ?_
                refine x_iload_n 2 dX16_shuffle_308 rfl rfl rfl ?_
                refine x_iload 5 dX16_shuffle_309 rfl rfl ?_
                refine x_iconst 0 (z := 0) dX16_shuffle_311 rfl (by decide) rfl ?_
                refine x_iload 6 dX16_shuffle_312 rfl rfl ?_
                refine y_Vi 274 (M := mX16_done) (As := [(0, 0), (0, a2), (0, a5), (0, 0), (0, s0)]) (st := []) dX16_shuffle_314 i65 rfl q2147 q2149 qs50 q383 q2150 rfl hmX16_done rfl rfl rfl rfl rfl rfl rfl rfl (k_mono h (fun r23 w24 h => ?_))
                exact y_iret dX16_shuffle_317 rfl h
              · refine x_iconst 1 (z := 1) dX16_shuffle_303 rfl (by decide) rfl ?_
                refine x_goto 4 (q := 308) dX16_shuffle_304 rfl ?_
                refine x_iload_n 2 dX16_shuffle_308 rfl rfl rfl ?_
                refine x_iload 5 dX16_shuffle_309 rfl rfl ?_
                refine x_iconst 0 (z := 0) dX16_shuffle_311 rfl (by decide) rfl ?_
                refine x_iload 6 dX16_shuffle_312 rfl rfl ?_
                refine y_Vi 274 (M := mX16_done) (As := [(0, 1), (0, a2), (0, a5), (0, 0), (0, s0)]) (st := []) dX16_shuffle_314 i65 rfl q2147 q2149 qs50 q383 q2150 rfl hmX16_done rfl rfl rfl rfl rfl rfl rfl rfl (k_mono h (fun r25 w26 h => ?_))
                exact y_iret dX16_shuffle_317 rfl h
        exact x_tsO (t := 273) dX16_shuffle_110 (by omega) rfl key
theorem sX16_shuffle_194 {d n : Nat} {w : bW} {Q : Int → bW → Prop} {X : String → bW → Prop} (hn : 66 ≤ n) (a2 : Int) (a6 : Int) (s0 : Int) (h : if s0 ≤ 0 then (b_K d mX16_done [(2, 65), (0, 0), (0, a2), (0, s0), (0, 0), (0, a6)] n w (fun r1 w2 => Q r1 w2) X) else (if w 65 8 < s0 then (b_K d mX16_done [(2, 65), (0, 0), (0, a2), (0, s0), (0, 0), (0, a6)] n w (fun r3 w4 => Q r3 w4) X) else (b_K d mX16_at [(2, 65), (0, b_i (s0 - 1))] n w (fun r5 w6 => b_K d mX16_become [(2, 65), (0, 0), (0, r5)] n w6 (fun r7 w8 => if r7 = 0 then (b_K d mX16_done [(2, 65), (0, 0), (0, a2), (0, s0), (0, 0), (0, a6)] n w8 (fun r9 w10 => Q r9 w10) X) else (b_K d mX16_done [(2, 65), (0, 1), (0, a2), (0, s0), (0, 0), (0, a6)] n w8 (fun r11 w12 => Q r11 w12) X)) X) X))) : LX16_shuffle_194 d n Q X a2 a6 s0 w := by
  have i65 := iz65 (Nat.le_trans (Nat.le_of_ble_eq_true rfl) hn)
  refine x_istore 5 (ls' := [(2, 65), (9, 0), (0, a2), (9, 0), (9, 0), (0, s0), (0, a6)]) dX16_shuffle_194 rfl rfl rfl ?_
  refine x_aload_n 0 dX16_shuffle_196 rfl rfl rfl rfl rfl ?_
  refine x_iload 5 dX16_shuffle_197 rfl rfl ?_
  refine x_if_le (t := 231) 32 dX16_shuffle_199 rfl rfl (b_ite h (fun hc h => ?_) (fun hc h => ?_))
  · refine x_iconst 0 (z := 0) dX16_shuffle_231 rfl (by decide) rfl ?_
    refine x_iload_n 2 dX16_shuffle_232 rfl rfl rfl ?_
    refine x_iload 5 dX16_shuffle_233 rfl rfl ?_
    refine x_iconst 0 (z := 0) dX16_shuffle_235 rfl (by decide) rfl ?_
    refine x_iload 6 dX16_shuffle_236 rfl rfl ?_
    refine y_Vi 274 (M := mX16_done) (As := [(0, 0), (0, a2), (0, s0), (0, 0), (0, a6)]) (st := []) dX16_shuffle_238 i65 rfl q2147 q2149 qs50 q383 q2150 rfl hmX16_done rfl rfl rfl rfl rfl rfl rfl rfl (k_mono h (fun r1 w2 h => ?_))
    exact y_iret dX16_shuffle_241 rfl h
  · refine x_iload 5 dX16_shuffle_202 rfl rfl ?_
    refine x_aload_n 0 dX16_shuffle_204 rfl rfl rfl rfl rfl ?_
    refine y_get 56 8 (c := 15) (z := w 65 8) dX16_shuffle_205 i65 rfl in_X16 q1107 rfl rfl rfl rfl rfl ?_
    refine x_icmp_gt (t := 231) 23 dX16_shuffle_208 rfl rfl (b_ite h (fun hc h => ?_) (fun hc h => ?_))
    · refine x_iconst 0 (z := 0) dX16_shuffle_231 rfl (by decide) rfl ?_
      refine x_iload_n 2 dX16_shuffle_232 rfl rfl rfl ?_
      refine x_iload 5 dX16_shuffle_233 rfl rfl ?_
      refine x_iconst 0 (z := 0) dX16_shuffle_235 rfl (by decide) rfl ?_
      refine x_iload 6 dX16_shuffle_236 rfl rfl ?_
      refine y_Vi 274 (M := mX16_done) (As := [(0, 0), (0, a2), (0, s0), (0, 0), (0, a6)]) (st := []) dX16_shuffle_238 i65 rfl q2147 q2149 qs50 q383 q2150 rfl hmX16_done rfl rfl rfl rfl rfl rfl rfl rfl (k_mono h (fun r3 w4 h => ?_))
      exact y_iret dX16_shuffle_241 rfl h
    · refine x_aload_n 0 dX16_shuffle_211 rfl rfl rfl rfl rfl ?_
      refine x_iconst 0 (z := 0) dX16_shuffle_212 rfl (by decide) rfl ?_
      refine x_aload_n 0 dX16_shuffle_213 rfl rfl rfl rfl rfl ?_
      refine x_iload 5 dX16_shuffle_214 rfl rfl ?_
      refine x_iconst 1 (z := 1) dX16_shuffle_216 rfl (by decide) rfl ?_
      refine x_isub dX16_shuffle_217 rfl ?_
      refine y_Vi 209 (M := mX16_at) (As := [(0, b_i (s0 - 1))]) (st := [(0, 0), (2, 65), (2, 65)]) dX16_shuffle_218 i65 rfl q2171 q2173 qs54 q383 q2174 rfl hmX16_at rfl rfl rfl rfl rfl rfl rfl rfl (k_mono h (fun r5 w6 h => ?_))
      refine y_Vi 278 (M := mX16_become) (As := [(0, 0), (0, r5)]) (st := [(2, 65)]) dX16_shuffle_221 i65 rfl q2143 q2145 qs49 q383 q2146 rfl hmX16_become rfl rfl rfl rfl rfl rfl rfl rfl (k_mono h (fun r7 w8 h => ?_))
      refine x_if_eq (t := 231) 7 dX16_shuffle_224 rfl rfl (b_ite h (fun hc h => ?_) (fun hc h => ?_))
      · refine x_iconst 0 (z := 0) dX16_shuffle_231 rfl (by decide) rfl ?_
        refine x_iload_n 2 dX16_shuffle_232 rfl rfl rfl ?_
        refine x_iload 5 dX16_shuffle_233 rfl rfl ?_
        refine x_iconst 0 (z := 0) dX16_shuffle_235 rfl (by decide) rfl ?_
        refine x_iload 6 dX16_shuffle_236 rfl rfl ?_
        refine y_Vi 274 (M := mX16_done) (As := [(0, 0), (0, a2), (0, s0), (0, 0), (0, a6)]) (st := []) dX16_shuffle_238 i65 rfl q2147 q2149 qs50 q383 q2150 rfl hmX16_done rfl rfl rfl rfl rfl rfl rfl rfl (k_mono h (fun r9 w10 h => ?_))
        exact y_iret dX16_shuffle_241 rfl h
      · refine x_iconst 1 (z := 1) dX16_shuffle_227 rfl (by decide) rfl ?_
        refine x_goto 4 (q := 232) dX16_shuffle_228 rfl ?_
        refine x_iload_n 2 dX16_shuffle_232 rfl rfl rfl ?_
        refine x_iload 5 dX16_shuffle_233 rfl rfl ?_
        refine x_iconst 0 (z := 0) dX16_shuffle_235 rfl (by decide) rfl ?_
        refine x_iload 6 dX16_shuffle_236 rfl rfl ?_
        refine y_Vi 274 (M := mX16_done) (As := [(0, 1), (0, a2), (0, s0), (0, 0), (0, a6)]) (st := []) dX16_shuffle_238 i65 rfl q2147 q2149 qs50 q383 q2150 rfl hmX16_done rfl rfl rfl rfl rfl rfl rfl rfl (k_mono h (fun r11 w12 h => ?_))
        exact y_iret dX16_shuffle_241 rfl h
abbrev LX16_push_15 (d n : Nat) (Q : Int → bW → Prop) (X : String → bW → Prop) (a1 : Int) (s0 : Int) (w : bW) : Prop := b_Y (d + 1) mX16_push n Q X 15 [(2, 65), (0, a1), (9, 0), (9, 0), (9, 0)] [(0, s0)] w
theorem rX16_push {d n : Nat} {w : bW} {Q : Int → bW → Prop} {X : String → bW → Prop} (hn : 143 ≤ n) (a1 : Int) (a2 : Int) (h : if a2 ≠ 2 then (LX16_push_15 d n Q X a1 (-1) w) else (b_K d mX16_typeAt [(2, 65), (0, a1), (0, 0)] n w (fun r1 w2 => LX16_push_15 d n Q X a1 r1 w2) X)) : b_K (d + 1) mX16_push [(2, 65), (0, a1), (0, a2)] n w Q X := by
  have i65 := iz65 (Nat.le_trans (Nat.le_of_ble_eq_true rfl) hn)
  refine k_of (by decide) rfl rfl rfl (ls := [(2, 65), (0, a1), (0, a2), (9, 0), (9, 0)]) rfl ?_
  refine x_iload_n 2 dX16_push_0 rfl rfl rfl ?_
  refine x_iconst 2 (z := 2) dX16_push_1 rfl (by decide) rfl ?_
  refine x_icmp_ne (t := 14) 12 dX16_push_2 rfl rfl (b_ite h (fun hc h => ?_) (fun hc h => ?_))
  · refine x_iconst (-1) (z := (-1)) dX16_push_14 rfl (by decide) rfl ?_
    exact x_fg (fgk (fgk (fgd (fgk (fgk (fg0)))))) h
  · refine x_aload_n 0 dX16_push_5 rfl rfl rfl rfl rfl ?_
    refine x_iload_n 1 dX16_push_6 rfl rfl rfl ?_
    refine x_iconst 0 (z := 0) dX16_push_7 rfl (by decide) rfl ?_
    refine y_Vi 285 (M := mX16_typeAt) (As := [(0, a1), (0, 0)]) (st := []) dX16_push_8 i65 rfl q1928 q1930 qs34 q383 q1931 rfl hmX16_typeAt rfl rfl rfl rfl rfl rfl rfl rfl (k_mono h (fun r1 w2 h => ?_))
    refine x_goto 4 (q := 15) dX16_push_11 rfl ?_
    exact x_fg (fgk (fgk (fgd (fgk (fgk (fg0)))))) h
theorem sX16_push_15 {d n : Nat} {w : bW} {Q : Int → bW → Prop} {X : String → bW → Prop} (hn : 143 ≤ n) (a1 : Int) (s0 : Int) (h : if s0 < 0 then (Q 0 w) else (b_K d mX7_is [(2, 19), (0, s0), (0, 2)] n w (fun r1 w2 => if r1 ≠ 0 then (b_K d mX16_argument [(2, 65), (0, a1), (0, 1)] n (b_up w2 27 5 1) (fun r3 w4 => b_K d mX12_read [(2, 41), (0, r3), (0, s0)] n w4 (fun r5 w6 => if r5 ≠ 0 then (b_K d mX16_become [(2, 65), (0, 0), (0, s0)] n (b_up w6 27 5 0) (fun r7 w8 => b_K d mX16_done [(2, 65), (0, r7), (0, 36), (0, r5), (0, 0), (0, 0)] n w8 (fun r9 w10 => Q r9 w10) X) X) else (Q 0 (b_up w6 27 5 0))) X) X) else (Q 0 w2)) X)) : LX16_push_15 d n Q X a1 s0 w := by
  have i19 := iz19 (Nat.le_trans (Nat.le_of_ble_eq_true rfl) hn)
  have i27 := iz27 (Nat.le_trans (Nat.le_of_ble_eq_true rfl) hn)
  have i41 := iz41 (Nat.le_trans (Nat.le_of_ble_eq_true rfl) hn)
  have i65 := iz65 (Nat.le_trans (Nat.le_of_ble_eq_true rfl) hn)
  refine x_istore_n 3 (ls' := [(2, 65), (0, a1), (9, 0), (0, s0), (9, 0)]) dX16_push_15 rfl rfl rfl rfl ?_
  refine x_iload_n 3 dX16_push_16 rfl rfl rfl ?_
  refine x_if_lt (t := 32) 15 dX16_push_17 rfl rfl (b_ite h (fun hc h => ?_) (fun hc h => ?_))
  · refine x_iconst 0 (z := 0) dX16_push_32 rfl (by decide) rfl ?_
    exact y_iret dX16_push_33 rfl h
  · refine x_aload_n 0 dX16_push_20 rfl rfl rfl rfl rfl ?_
    refine y_getF 32 1 (c := 15) (z := 19) dX16_push_21 i65 rfl in_X16 q1100 rfl rfl rfl fn_65_1 (Nat.le_trans (Nat.le_of_ble_eq_true rfl) hn) rfl ?_
    refine x_iload_n 3 dX16_push_24 rfl rfl rfl ?_
    refine x_iconst 2 (z := 2) dX16_push_25 rfl (by decide) rfl ?_
    refine y_Vi 120 (M := mX7_is) (As := [(0, s0), (0, 2)]) (st := []) dX16_push_26 i19 rfl q1866 q744 q745 q374 q746 rfl hmX7_is rfl rfl rfl rfl rfl rfl rfl rfl (k_mono h (fun r1 w2 h => ?_))
    refine x_if_ne (t := 34) 5 dX16_push_29 rfl rfl (b_ite h (fun hc h => ?_) (fun hc h => ?_))
    · refine x_aload_n 0 dX16_push_34 rfl rfl rfl rfl rfl ?_
      refine y_getF 48 5 (c := 15) (z := 27) dX16_push_35 i65 rfl in_X16 q1104 rfl rfl rfl fn_65_5 (Nat.le_trans (Nat.le_of_ble_eq_true rfl) hn) rfl ?_
      refine x_iconst 1 (z := 1) dX16_push_38 rfl (by decide) rfl ?_
      refine x_put 288 5 (c := 7) dX16_push_39 i27 rfl in_X8 tyX8_ok nmX8 q810 rfl rfl rfl (Or.inl rfl) (Or.inr (Or.inl ⟨rfl, rfl, by decide⟩)) rfl ?_
      refine x_aload_n 0 dX16_push_42 rfl rfl rfl rfl rfl ?_
      refine y_getF 44 4 (c := 15) (z := 41) dX16_push_43 i65 rfl in_X16 q1103 rfl rfl rfl fn_65_4 (Nat.le_trans (Nat.le_of_ble_eq_true rfl) hn) rfl ?_
      refine x_aload_n 0 dX16_push_46 rfl rfl rfl rfl rfl ?_
      refine x_iload_n 1 dX16_push_47 rfl rfl rfl ?_
      refine x_iconst 1 (z := 1) dX16_push_48 rfl (by decide) rfl ?_
      refine y_Vi 226 (M := mX16_argument) (As := [(0, a1), (0, 1)]) (st := [(2, 41)]) dX16_push_49 i65 rfl q1932 q1934 qs35 q383 q1935 rfl hmX16_argument rfl rfl rfl rfl rfl rfl rfl rfl (k_mono h (fun r3 w4 h => ?_))
      refine x_iload_n 3 dX16_push_52 rfl rfl rfl ?_
      refine y_Vi 293 (M := mX12_read) (As := [(0, r3), (0, s0)]) (st := []) dX16_push_53 i41 rfl q1936 q1937 q1938 q379 q1939 rfl hmX12_read rfl rfl rfl rfl rfl rfl rfl rfl (k_mono h (fun r5 w6 h => ?_))
      refine x_istore 4 (ls' := [(2, 65), (0, a1), (9, 0), (0, s0), (0, r5)]) dX16_push_56 rfl rfl rfl ?_
      refine x_aload_n 0 dX16_push_58 rfl rfl rfl rfl rfl ?_
      refine y_getF 48 5 (c := 15) (z := 27) dX16_push_59 i65 rfl in_X16 q1104 rfl rfl rfl fn_65_5 (Nat.le_trans (Nat.le_of_ble_eq_true rfl) hn) rfl ?_
      refine x_iconst 0 (z := 0) dX16_push_62 rfl (by decide) rfl ?_
      refine x_put 288 5 (c := 7) dX16_push_63 i27 rfl in_X8 tyX8_ok nmX8 q810 rfl rfl rfl (Or.inl rfl) (Or.inr (Or.inl ⟨rfl, rfl, by decide⟩)) rfl ?_
      refine x_iload 4 dX16_push_66 rfl rfl ?_
      refine x_if_ne (t := 75) 7 dX16_push_68 rfl rfl (b_ite h (fun hc h => ?_) (fun hc h => ?_))
      · refine x_aload_n 0 dX16_push_75 rfl rfl rfl rfl rfl ?_
        refine x_aload_n 0 dX16_push_76 rfl rfl rfl rfl rfl ?_
        refine x_iconst 0 (z := 0) dX16_push_77 rfl (by decide) rfl ?_
        refine x_iload_n 3 dX16_push_78 rfl rfl rfl ?_
        refine y_Vi 278 (M := mX16_become) (As := [(0, 0), (0, s0)]) (st := [(2, 65)]) dX16_push_79 i65 rfl q2143 q2145 qs49 q383 q2146 rfl hmX16_become rfl rfl rfl rfl rfl rfl rfl rfl (k_mono h (fun r7 w8 h => ?_))
        refine x_bipush 36 (z := 36) dX16_push_82 rfl (by decide) rfl ?_
        refine x_iload 4 dX16_push_84 rfl rfl ?_
        refine x_iconst 0 (z := 0) dX16_push_86 rfl (by decide) rfl ?_
        refine x_iconst 0 (z := 0) dX16_push_87 rfl (by decide) rfl ?_
        refine y_Vi 274 (M := mX16_done) (As := [(0, r7), (0, 36), (0, r5), (0, 0), (0, 0)]) (st := []) dX16_push_88 i65 rfl q2147 q2149 qs50 q383 q2150 rfl hmX16_done rfl rfl rfl rfl rfl rfl rfl rfl (k_mono h (fun r9 w10 h => ?_))
        exact y_iret dX16_push_91 rfl h
      · refine x_iconst 0 (z := 0) dX16_push_71 rfl (by decide) rfl ?_
        refine x_goto 19 (q := 91) dX16_push_72 rfl ?_
        exact y_iret dX16_push_91 rfl h
    · refine x_iconst 0 (z := 0) dX16_push_32 rfl (by decide) rfl ?_
      exact y_iret dX16_push_33 rfl h
theorem rX16_typeAt {d n : Nat} {w : bW} {Q : Int → bW → Prop} {X : String → bW → Prop} (hn : 143 ≤ n) (a1 : Int) (a2 : Int) (h : b_K d mX16_argument [(2, 65), (0, a1), (0, a2)] n w (fun r1 w2 => b_K d mX7_of [(2, 19), (2, 6), (0, r1)] n w2 (fun r3 w4 => Q r3 w4) X) X) : b_K (d + 1) mX16_typeAt [(2, 65), (0, a1), (0, a2)] n w Q X := by
  have i19 := iz19 (Nat.le_trans (Nat.le_of_ble_eq_true rfl) hn)
  have i65 := iz65 (Nat.le_trans (Nat.le_of_ble_eq_true rfl) hn)
  refine k_of (by decide) rfl rfl rfl (ls := [(2, 65), (0, a1), (0, a2)]) rfl ?_
  refine x_aload_n 0 dX16_typeAt_0 rfl rfl rfl rfl rfl ?_
  refine y_getF 32 1 (c := 15) (z := 19) dX16_typeAt_1 i65 rfl in_X16 q1100 rfl rfl rfl fn_65_1 (Nat.le_trans (Nat.le_of_ble_eq_true rfl) hn) rfl ?_
  refine x_aload_n 0 dX16_typeAt_4 rfl rfl rfl rfl rfl ?_
  refine y_getF 28 0 (c := 15) (z := 6) dX16_typeAt_5 i65 rfl in_X16 q1099 rfl rfl rfl fn_65_0 (Nat.le_trans (Nat.le_of_ble_eq_true rfl) hn) rfl ?_
  refine x_aload_n 0 dX16_typeAt_8 rfl rfl rfl rfl rfl ?_
  refine x_iload_n 1 dX16_typeAt_9 rfl rfl rfl ?_
  refine x_iload_n 2 dX16_typeAt_10 rfl rfl rfl ?_
  refine y_Vi 226 (M := mX16_argument) (As := [(0, a1), (0, a2)]) (st := [(2, 6), (2, 19)]) dX16_typeAt_11 i65 rfl q1932 q1934 qs35 q383 q1935 rfl hmX16_argument rfl rfl rfl rfl rfl rfl rfl rfl (k_mono h (fun r1 w2 h => ?_))
  refine y_Vi 110 (M := mX7_of) (As := [(2, 6), (0, r1)]) (st := []) dX16_typeAt_14 i19 rfl q1849 q1850 q1851 q374 q1852 rfl hmX7_of rfl rfl rfl rfl rfl rfl rfl rfl (k_mono h (fun r3 w4 h => ?_))
  exact y_iret dX16_typeAt_17 rfl h
theorem rX16_argument {d n : Nat} {w : bW} {Q : Int → bW → Prop} {X : String → bW → Prop} (hn : 143 ≤ n) (a1 : Int) (a2 : Int) (h : b_K d mX4_child [(2, 6), (0, a1), (0, a2)] n w (fun r1 w2 => Q r1 w2) X) : b_K (d + 1) mX16_argument [(2, 65), (0, a1), (0, a2)] n w Q X := by
  have i6 := iz6 (Nat.le_trans (Nat.le_of_ble_eq_true rfl) hn)
  have i65 := iz65 (Nat.le_trans (Nat.le_of_ble_eq_true rfl) hn)
  refine k_of (by decide) rfl rfl rfl (ls := [(2, 65), (0, a1), (0, a2)]) rfl ?_
  refine x_aload_n 0 dX16_argument_0 rfl rfl rfl rfl rfl ?_
  refine y_getF 28 0 (c := 15) (z := 6) dX16_argument_1 i65 rfl in_X16 q1099 rfl rfl rfl fn_65_0 (Nat.le_trans (Nat.le_of_ble_eq_true rfl) hn) rfl ?_
  refine x_iload_n 1 dX16_argument_4 rfl rfl rfl ?_
  refine x_iload_n 2 dX16_argument_5 rfl rfl rfl ?_
  refine y_Vi 69 (M := mX4_child) (As := [(0, a1), (0, a2)]) (st := []) dX16_argument_6 i6 rfl q1829 q1830 q1831 q371 q1832 rfl hmX4_child rfl rfl rfl rfl rfl rfl rfl rfl (k_mono h (fun r1 w2 h => ?_))
  exact y_iret dX16_argument_9 rfl h
theorem rX16_become {d n : Nat} {w : bW} {Q : Int → bW → Prop} {X : String → bW → Prop} (hn : 143 ≤ n) (a1 : Int) (a2 : Int) (h : if a2 < 0 then (Q 0 (b_up w 65 8 (b_i ((w 65 8) - a1)))) else (if b_i ((w 65 8) - a1) ≠ 300 then ((0 ≤ b_i ((w 65 8) - a1) ∧ b_i ((w 65 8) - a1) < 310) ∧ (Q 1 (b_up (b_up (b_up w 65 8 (b_i ((w 65 8) - a1))) 65 8 (b_i ((b_i ((w 65 8) - a1)) + 1))) 68 (b_i ((w 65 8) - a1)) a2))) else (Q 0 (b_up w 65 8 (b_i ((w 65 8) - a1)))))) : b_K (d + 1) mX16_become [(2, 65), (0, a1), (0, a2)] n w Q X := by
  have i65 := iz65 (Nat.le_trans (Nat.le_of_ble_eq_true rfl) hn)
  have i68 := iz68 (Nat.le_trans (Nat.le_of_ble_eq_true rfl) hn)
  refine k_of (by decide) rfl rfl rfl (ls := [(2, 65), (0, a1), (0, a2)]) rfl ?_
  refine x_aload_n 0 dX16_become_0 rfl rfl rfl rfl rfl ?_
  refine x_dup dX16_become_1 rfl rfl ?_
  refine y_get 56 8 (c := 15) (z := w 65 8) dX16_become_2 i65 rfl in_X16 q1107 rfl rfl rfl rfl rfl ?_
  refine x_iload_n 1 dX16_become_5 rfl rfl rfl ?_
  refine x_isub dX16_become_6 rfl ?_
  refine x_put 56 8 (c := 15) dX16_become_7 i65 rfl in_X16 tyX16_ok nmX16 q1107 rfl rfl rfl (Or.inl rfl) (Or.inl ⟨rfl, rfl⟩) rfl ?_
  refine x_iload_n 2 dX16_become_10 rfl rfl rfl ?_
  refine x_if_lt (t := 24) 13 dX16_become_11 rfl rfl (b_ite h (fun hc h => ?_) (fun hc h => ?_))
  · refine x_iconst 0 (z := 0) dX16_become_24 rfl (by decide) rfl ?_
    exact y_zret dX16_become_25 rfl (by decide) h
  · refine x_aload_n 0 dX16_become_14 rfl rfl rfl rfl rfl ?_
    refine y_get 56 8 (c := 15) (z := b_i ((w 65 8) - a1)) dX16_become_15 i65 rfl in_X16 q1107 rfl rfl rfl rfl rfl ?_
    refine x_sipush 300 (z := 300) dX16_become_18 rfl (by decide) rfl ?_
    refine x_icmp_ne (t := 26) 5 dX16_become_21 rfl rfl (b_ite h (fun hc h => ?_) (fun hc h => ?_))
    · refine x_aload_n 0 dX16_become_26 rfl rfl rfl rfl rfl ?_
      refine y_getF 20 7 (c := 15) (z := 68) dX16_become_27 i65 rfl in_X16 q1106 rfl rfl rfl fn_65_7 (Nat.le_trans (Nat.le_of_ble_eq_true rfl) hn) rfl ?_
      refine x_aload_n 0 dX16_become_30 rfl rfl rfl rfl rfl ?_
      refine x_dup dX16_become_31 rfl rfl ?_
      refine y_get 56 8 (c := 15) (z := b_i ((w 65 8) - a1)) dX16_become_32 i65 rfl in_X16 q1107 rfl rfl rfl rfl rfl ?_
      refine x_dup_x1 dX16_become_35 rfl rfl rfl ?_
      refine x_iconst 1 (z := 1) dX16_become_36 rfl (by decide) rfl ?_
      refine x_iadd dX16_become_37 rfl ?_
      refine x_put 56 8 (c := 15) dX16_become_38 i65 rfl in_X16 tyX16_ok nmX16 q1107 rfl rfl rfl (Or.inl rfl) (Or.inl ⟨rfl, rfl⟩) rfl ?_
      refine x_iload_n 2 dX16_become_41 rfl rfl rfl ?_
      obtain ⟨e1, h⟩ := h
      refine y_iast (x' := a2) dX16_become_42 ⟨310, i68, e1⟩ rfl rfl ?_
      refine x_iconst 1 (z := 1) dX16_become_43 rfl (by decide) rfl ?_
      exact y_zret dX16_become_44 rfl (by decide) h
    · refine x_iconst 0 (z := 0) dX16_become_24 rfl (by decide) rfl ?_
      exact y_zret dX16_become_25 rfl (by decide) h
theorem rX16_done {d n : Nat} {w : bW} {Q : Int → bW → Prop} {X : String → bW → Prop} (hn : 143 ≤ n) (a1 : Int) (a2 : Int) (a3 : Int) (a4 : Int) (a5 : Int) (h : if a1 = 0 then (Q 0 w) else (b_K d mX15_instruction [(2, 53), (0, a2), (0, a3), (0, a4), (0, a5)] n w (fun r1 w2 => Q r1 w2) X)) : b_K (d + 1) mX16_done [(2, 65), (0, a1), (0, a2), (0, a3), (0, a4), (0, a5)] n w Q X := by
  have i53 := iz53 (Nat.le_trans (Nat.le_of_ble_eq_true rfl) hn)
  have i65 := iz65 (Nat.le_trans (Nat.le_of_ble_eq_true rfl) hn)
  refine k_of (by decide) rfl rfl rfl (ls := [(2, 65), (0, a1), (0, a2), (0, a3), (0, a4), (0, a5)]) rfl ?_
  refine x_iload_n 1 dX16_done_0 rfl rfl rfl ?_
  refine x_if_eq (t := 20) 19 dX16_done_1 rfl rfl (b_ite h (fun hc h => ?_) (fun hc h => ?_))
  · refine x_iconst 0 (z := 0) dX16_done_20 rfl (by decide) rfl ?_
    exact y_iret dX16_done_21 rfl h
  · refine x_aload_n 0 dX16_done_4 rfl rfl rfl rfl rfl ?_
    refine y_getF 40 3 (c := 15) (z := 53) dX16_done_5 i65 rfl in_X16 q1102 rfl rfl rfl fn_65_3 (Nat.le_trans (Nat.le_of_ble_eq_true rfl) hn) rfl ?_
    refine x_iload_n 2 dX16_done_8 rfl rfl rfl ?_
    refine x_iload_n 3 dX16_done_9 rfl rfl rfl ?_
    refine x_iload 4 dX16_done_10 rfl rfl ?_
    refine x_iload 5 dX16_done_12 rfl rfl ?_
    refine y_Vi 262 (M := mX15_instruction) (As := [(0, a2), (0, a3), (0, a4), (0, a5)]) (st := []) dX16_done_14 i53 rfl q2151 q2152 q2153 q382 q2154 rfl hmX15_instruction rfl rfl rfl rfl rfl rfl rfl rfl (k_mono h (fun r1 w2 h => ?_))
    refine x_goto 4 (q := 21) dX16_done_17 rfl ?_
    exact y_iret dX16_done_21 rfl h
abbrev LX16_dip_24 (d n : Nat) (Q : Int → bW → Prop) (X : String → bW → Prop) (a1 : Int) (a2 : Int) (s0 : Int) (w : bW) : Prop := b_Y (d + 1) mX16_dip n Q X 24 [(2, 65), (0, a1), (0, a2), (9, 0), (9, 0), (9, 0)] [(0, s0)] w
theorem rX16_dip {d n : Nat} {w : bW} {Q : Int → bW → Prop} {X : String → bW → Prop} (hn : 143 ≤ n) (a1 : Int) (a2 : Int) (h : if a2 ≠ 1 then (if a2 ≠ 2 then (LX16_dip_24 d n Q X a1 a2 (-1) w) else (b_K d mX16_told [(2, 65), (0, a1), (0, 0)] n w (fun r1 w2 => LX16_dip_24 d n Q X a1 a2 r1 w2) X)) else (LX16_dip_24 d n Q X a1 a2 1 w)) : b_K (d + 1) mX16_dip [(2, 65), (0, a1), (0, a2)] n w Q X := by
  have i65 := iz65 (Nat.le_trans (Nat.le_of_ble_eq_true rfl) hn)
  refine k_of (by decide) rfl rfl rfl (ls := [(2, 65), (0, a1), (0, a2), (9, 0), (9, 0), (9, 0)]) rfl ?_
  refine x_iload_n 2 dX16_dip_0 rfl rfl rfl ?_
  refine x_iconst 1 (z := 1) dX16_dip_1 rfl (by decide) rfl ?_
  refine x_icmp_ne (t := 9) 7 dX16_dip_2 rfl rfl (b_ite h (fun hc h => ?_) (fun hc h => ?_))
  · refine x_iload_n 2 dX16_dip_9 rfl rfl rfl ?_
    refine x_iconst 2 (z := 2) dX16_dip_10 rfl (by decide) rfl ?_
    refine x_icmp_ne (t := 23) 12 dX16_dip_11 rfl rfl (b_ite h (fun hc h => ?_) (fun hc h => ?_))
    · refine x_iconst (-1) (z := (-1)) dX16_dip_23 rfl (by decide) rfl ?_
      exact x_fg (fgk (fgk (fgk (fgk (fgk (fgk (fg0))))))) h
    · refine x_aload_n 0 dX16_dip_14 rfl rfl rfl rfl rfl ?_
      refine x_iload_n 1 dX16_dip_15 rfl rfl rfl ?_
      refine x_iconst 0 (z := 0) dX16_dip_16 rfl (by decide) rfl ?_
      refine y_Vi 271 (M := mX16_told) (As := [(0, a1), (0, 0)]) (st := []) dX16_dip_17 i65 rfl q2159 q2161 qs52 q383 q2162 rfl hmX16_told rfl rfl rfl rfl rfl rfl rfl rfl (k_mono h (fun r1 w2 h => ?_))
      refine x_goto 4 (q := 24) dX16_dip_20 rfl ?_
      exact x_fg (fgk (fgk (fgk (fgk (fgk (fgk (fg0))))))) h
  · refine x_iconst 1 (z := 1) dX16_dip_5 rfl (by decide) rfl ?_
    refine x_goto 18 (q := 24) dX16_dip_6 rfl ?_
    exact x_fg (fgk (fgk (fgk (fgk (fgk (fgk (fg0))))))) h
theorem sX16_dip_24 {d n : Nat} {w : bW} {Q : Int → bW → Prop} {X : String → bW → Prop} (hn : 143 ≤ n) (a1 : Int) (a2 : Int) (s0 : Int) (h : if s0 < 0 then (Q 0 w) else (if w 65 8 < s0 then (Q 0 w) else (b_K d mX16_isCode [(2, 65), (0, a1), (0, b_i (a2 - 1))] n w (fun r1 w2 => if r1 ≠ 0 then (((0 : Int) ≤ b_i ((w2 65 8) - s0) ∧ (0 : Int) ≤ w2 65 10 ∧ (0 : Int) ≤ s0 ∧ (b_i ((w2 65 8) - s0) : Int) + s0 ≤ 310 ∧ (w2 65 10 : Int) + s0 ≤ 48000) ∧ (b_K d mX16_argument [(2, 65), (0, a1), (0, b_i (a2 - 1))] n (b_up (b_cp (b_up w2 65 8 (b_i ((w2 65 8) - s0))) 68 (b_i ((w2 65 8) - s0)) 69 (w2 65 10) s0) 65 10 (b_i ((w2 65 10) + s0))) (fun r4 w5 => b_K d mX16_code [(2, 65), (0, r4)] n w5 (fun r6 w7 => if w7 65 15 < 0 then (if w7 65 11 ≠ 0 then (Q 0 (b_up w7 65 10 (w2 65 10))) else (if b_i ((w7 65 8) + s0) ≤ 300 then (((0 : Int) ≤ w2 65 10 ∧ (0 : Int) ≤ w7 65 8 ∧ (0 : Int) ≤ s0 ∧ (w2 65 10 : Int) + s0 ≤ 48000 ∧ (w7 65 8 : Int) + s0 ≤ 310) ∧ (if a2 ≠ 2 then (b_K d mX16_done [(2, 65), (0, 1), (0, 37), (0, r6), (0, s0), (0, 0)] n (b_up (b_cp (b_up w7 65 10 (w2 65 10)) 69 (w2 65 10) 68 (w7 65 8) s0) 65 8 (b_i ((w7 65 8) + s0))) (fun r9 w10 => Q r9 w10) X) else (b_K d mX16_done [(2, 65), (0, 1), (0, 37), (0, r6), (0, s0), (0, b_i (5 * s0))] n (b_up (b_cp (b_up w7 65 10 (w2 65 10)) 69 (w2 65 10) 68 (w7 65 8) s0) 65 8 (b_i ((w7 65 8) + s0))) (fun r11 w12 => Q r11 w12) X))) else (Q 0 (b_up w7 65 10 (w2 65 10))))) else (Q 0 w7)) X) X)) else (Q 0 w2)) X))) : LX16_dip_24 d n Q X a1 a2 s0 w := by
  have i65 := iz65 (Nat.le_trans (Nat.le_of_ble_eq_true rfl) hn)
  have i68 := iz68 (Nat.le_trans (Nat.le_of_ble_eq_true rfl) hn)
  have i69 := iz69 (Nat.le_trans (Nat.le_of_ble_eq_true rfl) hn)
  refine x_istore_n 3 (ls' := [(2, 65), (0, a1), (0, a2), (0, s0), (9, 0), (9, 0)]) dX16_dip_24 rfl rfl rfl rfl ?_
  refine x_iload_n 3 dX16_dip_25 rfl rfl rfl ?_
  refine x_if_lt (t := 48) 22 dX16_dip_26 rfl rfl (b_ite h (fun hc h => ?_) (fun hc h => ?_))
  · refine x_iconst 0 (z := 0) dX16_dip_48 rfl (by decide) rfl ?_
    exact y_iret dX16_dip_49 rfl h
  · refine x_iload_n 3 dX16_dip_29 rfl rfl rfl ?_
    refine x_aload_n 0 dX16_dip_30 rfl rfl rfl rfl rfl ?_
    refine y_get 56 8 (c := 15) (z := w 65 8) dX16_dip_31 i65 rfl in_X16 q1107 rfl rfl rfl rfl rfl ?_
    refine x_icmp_gt (t := 48) 14 dX16_dip_34 rfl rfl (b_ite h (fun hc h => ?_) (fun hc h => ?_))
    · refine x_iconst 0 (z := 0) dX16_dip_48 rfl (by decide) rfl ?_
      exact y_iret dX16_dip_49 rfl h
    · refine x_aload_n 0 dX16_dip_37 rfl rfl rfl rfl rfl ?_
      refine x_iload_n 1 dX16_dip_38 rfl rfl rfl ?_
      refine x_iload_n 2 dX16_dip_39 rfl rfl rfl ?_
      refine x_iconst 1 (z := 1) dX16_dip_40 rfl (by decide) rfl ?_
      refine x_isub dX16_dip_41 rfl ?_
      refine y_Vi 298 (M := mX16_isCode) (As := [(0, a1), (0, b_i (a2 - 1))]) (st := []) dX16_dip_42 i65 rfl q2166 q2168 qs53 q383 q2169 rfl hmX16_isCode rfl rfl rfl rfl rfl rfl rfl rfl (k_mono h (fun r1 w2 h => ?_))
      refine x_if_ne (t := 50) 5 dX16_dip_45 rfl rfl (b_ite h (fun hc h => ?_) (fun hc h => ?_))
      · refine x_aload_n 0 dX16_dip_50 rfl rfl rfl rfl rfl ?_
        refine y_get 59 10 (c := 15) (z := w2 65 10) dX16_dip_51 i65 rfl in_X16 q1109 rfl rfl rfl rfl rfl ?_
        refine x_istore 4 (ls' := [(2, 65), (0, a1), (0, a2), (0, s0), (0, w2 65 10), (9, 0)]) dX16_dip_54 rfl rfl rfl ?_
        refine x_aload_n 0 dX16_dip_56 rfl rfl rfl rfl rfl ?_
        refine x_dup dX16_dip_57 rfl rfl ?_
        refine y_get 56 8 (c := 15) (z := w2 65 8) dX16_dip_58 i65 rfl in_X16 q1107 rfl rfl rfl rfl rfl ?_
        refine x_iload_n 3 dX16_dip_61 rfl rfl rfl ?_
        refine x_isub dX16_dip_62 rfl ?_
        refine x_put 56 8 (c := 15) dX16_dip_63 i65 rfl in_X16 tyX16_ok nmX16 q1107 rfl rfl rfl (Or.inl rfl) (Or.inl ⟨rfl, rfl⟩) rfl ?_
        refine x_aload_n 0 dX16_dip_66 rfl rfl rfl rfl rfl ?_
        refine y_getF 20 7 (c := 15) (z := 68) dX16_dip_67 i65 rfl in_X16 q1106 rfl rfl rfl fn_65_7 (Nat.le_trans (Nat.le_of_ble_eq_true rfl) hn) rfl ?_
        refine x_aload_n 0 dX16_dip_70 rfl rfl rfl rfl rfl ?_
        refine y_get 56 8 (c := 15) (z := b_i ((w2 65 8) - s0)) dX16_dip_71 i65 rfl in_X16 q1107 rfl rfl rfl rfl rfl ?_
        refine x_aload_n 0 dX16_dip_74 rfl rfl rfl rfl rfl ?_
        refine y_getF 25 9 (c := 15) (z := 69) dX16_dip_75 i65 rfl in_X16 q1108 rfl rfl rfl fn_65_9 (Nat.le_trans (Nat.le_of_ble_eq_true rfl) hn) rfl ?_
        refine x_iload 4 dX16_dip_78 rfl rfl ?_
        refine x_iload_n 3 dX16_dip_80 rfl rfl rfl ?_
        obtain ⟨e3, h⟩ := h
        refine x_copyi 212 dX16_dip_81 q2170 q1893 q1892 q400 i68 i69 (by decide) (by decide) e3.1 e3.2.1 e3.2.2.1 e3.2.2.2.1 e3.2.2.2.2 (Nat.le_add_left 1 d) rfl rfl ?_
        refine x_aload_n 0 dX16_dip_84 rfl rfl rfl rfl rfl ?_
        refine x_dup dX16_dip_85 rfl rfl ?_
        refine y_get 59 10 (c := 15) (z := w2 65 10) dX16_dip_86 i65 rfl in_X16 q1109 rfl rfl rfl rfl rfl ?_
        refine x_iload_n 3 dX16_dip_89 rfl rfl rfl ?_
        refine x_iadd dX16_dip_90 rfl ?_
        refine x_put 59 10 (c := 15) dX16_dip_91 i65 rfl in_X16 tyX16_ok nmX16 q1109 rfl rfl rfl (Or.inl rfl) (Or.inl ⟨rfl, rfl⟩) rfl ?_
        refine x_aload_n 0 dX16_dip_94 rfl rfl rfl rfl rfl ?_
        refine x_aload_n 0 dX16_dip_95 rfl rfl rfl rfl rfl ?_
        refine x_iload_n 1 dX16_dip_96 rfl rfl rfl ?_
        refine x_iload_n 2 dX16_dip_97 rfl rfl rfl ?_
        refine x_iconst 1 (z := 1) dX16_dip_98 rfl (by decide) rfl ?_
        refine x_isub dX16_dip_99 rfl ?_
        refine y_Vi 226 (M := mX16_argument) (As := [(0, a1), (0, b_i (a2 - 1))]) (st := [(2, 65)]) dX16_dip_100 i65 rfl q1932 q1934 qs35 q383 q1935 rfl hmX16_argument rfl rfl rfl rfl rfl rfl rfl rfl (k_mono h (fun r4 w5 h => ?_))
        refine y_Vi 206 (M := mX16_code) (As := [(0, r4)]) (st := []) dX16_dip_103 i65 rfl q1912 q1914 qs30 q383 q1915 rfl hmX16_code rfl rfl rfl rfl rfl rfl rfl rfl (k_mono h (fun r6 w7 h => ?_))
        refine x_istore 5 (ls' := [(2, 65), (0, a1), (0, a2), (0, s0), (0, w2 65 10), (0, r6)]) dX16_dip_106 rfl rfl rfl ?_
        refine x_aload_n 0 dX16_dip_108 rfl rfl rfl rfl rfl ?_
        refine y_get 52 15 (c := 15) (z := w7 65 15) dX16_dip_109 i65 rfl in_X16 q1114 rfl rfl rfl rfl rfl ?_
        refine x_if_lt (t := 117) 5 dX16_dip_112 rfl rfl (b_ite h (fun hc h => ?_) (fun hc h => ?_))
        · refine x_aload_n 0 dX16_dip_117 rfl rfl rfl rfl rfl ?_
          refine x_iload 4 dX16_dip_118 rfl rfl ?_
          refine x_put 59 10 (c := 15) dX16_dip_120 i65 rfl in_X16 tyX16_ok nmX16 q1109 rfl rfl rfl (Or.inl rfl) (Or.inl ⟨rfl, rfl⟩) rfl ?_
          refine x_aload_n 0 dX16_dip_123 rfl rfl rfl rfl rfl ?_
          refine y_get 199 11 (c := 15) (z := w7 65 11) dX16_dip_124 i65 rfl in_X16 q1110 rfl rfl rfl rfl rfl ?_
          refine x_if_ne (t := 142) 15 dX16_dip_127 rfl rfl (b_ite h (fun hc h => ?_) (fun hc h => ?_))
          · refine x_iconst 0 (z := 0) dX16_dip_142 rfl (by decide) rfl ?_
            exact y_iret dX16_dip_143 rfl h
          · refine x_aload_n 0 dX16_dip_130 rfl rfl rfl rfl rfl ?_
            refine y_get 56 8 (c := 15) (z := w7 65 8) dX16_dip_131 i65 rfl in_X16 q1107 rfl rfl rfl rfl rfl ?_
            refine x_iload_n 3 dX16_dip_134 rfl rfl rfl ?_
            refine x_iadd dX16_dip_135 rfl ?_
            refine x_sipush 300 (z := 300) dX16_dip_136 rfl (by decide) rfl ?_
            refine x_icmp_le (t := 144) 5 dX16_dip_139 rfl rfl (b_ite h (fun hc h => ?_) (fun hc h => ?_))
            · refine x_aload_n 0 dX16_dip_144 rfl rfl rfl rfl rfl ?_
              refine y_getF 25 9 (c := 15) (z := 69) dX16_dip_145 i65 rfl in_X16 q1108 rfl rfl rfl fn_65_9 (Nat.le_trans (Nat.le_of_ble_eq_true rfl) hn) rfl ?_
              refine x_iload 4 dX16_dip_148 rfl rfl ?_
              refine x_aload_n 0 dX16_dip_150 rfl rfl rfl rfl rfl ?_
              refine y_getF 20 7 (c := 15) (z := 68) dX16_dip_151 i65 rfl in_X16 q1106 rfl rfl rfl fn_65_7 (Nat.le_trans (Nat.le_of_ble_eq_true rfl) hn) rfl ?_
              refine x_aload_n 0 dX16_dip_154 rfl rfl rfl rfl rfl ?_
              refine y_get 56 8 (c := 15) (z := w7 65 8) dX16_dip_155 i65 rfl in_X16 q1107 rfl rfl rfl rfl rfl ?_
              refine x_iload_n 3 dX16_dip_158 rfl rfl rfl ?_
              obtain ⟨e8, h⟩ := h
              refine x_copyi 212 dX16_dip_159 q2170 q1893 q1892 q400 i69 i68 (by decide) (by decide) e8.1 e8.2.1 e8.2.2.1 e8.2.2.2.1 e8.2.2.2.2 (Nat.le_add_left 1 d) rfl rfl ?_
              refine x_aload_n 0 dX16_dip_162 rfl rfl rfl rfl rfl ?_
              refine x_dup dX16_dip_163 rfl rfl ?_
              refine y_get 56 8 (c := 15) (z := w7 65 8) dX16_dip_164 i65 rfl in_X16 q1107 rfl rfl rfl rfl rfl ?_
              refine x_iload_n 3 dX16_dip_167 rfl rfl rfl ?_
              refine x_iadd dX16_dip_168 rfl ?_
              refine x_put 56 8 (c := 15) dX16_dip_169 i65 rfl in_X16 tyX16_ok nmX16 q1107 rfl rfl rfl (Or.inl rfl) (Or.inl ⟨rfl, rfl⟩) rfl ?_
              refine x_aload_n 0 dX16_dip_172 rfl rfl rfl rfl rfl ?_
              refine x_iconst 1 (z := 1) dX16_dip_173 rfl (by decide) rfl ?_
              refine x_bipush 37 (z := 37) dX16_dip_174 rfl (by decide) rfl ?_
              refine x_iload 5 dX16_dip_176 rfl rfl ?_
              refine x_iload_n 3 dX16_dip_178 rfl rfl rfl ?_
              refine x_iload_n 2 dX16_dip_179 rfl rfl rfl ?_
              refine x_iconst 2 (z := 2) dX16_dip_180 rfl (by decide) rfl ?_
              refine x_icmp_ne (t := 190) 9 dX16_dip_181 rfl rfl (b_ite h (fun hc h => ?_) (fun hc h => ?_))
              · refine x_iconst 0 (z := 0) dX16_dip_190 rfl (by decide) rfl ?_
                refine y_Vi 274 (M := mX16_done) (As := [(0, 1), (0, 37), (0, r6), (0, s0), (0, 0)]) (st := []) dX16_dip_191 i65 rfl q2147 q2149 qs50 q383 q2150 rfl hmX16_done rfl rfl rfl rfl rfl rfl rfl rfl (k_mono h (fun r9 w10 h => ?_))
                exact y_iret dX16_dip_194 rfl h
              · refine x_iconst 5 (z := 5) dX16_dip_184 rfl (by decide) rfl ?_
                refine x_iload_n 3 dX16_dip_185 rfl rfl rfl ?_
                refine x_imul dX16_dip_186 rfl ?_
                refine x_goto 4 (q := 191) dX16_dip_187 rfl ?_
                refine y_Vi 274 (M := mX16_done) (As := [(0, 1), (0, 37), (0, r6), (0, s0), (0, b_i (5 * s0))]) (st := []) dX16_dip_191 i65 rfl q2147 q2149 qs50 q383 q2150 rfl hmX16_done rfl rfl rfl rfl rfl rfl rfl rfl (k_mono h (fun r11 w12 h => ?_))
                exact y_iret dX16_dip_194 rfl h
            · refine x_iconst 0 (z := 0) dX16_dip_142 rfl (by decide) rfl ?_
              exact y_iret dX16_dip_143 rfl h
        · refine x_iconst 0 (z := 0) dX16_dip_115 rfl (by decide) rfl ?_
          exact y_iret dX16_dip_116 rfl h
      · refine x_iconst 0 (z := 0) dX16_dip_48 rfl (by decide) rfl ?_
        exact y_iret dX16_dip_49 rfl h
theorem rX16_told {d n : Nat} {w : bW} {Q : Int → bW → Prop} {X : String → bW → Prop} (hn : 143 ≤ n) (a1 : Int) (a2 : Int) (h : b_K d mX16_argument [(2, 65), (0, a1), (0, a2)] n w (fun r1 w2 => (0 ≤ r1 ∧ r1 < 4096) ∧ (if w2 10 r1 = 2 then (b_K d mX4_text [(2, 6)] n w2 (fun r4 w5 => (0 ≤ r1 ∧ r1 < 4096) ∧ ((0 ≤ r1 ∧ r1 < 4096) ∧ (b_K d mX4_number [(2, r4), (0, w5 12 r1), (0, w5 13 r1), (2, 66)] n w5 (fun r8 w9 => if w9 66 2 ≠ 0 then (Q (-1) w9) else (b_K d mX6_bits [(2, 66)] n w9 (fun r10 w11 => if 8 < r10 then (Q (-1) w11) else (b_K d mX6_at [(2, 66), (0, 0)] n w11 (fun r12 w13 => if r12 ≤ 200 then (b_K d mX6_at [(2, 66), (0, 0)] n w13 (fun r14 w15 => Q r14 w15) X) else (Q (-1) w13)) X)) X)) X))) X) else (Q (-1) w2))) X) : b_K (d + 1) mX16_told [(2, 65), (0, a1), (0, a2)] n w Q X := by
  have i6 := iz6 (Nat.le_trans (Nat.le_of_ble_eq_true rfl) hn)
  have i10 := iz10 (Nat.le_trans (Nat.le_of_ble_eq_true rfl) hn)
  have i12 := iz12 (Nat.le_trans (Nat.le_of_ble_eq_true rfl) hn)
  have i13 := iz13 (Nat.le_trans (Nat.le_of_ble_eq_true rfl) hn)
  have i65 := iz65 (Nat.le_trans (Nat.le_of_ble_eq_true rfl) hn)
  have i66 := iz66 (Nat.le_trans (Nat.le_of_ble_eq_true rfl) hn)
  refine k_of (by decide) rfl rfl rfl (ls := [(2, 65), (0, a1), (0, a2), (9, 0)]) rfl ?_
  refine x_aload_n 0 dX16_told_0 rfl rfl rfl rfl rfl ?_
  refine x_iload_n 1 dX16_told_1 rfl rfl rfl ?_
  refine x_iload_n 2 dX16_told_2 rfl rfl rfl ?_
  refine y_Vi 226 (M := mX16_argument) (As := [(0, a1), (0, a2)]) (st := []) dX16_told_3 i65 rfl q1932 q1934 qs35 q383 q1935 rfl hmX16_argument rfl rfl rfl rfl rfl rfl rfl rfl (k_mono h (fun r1 w2 h => ?_))
  refine x_istore_n 3 (ls' := [(2, 65), (0, a1), (0, a2), (0, r1)]) dX16_told_6 rfl rfl rfl rfl ?_
  refine x_aload_n 0 dX16_told_7 rfl rfl rfl rfl rfl ?_
  refine y_getF 28 0 (c := 15) (z := 6) dX16_told_8 i65 rfl in_X16 q1099 rfl rfl rfl fn_65_0 (Nat.le_trans (Nat.le_of_ble_eq_true rfl) hn) rfl ?_
  refine y_getF 229 3 (c := 3) (z := 10) dX16_told_11 i6 rfl in_X4 q656 rfl rfl rfl fn_6_3 (Nat.le_trans (Nat.le_of_ble_eq_true rfl) hn) rfl ?_
  refine x_iload_n 3 dX16_told_14 rfl rfl rfl ?_
  obtain ⟨e3, h⟩ := h
  refine y_bald (z := w2 10 r1) dX16_told_15 ⟨4096, i10, e3⟩ rfl rfl ?_
  refine x_iconst 2 (z := 2) dX16_told_16 rfl (by decide) rfl ?_
  refine x_icmp_eq (t := 22) 5 dX16_told_17 rfl rfl (b_ite h (fun hc h => ?_) (fun hc h => ?_))
  · refine x_aload_n 0 dX16_told_22 rfl rfl rfl rfl rfl ?_
    refine y_getF 28 0 (c := 15) (z := 6) dX16_told_23 i65 rfl in_X16 q1099 rfl rfl rfl fn_65_0 (Nat.le_trans (Nat.le_of_ble_eq_true rfl) hn) rfl ?_
    refine y_Vr 175 (M := mX4_text) (As := []) (st := []) dX16_told_26 i6 rfl q1871 q1872 q1873 q371 q1874 rfl hmX4_text rfl rfl rfl rfl rfl rfl rfl rfl (k_mono h (fun r4 w5 h => ?_))
    refine x_aload_n 0 dX16_told_29 rfl rfl rfl rfl rfl ?_
    refine y_getF 28 0 (c := 15) (z := 6) dX16_told_30 i65 rfl in_X16 q1099 rfl rfl rfl fn_65_0 (Nat.le_trans (Nat.le_of_ble_eq_true rfl) hn) rfl ?_
    refine y_getF 148 5 (c := 3) (z := 12) dX16_told_33 i6 rfl in_X4 q663 rfl rfl rfl fn_6_5 (Nat.le_trans (Nat.le_of_ble_eq_true rfl) hn) rfl ?_
    refine x_iload_n 3 dX16_told_36 rfl rfl rfl ?_
    obtain ⟨e6, h⟩ := h
    refine y_iald (z := w5 12 r1) dX16_told_37 ⟨4096, i12, e6⟩ rfl rfl ?_
    refine x_aload_n 0 dX16_told_38 rfl rfl rfl rfl rfl ?_
    refine y_getF 28 0 (c := 15) (z := 6) dX16_told_39 i65 rfl in_X16 q1099 rfl rfl rfl fn_65_0 (Nat.le_trans (Nat.le_of_ble_eq_true rfl) hn) rfl ?_
    refine y_getF 145 6 (c := 3) (z := 13) dX16_told_42 i6 rfl in_X4 q666 rfl rfl rfl fn_6_6 (Nat.le_trans (Nat.le_of_ble_eq_true rfl) hn) rfl ?_
    refine x_iload_n 3 dX16_told_45 rfl rfl rfl ?_
    obtain ⟨e7, h⟩ := h
    refine y_iald (z := w5 13 r1) dX16_told_46 ⟨4096, i13, e7⟩ rfl rfl ?_
    refine x_aload_n 0 dX16_told_47 rfl rfl rfl rfl rfl ?_
    refine y_getF 14 6 (c := 15) (z := 66) dX16_told_48 i65 rfl in_X16 q1105 rfl rfl rfl fn_65_6 (Nat.le_trans (Nat.le_of_ble_eq_true rfl) hn) rfl ?_
    refine y_Sv 234 (M := mX4_number) (As := [(2, r4), (0, w5 12 r1), (0, w5 13 r1), (2, 66)]) (st := []) dX16_told_51 q2163 q1740 q371 q1741 hmX4_number rfl rfl rfl rfl rfl rfl rfl (k_mono h (fun r8 w9 h => ?_))
    refine x_aload_n 0 dX16_told_54 rfl rfl rfl rfl rfl ?_
    refine y_getF 14 6 (c := 15) (z := 66) dX16_told_55 i65 rfl in_X16 q1105 rfl rfl rfl fn_65_6 (Nat.le_trans (Nat.le_of_ble_eq_true rfl) hn) rfl ?_
    refine y_get 237 2 (c := 5) (z := w9 66 2) dX16_told_58 i66 rfl in_X6 q640 rfl rfl rfl rfl rfl ?_
    refine x_if_ne (t := 90) 29 dX16_told_61 rfl rfl (b_ite h (fun hc h => ?_) (fun hc h => ?_))
    · refine x_iconst (-1) (z := (-1)) dX16_told_90 rfl (by decide) rfl ?_
      refine x_goto 11 (q := 102) dX16_told_91 rfl ?_
      exact y_iret dX16_told_102 rfl h
    · refine x_aload_n 0 dX16_told_64 rfl rfl rfl rfl rfl ?_
      refine y_getF 14 6 (c := 15) (z := 66) dX16_told_65 i65 rfl in_X16 q1105 rfl rfl rfl fn_65_6 (Nat.le_trans (Nat.le_of_ble_eq_true rfl) hn) rfl ?_
      refine y_Vi 240 (M := mX6_bits) (As := []) (st := []) dX16_told_68 i66 rfl q2164 q1752 q1753 q373 q1754 rfl hmX6_bits rfl rfl rfl rfl rfl rfl rfl rfl (k_mono h (fun r10 w11 h => ?_))
      refine x_bipush 8 (z := 8) dX16_told_71 rfl (by decide) rfl ?_
      refine x_icmp_gt (t := 90) 17 dX16_told_73 rfl rfl (b_ite h (fun hc h => ?_) (fun hc h => ?_))
      · refine x_iconst (-1) (z := (-1)) dX16_told_90 rfl (by decide) rfl ?_
        refine x_goto 11 (q := 102) dX16_told_91 rfl ?_
        exact y_iret dX16_told_102 rfl h
      · refine x_aload_n 0 dX16_told_76 rfl rfl rfl rfl rfl ?_
        refine y_getF 14 6 (c := 15) (z := 66) dX16_told_77 i65 rfl in_X16 q1105 rfl rfl rfl fn_65_6 (Nat.le_trans (Nat.le_of_ble_eq_true rfl) hn) rfl ?_
        refine x_iconst 0 (z := 0) dX16_told_80 rfl (by decide) rfl ?_
        refine y_Vi 244 (M := mX6_at) (As := [(0, 0)]) (st := []) dX16_told_81 i66 rfl q2165 q1962 q1963 q373 q1964 rfl hmX6_at rfl rfl rfl rfl rfl rfl rfl rfl (k_mono h (fun r12 w13 h => ?_))
        refine x_sipush 200 (z := 200) dX16_told_84 rfl (by decide) rfl ?_
        refine x_icmp_le (t := 94) 7 dX16_told_87 rfl rfl (b_ite h (fun hc h => ?_) (fun hc h => ?_))
        · refine x_aload_n 0 dX16_told_94 rfl rfl rfl rfl rfl ?_
          refine y_getF 14 6 (c := 15) (z := 66) dX16_told_95 i65 rfl in_X16 q1105 rfl rfl rfl fn_65_6 (Nat.le_trans (Nat.le_of_ble_eq_true rfl) hn) rfl ?_
          refine x_iconst 0 (z := 0) dX16_told_98 rfl (by decide) rfl ?_
          refine y_Vi 244 (M := mX6_at) (As := [(0, 0)]) (st := []) dX16_told_99 i66 rfl q2165 q1962 q1963 q373 q1964 rfl hmX6_at rfl rfl rfl rfl rfl rfl rfl rfl (k_mono h (fun r14 w15 h => ?_))
          exact y_iret dX16_told_102 rfl h
        · refine x_iconst (-1) (z := (-1)) dX16_told_90 rfl (by decide) rfl ?_
          refine x_goto 11 (q := 102) dX16_told_91 rfl ?_
          exact y_iret dX16_told_102 rfl h
  · refine x_iconst (-1) (z := (-1)) dX16_told_20 rfl (by decide) rfl ?_
    exact y_iret dX16_told_21 rfl h
theorem rX16_isCode {d n : Nat} {w : bW} {Q : Int → bW → Prop} {X : String → bW → Prop} (hn : 143 ≤ n) (a1 : Int) (a2 : Int) (h : b_K d mX16_argument [(2, 65), (0, a1), (0, a2)] n w (fun r1 w2 => b_K d mX4_isSequence [(2, 6), (0, r1)] n w2 (fun r3 w4 => (r3 = 0 ∨ r3 = 1) ∧ Q r3 w4) X) X) : b_K (d + 1) mX16_isCode [(2, 65), (0, a1), (0, a2)] n w Q X := by
  have i6 := iz6 (Nat.le_trans (Nat.le_of_ble_eq_true rfl) hn)
  have i65 := iz65 (Nat.le_trans (Nat.le_of_ble_eq_true rfl) hn)
  refine k_of (by decide) rfl rfl rfl (ls := [(2, 65), (0, a1), (0, a2)]) rfl ?_
  refine x_aload_n 0 dX16_isCode_0 rfl rfl rfl rfl rfl ?_
  refine y_getF 28 0 (c := 15) (z := 6) dX16_isCode_1 i65 rfl in_X16 q1099 rfl rfl rfl fn_65_0 (Nat.le_trans (Nat.le_of_ble_eq_true rfl) hn) rfl ?_
  refine x_aload_n 0 dX16_isCode_4 rfl rfl rfl rfl rfl ?_
  refine x_iload_n 1 dX16_isCode_5 rfl rfl rfl ?_
  refine x_iload_n 2 dX16_isCode_6 rfl rfl rfl ?_
  refine y_Vi 226 (M := mX16_argument) (As := [(0, a1), (0, a2)]) (st := [(2, 6)]) dX16_isCode_7 i65 rfl q1932 q1934 qs35 q383 q1935 rfl hmX16_argument rfl rfl rfl rfl rfl rfl rfl rfl (k_mono h (fun r1 w2 h => ?_))
  refine y_Vi 83 (M := mX4_isSequence) (As := [(0, r1)]) (st := []) dX16_isCode_10 i6 rfl q1825 q1826 q1827 q371 q1828 rfl hmX4_isSequence rfl rfl rfl rfl rfl rfl rfl rfl (k_mono h (fun r3 w4 h => ?_))
  exact y_zret dX16_isCode_13 rfl h.1 h.2
theorem rX16_at {d n : Nat} {w : bW} {Q : Int → bW → Prop} {X : String → bW → Prop} (hn : 143 ≤ n) (a1 : Int) (h : (0 ≤ b_i ((b_i ((w 65 8) - 1)) - a1) ∧ b_i ((b_i ((w 65 8) - 1)) - a1) < 310) ∧ (Q (w 68 (b_i ((b_i ((w 65 8) - 1)) - a1))) w)) : b_K (d + 1) mX16_at [(2, 65), (0, a1)] n w Q X := by
  have i65 := iz65 (Nat.le_trans (Nat.le_of_ble_eq_true rfl) hn)
  have i68 := iz68 (Nat.le_trans (Nat.le_of_ble_eq_true rfl) hn)
  refine k_of (by decide) rfl rfl rfl (ls := [(2, 65), (0, a1)]) rfl ?_
  refine x_aload_n 0 dX16_at_0 rfl rfl rfl rfl rfl ?_
  refine y_getF 20 7 (c := 15) (z := 68) dX16_at_1 i65 rfl in_X16 q1106 rfl rfl rfl fn_65_7 (Nat.le_trans (Nat.le_of_ble_eq_true rfl) hn) rfl ?_
  refine x_aload_n 0 dX16_at_4 rfl rfl rfl rfl rfl ?_
  refine y_get 56 8 (c := 15) (z := w 65 8) dX16_at_5 i65 rfl in_X16 q1107 rfl rfl rfl rfl rfl ?_
  refine x_iconst 1 (z := 1) dX16_at_8 rfl (by decide) rfl ?_
  refine x_isub dX16_at_9 rfl ?_
  refine x_iload_n 1 dX16_at_10 rfl rfl rfl ?_
  refine x_isub dX16_at_11 rfl ?_
  obtain ⟨e1, h⟩ := h
  refine y_iald (z := w 68 (b_i ((b_i ((w 65 8) - 1)) - a1))) dX16_at_12 ⟨310, i68, e1⟩ rfl rfl ?_
  exact y_iret dX16_at_13 rfl h
abbrev LX16_turn_44 (d n : Nat) (Q : Int → bW → Prop) (X : String → bW → Prop) (a1 : Int) (a3 : Int) (a4 : Int) (a5 : Int) (a6 : Int) (w : bW) : Prop := b_Y (d + 1) mX16_turn n Q X 44 [(2, 65), (0, a1), (9, 0), (0, a3), (0, a4), (0, a5), (0, a6)] [] w
theorem rX16_turn {d n : Nat} {w : bW} {Q : Int → bW → Prop} {X : String → bW → Prop} (hn : 143 ≤ n) (a1 : Int) (a2 : Int) (h : if a2 = 0 then ((0 ≤ b_i ((w 65 8) - 1) ∧ b_i ((w 65 8) - 1) < 310) ∧ (if a2 = 0 then (LX16_turn_44 d n Q X a1 (b_i ((w 65 8) - 1)) (w 68 (b_i ((w 65 8) - 1))) (-1) 0 w) else (LX16_turn_44 d n Q X a1 (b_i ((w 65 8) - 1)) (w 68 (b_i ((w 65 8) - 1))) 1 0 w))) else ((0 ≤ b_i ((b_i ((w 65 8) - 1)) - a1) ∧ b_i ((b_i ((w 65 8) - 1)) - a1) < 310) ∧ (if a2 = 0 then (LX16_turn_44 d n Q X a1 (b_i ((b_i ((w 65 8) - 1)) - a1)) (w 68 (b_i ((b_i ((w 65 8) - 1)) - a1))) (-1) 0 w) else (LX16_turn_44 d n Q X a1 (b_i ((b_i ((w 65 8) - 1)) - a1)) (w 68 (b_i ((b_i ((w 65 8) - 1)) - a1))) 1 0 w)))) : b_K (d + 1) mX16_turn [(2, 65), (0, a1), (0, a2)] n w Q X := by
  have i65 := iz65 (Nat.le_trans (Nat.le_of_ble_eq_true rfl) hn)
  have i68 := iz68 (Nat.le_trans (Nat.le_of_ble_eq_true rfl) hn)
  refine k_of (by decide) rfl rfl rfl (ls := [(2, 65), (0, a1), (0, a2), (9, 0), (9, 0), (9, 0), (9, 0)]) rfl ?_
  refine x_iload_n 2 dX16_turn_0 rfl rfl rfl ?_
  refine x_if_eq (t := 15) 14 dX16_turn_1 rfl rfl (b_ite h (fun hc h => ?_) (fun hc h => ?_))
  · refine x_aload_n 0 dX16_turn_15 rfl rfl rfl rfl rfl ?_
    refine y_get 56 8 (c := 15) (z := w 65 8) dX16_turn_16 i65 rfl in_X16 q1107 rfl rfl rfl rfl rfl ?_
    refine x_iconst 1 (z := 1) dX16_turn_19 rfl (by decide) rfl ?_
    refine x_isub dX16_turn_20 rfl ?_
    refine x_istore_n 3 (ls' := [(2, 65), (0, a1), (0, a2), (0, b_i ((w 65 8) - 1)), (9, 0), (9, 0), (9, 0)]) dX16_turn_21 rfl rfl rfl rfl ?_
    refine x_aload_n 0 dX16_turn_22 rfl rfl rfl rfl rfl ?_
    refine y_getF 20 7 (c := 15) (z := 68) dX16_turn_23 i65 rfl in_X16 q1106 rfl rfl rfl fn_65_7 (Nat.le_trans (Nat.le_of_ble_eq_true rfl) hn) rfl ?_
    refine x_iload_n 3 dX16_turn_26 rfl rfl rfl ?_
    obtain ⟨e1, h⟩ := h
    refine y_iald (z := w 68 (b_i ((w 65 8) - 1))) dX16_turn_27 ⟨310, i68, e1⟩ rfl rfl ?_
    refine x_istore 4 (ls' := [(2, 65), (0, a1), (0, a2), (0, b_i ((w 65 8) - 1)), (0, w 68 (b_i ((w 65 8) - 1))), (9, 0), (9, 0)]) dX16_turn_28 rfl rfl rfl ?_
    refine x_iload_n 2 dX16_turn_30 rfl rfl rfl ?_
    refine x_if_eq (t := 38) 7 dX16_turn_31 rfl rfl (b_ite h (fun hc h => ?_) (fun hc h => ?_))
    · refine x_iconst (-1) (z := (-1)) dX16_turn_38 rfl (by decide) rfl ?_
      refine x_istore 5 (ls' := [(2, 65), (0, a1), (0, a2), (0, b_i ((w 65 8) - 1)), (0, w 68 (b_i ((w 65 8) - 1))), (0, (-1)), (9, 0)]) dX16_turn_39 rfl rfl rfl ?_
      refine x_iconst 0 (z := 0) dX16_turn_41 rfl (by decide) rfl ?_
      refine x_istore 6 (ls' := [(2, 65), (0, a1), (0, a2), (0, b_i ((w 65 8) - 1)), (0, w 68 (b_i ((w 65 8) - 1))), (0, (-1)), (0, 0)]) dX16_turn_42 rfl rfl rfl ?_
      exact x_fg (fgk (fgk (fgd (fgk (fgk (fgk (fgk (fg0)))))))) h
    · refine x_iconst 1 (z := 1) dX16_turn_34 rfl (by decide) rfl ?_
      refine x_goto 4 (q := 39) dX16_turn_35 rfl ?_
      refine x_istore 5 (ls' := [(2, 65), (0, a1), (0, a2), (0, b_i ((w 65 8) - 1)), (0, w 68 (b_i ((w 65 8) - 1))), (0, 1), (9, 0)]) dX16_turn_39 rfl rfl rfl ?_
      refine x_iconst 0 (z := 0) dX16_turn_41 rfl (by decide) rfl ?_
      refine x_istore 6 (ls' := [(2, 65), (0, a1), (0, a2), (0, b_i ((w 65 8) - 1)), (0, w 68 (b_i ((w 65 8) - 1))), (0, 1), (0, 0)]) dX16_turn_42 rfl rfl rfl ?_
      exact x_fg (fgk (fgk (fgd (fgk (fgk (fgk (fgk (fg0)))))))) h
  · refine x_aload_n 0 dX16_turn_4 rfl rfl rfl rfl rfl ?_
    refine y_get 56 8 (c := 15) (z := w 65 8) dX16_turn_5 i65 rfl in_X16 q1107 rfl rfl rfl rfl rfl ?_
    refine x_iconst 1 (z := 1) dX16_turn_8 rfl (by decide) rfl ?_
    refine x_isub dX16_turn_9 rfl ?_
    refine x_iload_n 1 dX16_turn_10 rfl rfl rfl ?_
    refine x_isub dX16_turn_11 rfl ?_
    refine x_goto 9 (q := 21) dX16_turn_12 rfl ?_
    refine x_istore_n 3 (ls' := [(2, 65), (0, a1), (0, a2), (0, b_i ((b_i ((w 65 8) - 1)) - a1)), (9, 0), (9, 0), (9, 0)]) dX16_turn_21 rfl rfl rfl rfl ?_
    refine x_aload_n 0 dX16_turn_22 rfl rfl rfl rfl rfl ?_
    refine y_getF 20 7 (c := 15) (z := 68) dX16_turn_23 i65 rfl in_X16 q1106 rfl rfl rfl fn_65_7 (Nat.le_trans (Nat.le_of_ble_eq_true rfl) hn) rfl ?_
    refine x_iload_n 3 dX16_turn_26 rfl rfl rfl ?_
    obtain ⟨e2, h⟩ := h
    refine y_iald (z := w 68 (b_i ((b_i ((w 65 8) - 1)) - a1))) dX16_turn_27 ⟨310, i68, e2⟩ rfl rfl ?_
    refine x_istore 4 (ls' := [(2, 65), (0, a1), (0, a2), (0, b_i ((b_i ((w 65 8) - 1)) - a1)), (0, w 68 (b_i ((b_i ((w 65 8) - 1)) - a1))), (9, 0), (9, 0)]) dX16_turn_28 rfl rfl rfl ?_
    refine x_iload_n 2 dX16_turn_30 rfl rfl rfl ?_
    refine x_if_eq (t := 38) 7 dX16_turn_31 rfl rfl (b_ite h (fun hc h => ?_) (fun hc h => ?_))
    · refine x_iconst (-1) (z := (-1)) dX16_turn_38 rfl (by decide) rfl ?_
      refine x_istore 5 (ls' := [(2, 65), (0, a1), (0, a2), (0, b_i ((b_i ((w 65 8) - 1)) - a1)), (0, w 68 (b_i ((b_i ((w 65 8) - 1)) - a1))), (0, (-1)), (9, 0)]) dX16_turn_39 rfl rfl rfl ?_
      refine x_iconst 0 (z := 0) dX16_turn_41 rfl (by decide) rfl ?_
      refine x_istore 6 (ls' := [(2, 65), (0, a1), (0, a2), (0, b_i ((b_i ((w 65 8) - 1)) - a1)), (0, w 68 (b_i ((b_i ((w 65 8) - 1)) - a1))), (0, (-1)), (0, 0)]) dX16_turn_42 rfl rfl rfl ?_
      exact x_fg (fgk (fgk (fgd (fgk (fgk (fgk (fgk (fg0)))))))) h
    · refine x_iconst 1 (z := 1) dX16_turn_34 rfl (by decide) rfl ?_
      refine x_goto 4 (q := 39) dX16_turn_35 rfl ?_
      refine x_istore 5 (ls' := [(2, 65), (0, a1), (0, a2), (0, b_i ((b_i ((w 65 8) - 1)) - a1)), (0, w 68 (b_i ((b_i ((w 65 8) - 1)) - a1))), (0, 1), (9, 0)]) dX16_turn_39 rfl rfl rfl ?_
      refine x_iconst 0 (z := 0) dX16_turn_41 rfl (by decide) rfl ?_
      refine x_istore 6 (ls' := [(2, 65), (0, a1), (0, a2), (0, b_i ((b_i ((w 65 8) - 1)) - a1)), (0, w 68 (b_i ((b_i ((w 65 8) - 1)) - a1))), (0, 1), (0, 0)]) dX16_turn_42 rfl rfl rfl ?_
      exact x_fg (fgk (fgk (fgd (fgk (fgk (fgk (fgk (fg0)))))))) h
theorem sX16_turn_44 {d n : Nat} {w : bW} {Q : Int → bW → Prop} {X : String → bW → Prop} (hn : 143 ≤ n) (a1 : Int) (a3 : Int) (a4 : Int) (a5 : Int) (a6 : Int) (h : if a1 ≤ a6 then ((0 ≤ a3 ∧ a3 < 310) ∧ (Q 1 (b_up w 68 a3 a4))) else ((0 ≤ b_i (a3 + a5) ∧ b_i (a3 + a5) < 310) ∧ ((0 ≤ a3 ∧ a3 < 310) ∧ (LX16_turn_44 d n Q X a1 (b_i (a3 + a5)) a4 a5 (b_i (a6 + 1)) (b_up w 68 a3 (w 68 (b_i (a3 + a5)))))))) : LX16_turn_44 d n Q X a1 a3 a4 a5 a6 w := by
  have i65 := iz65 (Nat.le_trans (Nat.le_of_ble_eq_true rfl) hn)
  have i68 := iz68 (Nat.le_trans (Nat.le_of_ble_eq_true rfl) hn)
  refine x_iload 6 dX16_turn_44 rfl rfl ?_
  refine x_iload_n 1 dX16_turn_46 rfl rfl rfl ?_
  refine x_icmp_ge (t := 76) 29 dX16_turn_47 rfl rfl (b_ite h (fun hc h => ?_) (fun hc h => ?_))
  · refine x_aload_n 0 dX16_turn_76 rfl rfl rfl rfl rfl ?_
    refine y_getF 20 7 (c := 15) (z := 68) dX16_turn_77 i65 rfl in_X16 q1106 rfl rfl rfl fn_65_7 (Nat.le_trans (Nat.le_of_ble_eq_true rfl) hn) rfl ?_
    refine x_iload_n 3 dX16_turn_80 rfl rfl rfl ?_
    refine x_iload 4 dX16_turn_81 rfl rfl ?_
    obtain ⟨e1, h⟩ := h
    refine y_iast (x' := a4) dX16_turn_83 ⟨310, i68, e1⟩ rfl rfl ?_
    refine x_iconst 1 (z := 1) dX16_turn_84 rfl (by decide) rfl ?_
    exact y_zret dX16_turn_85 rfl (by decide) h
  · refine x_aload_n 0 dX16_turn_50 rfl rfl rfl rfl rfl ?_
    refine y_getF 20 7 (c := 15) (z := 68) dX16_turn_51 i65 rfl in_X16 q1106 rfl rfl rfl fn_65_7 (Nat.le_trans (Nat.le_of_ble_eq_true rfl) hn) rfl ?_
    refine x_iload_n 3 dX16_turn_54 rfl rfl rfl ?_
    refine x_aload_n 0 dX16_turn_55 rfl rfl rfl rfl rfl ?_
    refine y_getF 20 7 (c := 15) (z := 68) dX16_turn_56 i65 rfl in_X16 q1106 rfl rfl rfl fn_65_7 (Nat.le_trans (Nat.le_of_ble_eq_true rfl) hn) rfl ?_
    refine x_iload_n 3 dX16_turn_59 rfl rfl rfl ?_
    refine x_iload 5 dX16_turn_60 rfl rfl ?_
    refine x_iadd dX16_turn_62 rfl ?_
    obtain ⟨e2, h⟩ := h
    refine y_iald (z := w 68 (b_i (a3 + a5))) dX16_turn_63 ⟨310, i68, e2⟩ rfl rfl ?_
    obtain ⟨e3, h⟩ := h
    refine y_iast (x' := w 68 (b_i (a3 + a5))) dX16_turn_64 ⟨310, i68, e3⟩ rfl rfl ?_
    refine x_iload_n 3 dX16_turn_65 rfl rfl rfl ?_
    refine x_iload 5 dX16_turn_66 rfl rfl ?_
    refine x_iadd dX16_turn_68 rfl ?_
    refine x_istore_n 3 (ls' := [(2, 65), (0, a1), (9, 0), (0, b_i (a3 + a5)), (0, a4), (0, a5), (0, a6)]) dX16_turn_69 rfl rfl rfl rfl ?_
    refine x_iinc 6 1 (ls' := [(2, 65), (0, a1), (9, 0), (0, b_i (a3 + a5)), (0, a4), (0, a5), (0, b_i (a6 + 1))]) dX16_turn_70 rfl rfl rfl rfl ?_
    refine x_goto (-29) (q := 44) dX16_turn_73 rfl ?_
    exact x_fg (fgk (fgk (fgk (fgk (fgk (fgk (fgk (fg0)))))))) h
theorem rX16_maker {d n : Nat} {w : bW} {Q : Int → bW → Prop} {X : String → bW → Prop} (hn : 143 ≤ n) (a1 : Int) (a2 : Int) (a3 : Int) (h : if a2 = 38 then (if a3 ≠ 0 then (b_K d mX16_done [(2, 65), (0, 0), (0, a2), (0, 0), (0, 0), (0, 0)] n w (fun r1 w2 => Q r1 w2) X) else (b_K d mX16_become [(2, 65), (0, 0), (0, 0)] n w (fun r3 w4 => if r3 = 0 then (b_K d mX16_done [(2, 65), (0, 0), (0, a2), (0, 0), (0, 0), (0, 0)] n w4 (fun r5 w6 => Q r5 w6) X) else (b_K d mX16_done [(2, 65), (0, 1), (0, a2), (0, 0), (0, 0), (0, 0)] n w4 (fun r7 w8 => Q r7 w8) X)) X)) else (if a2 = 39 ∨ a2 = 40 then (b_K d mX16_comb [(2, 65), (0, a1), (0, a2), (0, a3)] n w (fun r9 w10 => Q r9 w10) X) else (if a2 = 41 ∨ a2 = 42 then (if a3 ≠ 0 then (b_K d mX16_done [(2, 65), (0, 0), (0, a2), (0, 0), (0, 0), (0, 0)] n w (fun r11 w12 => Q r11 w12) X) else (b_K d mX16_word [(2, 65), (0, 0)] n w (fun r13 w14 => if r13 ≠ 18 then (b_K d mX16_done [(2, 65), (0, 0), (0, a2), (0, 0), (0, 0), (0, 0)] n w14 (fun r15 w16 => Q r15 w16) X) else (if a2 ≠ 41 then (b_K d mX16_right [(2, 65), (0, 0)] n w14 (fun r17 w18 => b_K d mX16_become [(2, 65), (0, 1), (0, r17)] n w18 (fun r19 w20 => if r19 = 0 then (b_K d mX16_done [(2, 65), (0, 0), (0, a2), (0, 0), (0, 0), (0, 0)] n w20 (fun r21 w22 => Q r21 w22) X) else (b_K d mX16_done [(2, 65), (0, 1), (0, a2), (0, 0), (0, 0), (0, 0)] n w20 (fun r23 w24 => Q r23 w24) X)) X) X) else (b_K d mX16_left [(2, 65), (0, 0)] n w14 (fun r25 w26 => b_K d mX16_become [(2, 65), (0, 1), (0, r25)] n w26 (fun r27 w28 => if r27 = 0 then (b_K d mX16_done [(2, 65), (0, 0), (0, a2), (0, 0), (0, 0), (0, 0)] n w28 (fun r29 w30 => Q r29 w30) X) else (b_K d mX16_done [(2, 65), (0, 1), (0, a2), (0, 0), (0, 0), (0, 0)] n w28 (fun r31 w32 => Q r31 w32) X)) X) X))) X)) else (if a2 = 43 then (if a3 ≠ 0 then (b_K d mX16_done [(2, 65), (0, 0), (0, a2), (0, 0), (0, 0), (0, 0)] n w (fun r33 w34 => Q r33 w34) X) else (if w 65 8 ≤ 0 then (b_K d mX16_done [(2, 65), (0, 0), (0, a2), (0, 0), (0, 0), (0, 0)] n w (fun r35 w36 => Q r35 w36) X) else (b_K d mX16_at [(2, 65), (0, 0)] n w (fun r37 w38 => b_K d mX7_option [(2, 19), (0, r37)] n w38 (fun r39 w40 => b_K d mX16_become [(2, 65), (0, 1), (0, r39)] n w40 (fun r41 w42 => if r41 = 0 then (b_K d mX16_done [(2, 65), (0, 0), (0, a2), (0, 0), (0, 0), (0, 0)] n w42 (fun r43 w44 => Q r43 w44) X) else (b_K d mX16_done [(2, 65), (0, 1), (0, a2), (0, 0), (0, 0), (0, 0)] n w42 (fun r45 w46 => Q r45 w46) X)) X) X) X))) else (if a2 = 48 then (if a3 ≠ 0 then (b_K d mX16_done [(2, 65), (0, 0), (0, a2), (0, 0), (0, 0), (0, 0)] n w (fun r47 w48 => Q r47 w48) X) else (b_K d mX16_word [(2, 65), (0, 1)] n w (fun r49 w50 => if r49 ≠ 11 then (b_K d mX16_done [(2, 65), (0, 0), (0, a2), (0, 0), (0, 0), (0, 0)] n w50 (fun r51 w52 => Q r51 w52) X) else (b_K d mX16_left [(2, 65), (0, 1)] n w50 (fun r53 w54 => b_K d mX16_at [(2, 65), (0, 0)] n w54 (fun r55 w56 => if r53 ≠ r55 then (b_K d mX16_done [(2, 65), (0, 0), (0, a2), (0, 0), (0, 0), (0, 0)] n w56 (fun r57 w58 => Q r57 w58) X) else (b_K d mX16_at [(2, 65), (0, 1)] n w56 (fun r59 w60 => b_K d mX16_become [(2, 65), (0, 2), (0, r59)] n w60 (fun r61 w62 => if r61 = 0 then (b_K d mX16_done [(2, 65), (0, 0), (0, a2), (0, 0), (0, 0), (0, 0)] n w62 (fun r63 w64 => Q r63 w64) X) else (b_K d mX16_done [(2, 65), (0, 1), (0, a2), (0, 0), (0, 0), (0, 0)] n w62 (fun r65 w66 => Q r65 w66) X)) X) X)) X) X)) X)) else ((b_K d mX16_told_2 [(2, 65), (0, a1), (0, a2), (0, a3)] n w (fun r67 w68 => Q r67 w68) X))))))) : b_K (d + 1) mX16_maker [(2, 65), (0, a1), (0, a2), (0, a3)] n w Q X := by
  have i19 := iz19 (Nat.le_trans (Nat.le_of_ble_eq_true rfl) hn)
  have i65 := iz65 (Nat.le_trans (Nat.le_of_ble_eq_true rfl) hn)
  refine k_of (by decide) rfl rfl rfl (ls := [(2, 65), (0, a1), (0, a2), (0, a3)]) rfl ?_
  refine x_iload_n 2 dX16_maker_0 rfl rfl rfl ?_
  refine b_itc h (fun hc h => ?_) (fun hn0 h => ?_)
  · have key : b_Y (d + 1) mX16_maker n Q X 60 [(2, 65), (0, a1), (0, a2), (0, a3)] [] w := by
      refine x_aload_n 0 dX16_maker_60 rfl rfl rfl rfl rfl ?_
      refine x_iload_n 3 dX16_maker_61 rfl rfl rfl ?_
      refine x_if_ne (t := 78) 16 dX16_maker_62 rfl rfl (b_ite h (fun hc h => ?_) (fun hc h => ?_))
      · refine x_iconst 0 (z := 0) dX16_maker_78 rfl (by decide) rfl ?_
        refine x_iload_n 2 dX16_maker_79 rfl rfl rfl ?_
        refine x_iconst 0 (z := 0) dX16_maker_80 rfl (by decide) rfl ?_
        refine x_iconst 0 (z := 0) dX16_maker_81 rfl (by decide) rfl ?_
        refine x_iconst 0 (z := 0) dX16_maker_82 rfl (by decide) rfl ?_
        refine y_Vi 274 (M := mX16_done) (As := [(0, 0), (0, a2), (0, 0), (0, 0), (0, 0)]) (st := []) dX16_maker_83 i65 rfl q2147 q2149 qs50 q383 q2150 rfl hmX16_done rfl rfl rfl rfl rfl rfl rfl rfl (k_mono h (fun r1 w2 h => ?_))
        exact y_iret dX16_maker_86 rfl h
      · refine x_aload_n 0 dX16_maker_65 rfl rfl rfl rfl rfl ?_
        refine x_iconst 0 (z := 0) dX16_maker_66 rfl (by decide) rfl ?_
        refine x_iconst 0 (z := 0) dX16_maker_67 rfl (by decide) rfl ?_
        refine y_Vi 278 (M := mX16_become) (As := [(0, 0), (0, 0)]) (st := [(2, 65)]) dX16_maker_68 i65 rfl q2143 q2145 qs49 q383 q2146 rfl hmX16_become rfl rfl rfl rfl rfl rfl rfl rfl (k_mono h (fun r3 w4 h => ?_))
        refine x_if_eq (t := 78) 7 dX16_maker_71 rfl rfl (b_ite h (fun hc h => ?_) (fun hc h => ?_))
        · refine x_iconst 0 (z := 0) dX16_maker_78 rfl (by decide) rfl ?_
          refine x_iload_n 2 dX16_maker_79 rfl rfl rfl ?_
          refine x_iconst 0 (z := 0) dX16_maker_80 rfl (by decide) rfl ?_
          refine x_iconst 0 (z := 0) dX16_maker_81 rfl (by decide) rfl ?_
          refine x_iconst 0 (z := 0) dX16_maker_82 rfl (by decide) rfl ?_
          refine y_Vi 274 (M := mX16_done) (As := [(0, 0), (0, a2), (0, 0), (0, 0), (0, 0)]) (st := []) dX16_maker_83 i65 rfl q2147 q2149 qs50 q383 q2150 rfl hmX16_done rfl rfl rfl rfl rfl rfl rfl rfl (k_mono h (fun r5 w6 h => ?_))
          exact y_iret dX16_maker_86 rfl h
        · refine x_iconst 1 (z := 1) dX16_maker_74 rfl (by decide) rfl ?_
          refine x_goto 4 (q := 79) dX16_maker_75 rfl ?_
          refine x_iload_n 2 dX16_maker_79 rfl rfl rfl ?_
          refine x_iconst 0 (z := 0) dX16_maker_80 rfl (by decide) rfl ?_
          refine x_iconst 0 (z := 0) dX16_maker_81 rfl (by decide) rfl ?_
          refine x_iconst 0 (z := 0) dX16_maker_82 rfl (by decide) rfl ?_
          refine y_Vi 274 (M := mX16_done) (As := [(0, 1), (0, a2), (0, 0), (0, 0), (0, 0)]) (st := []) dX16_maker_83 i65 rfl q2147 q2149 qs50 q383 q2150 rfl hmX16_done rfl rfl rfl rfl rfl rfl rfl rfl (k_mono h (fun r7 w8 h => ?_))
          exact y_iret dX16_maker_86 rfl h
    have e := hc
    exact x_tsI (off := 59) (t := 60) dX16_maker_1 (by rw [e]; decide) (by rw [e]; decide) (by rw [e]; rfl) rfl key
  · refine b_itc h (fun hc h => ?_) (fun hn1 h => ?_)
    · have key : b_Y (d + 1) mX16_maker n Q X 87 [(2, 65), (0, a1), (0, a2), (0, a3)] [] w := by
        refine x_aload_n 0 dX16_maker_87 rfl rfl rfl rfl rfl ?_
        refine x_iload_n 1 dX16_maker_88 rfl rfl rfl ?_
        refine x_iload_n 2 dX16_maker_89 rfl rfl rfl ?_
        refine x_iload_n 3 dX16_maker_90 rfl rfl rfl ?_
        refine y_Vi 301 (M := mX16_comb) (As := [(0, a1), (0, a2), (0, a3)]) (st := []) dX16_maker_91 i65 rfl q2183 q2185 qs57 q383 q2186 rfl hmX16_comb rfl rfl rfl rfl rfl rfl rfl rfl (k_mono h (fun r9 w10 h => ?_))
        exact y_iret dX16_maker_94 rfl h
      rcases hc with e | e
      · exact x_tsI (off := 86) (t := 87) dX16_maker_1 (by rw [e]; decide) (by rw [e]; decide) (by rw [e]; rfl) rfl key
      · exact x_tsI (off := 86) (t := 87) dX16_maker_1 (by rw [e]; decide) (by rw [e]; decide) (by rw [e]; rfl) rfl key
    · refine b_itc h (fun hc h => ?_) (fun hn2 h => ?_)
      · have key : b_Y (d + 1) mX16_maker n Q X 95 [(2, 65), (0, a1), (0, a2), (0, a3)] [] w := by
          refine x_aload_n 0 dX16_maker_95 rfl rfl rfl rfl rfl ?_
          refine x_iload_n 3 dX16_maker_96 rfl rfl rfl ?_
          refine x_if_ne (t := 141) 44 dX16_maker_97 rfl rfl (b_ite h (fun hc h => ?_) (fun hc h => ?_))
          · refine x_iconst 0 (z := 0) dX16_maker_141 rfl (by decide) rfl ?_
            refine x_iload_n 2 dX16_maker_142 rfl rfl rfl ?_
            refine x_iconst 0 (z := 0) dX16_maker_143 rfl (by decide) rfl ?_
            refine x_iconst 0 (z := 0) dX16_maker_144 rfl (by decide) rfl ?_
            refine x_iconst 0 (z := 0) dX16_maker_145 rfl (by decide) rfl ?_
            refine y_Vi 274 (M := mX16_done) (As := [(0, 0), (0, a2), (0, 0), (0, 0), (0, 0)]) (st := []) dX16_maker_146 i65 rfl q2147 q2149 qs50 q383 q2150 rfl hmX16_done rfl rfl rfl rfl rfl rfl rfl rfl (k_mono h (fun r11 w12 h => ?_))
            exact y_iret dX16_maker_149 rfl h
          · refine x_aload_n 0 dX16_maker_100 rfl rfl rfl rfl rfl ?_
            refine x_iconst 0 (z := 0) dX16_maker_101 rfl (by decide) rfl ?_
            refine y_Vi 304 (M := mX16_word) (As := [(0, 0)]) (st := [(2, 65)]) dX16_maker_102 i65 rfl q2187 q2189 qs58 q383 q2190 rfl hmX16_word rfl rfl rfl rfl rfl rfl rfl rfl (k_mono h (fun r13 w14 h => ?_))
            refine x_bipush 18 (z := 18) dX16_maker_105 rfl (by decide) rfl ?_
            refine x_icmp_ne (t := 141) 34 dX16_maker_107 rfl rfl (b_ite h (fun hc h => ?_) (fun hc h => ?_))
            · refine x_iconst 0 (z := 0) dX16_maker_141 rfl (by decide) rfl ?_
              refine x_iload_n 2 dX16_maker_142 rfl rfl rfl ?_
              refine x_iconst 0 (z := 0) dX16_maker_143 rfl (by decide) rfl ?_
              refine x_iconst 0 (z := 0) dX16_maker_144 rfl (by decide) rfl ?_
              refine x_iconst 0 (z := 0) dX16_maker_145 rfl (by decide) rfl ?_
              refine y_Vi 274 (M := mX16_done) (As := [(0, 0), (0, a2), (0, 0), (0, 0), (0, 0)]) (st := []) dX16_maker_146 i65 rfl q2147 q2149 qs50 q383 q2150 rfl hmX16_done rfl rfl rfl rfl rfl rfl rfl rfl (k_mono h (fun r15 w16 h => ?_))
              exact y_iret dX16_maker_149 rfl h
            · refine x_aload_n 0 dX16_maker_110 rfl rfl rfl rfl rfl ?_
              refine x_iconst 1 (z := 1) dX16_maker_111 rfl (by decide) rfl ?_
              refine x_iload_n 2 dX16_maker_112 rfl rfl rfl ?_
              refine x_bipush 41 (z := 41) dX16_maker_113 rfl (by decide) rfl ?_
              refine x_icmp_ne (t := 126) 11 dX16_maker_115 rfl rfl (b_ite h (fun hc h => ?_) (fun hc h => ?_))
              · refine x_aload_n 0 dX16_maker_126 rfl rfl rfl rfl rfl ?_
                refine x_iconst 0 (z := 0) dX16_maker_127 rfl (by decide) rfl ?_
                refine y_Vi 310 (M := mX16_right) (As := [(0, 0)]) (st := [(0, 1), (2, 65), (2, 65)]) dX16_maker_128 i65 rfl q2195 q2197 qs60 q383 q2198 rfl hmX16_right rfl rfl rfl rfl rfl rfl rfl rfl (k_mono h (fun r17 w18 h => ?_))
                refine y_Vi 278 (M := mX16_become) (As := [(0, 1), (0, r17)]) (st := [(2, 65)]) dX16_maker_131 i65 rfl q2143 q2145 qs49 q383 q2146 rfl hmX16_become rfl rfl rfl rfl rfl rfl rfl rfl (k_mono h (fun r19 w20 h => ?_))
                refine x_if_eq (t := 141) 7 dX16_maker_134 rfl rfl (b_ite h (fun hc h => ?_) (fun hc h => ?_))
                · refine x_iconst 0 (z := 0) dX16_maker_141 rfl (by decide) rfl ?_
                  refine x_iload_n 2 dX16_maker_142 rfl rfl rfl ?_
                  refine x_iconst 0 (z := 0) dX16_maker_143 rfl (by decide) rfl ?_
                  refine x_iconst 0 (z := 0) dX16_maker_144 rfl (by decide) rfl ?_
                  refine x_iconst 0 (z := 0) dX16_maker_145 rfl (by decide) rfl ?_
                  refine y_Vi 274 (M := mX16_done) (As := [(0, 0), (0, a2), (0, 0), (0, 0), (0, 0)]) (st := []) dX16_maker_146 i65 rfl q2147 q2149 qs50 q383 q2150 rfl hmX16_done rfl rfl rfl rfl rfl rfl rfl rfl (k_mono h (fun r21 w22 h => ?_))
                  exact y_iret dX16_maker_149 rfl h
                · refine x_iconst 1 (z := 1) dX16_maker_137 rfl (by decide) rfl ?_
                  refine x_goto 4 (q := 142) dX16_maker_138 rfl ?_
                  refine x_iload_n 2 dX16_maker_142 rfl rfl rfl ?_
                  refine x_iconst 0 (z := 0) dX16_maker_143 rfl (by decide) rfl ?_
                  refine x_iconst 0 (z := 0) dX16_maker_144 rfl (by decide) rfl ?_
                  refine x_iconst 0 (z := 0) dX16_maker_145 rfl (by decide) rfl ?_
                  refine y_Vi 274 (M := mX16_done) (As := [(0, 1), (0, a2), (0, 0), (0, 0), (0, 0)]) (st := []) dX16_maker_146 i65 rfl q2147 q2149 qs50 q383 q2150 rfl hmX16_done rfl rfl rfl rfl rfl rfl rfl rfl (k_mono h (fun r23 w24 h => ?_))
                  exact y_iret dX16_maker_149 rfl h
              · refine x_aload_n 0 dX16_maker_118 rfl rfl rfl rfl rfl ?_
                refine x_iconst 0 (z := 0) dX16_maker_119 rfl (by decide) rfl ?_
                refine y_Vi 307 (M := mX16_left) (As := [(0, 0)]) (st := [(0, 1), (2, 65), (2, 65)]) dX16_maker_120 i65 rfl q2191 q2193 qs59 q383 q2194 rfl hmX16_left rfl rfl rfl rfl rfl rfl rfl rfl (k_mono h (fun r25 w26 h => ?_))
                refine x_goto 8 (q := 131) dX16_maker_123 rfl ?_
                refine y_Vi 278 (M := mX16_become) (As := [(0, 1), (0, r25)]) (st := [(2, 65)]) dX16_maker_131 i65 rfl q2143 q2145 qs49 q383 q2146 rfl hmX16_become rfl rfl rfl rfl rfl rfl rfl rfl (k_mono h (fun r27 w28 h => ?_))
                refine x_if_eq (t := 141) 7 dX16_maker_134 rfl rfl (b_ite h (fun hc h => ?_) (fun hc h => ?_))
                · refine x_iconst 0 (z := 0) dX16_maker_141 rfl (by decide) rfl ?_
                  refine x_iload_n 2 dX16_maker_142 rfl rfl rfl ?_
                  refine x_iconst 0 (z := 0) dX16_maker_143 rfl (by decide) rfl ?_
                  refine x_iconst 0 (z := 0) dX16_maker_144 rfl (by decide) rfl ?_
                  refine x_iconst 0 (z := 0) dX16_maker_145 rfl (by decide) rfl ?_
                  refine y_Vi 274 (M := mX16_done) (As := [(0, 0), (0, a2), (0, 0), (0, 0), (0, 0)]) (st := []) dX16_maker_146 i65 rfl q2147 q2149 qs50 q383 q2150 rfl hmX16_done rfl rfl rfl rfl rfl rfl rfl rfl (k_mono h (fun r29 w30 h => ?_))
                  exact y_iret dX16_maker_149 rfl h
                · refine x_iconst 1 (z := 1) dX16_maker_137 rfl (by decide) rfl ?_
                  refine x_goto 4 (q := 142) dX16_maker_138 rfl ?_
                  refine x_iload_n 2 dX16_maker_142 rfl rfl rfl ?_
                  refine x_iconst 0 (z := 0) dX16_maker_143 rfl (by decide) rfl ?_
                  refine x_iconst 0 (z := 0) dX16_maker_144 rfl (by decide) rfl ?_
                  refine x_iconst 0 (z := 0) dX16_maker_145 rfl (by decide) rfl ?_
                  refine y_Vi 274 (M := mX16_done) (As := [(0, 1), (0, a2), (0, 0), (0, 0), (0, 0)]) (st := []) dX16_maker_146 i65 rfl q2147 q2149 qs50 q383 q2150 rfl hmX16_done rfl rfl rfl rfl rfl rfl rfl rfl (k_mono h (fun r31 w32 h => ?_))
                  exact y_iret dX16_maker_149 rfl h
        rcases hc with e | e
        · exact x_tsI (off := 94) (t := 95) dX16_maker_1 (by rw [e]; decide) (by rw [e]; decide) (by rw [e]; rfl) rfl key
        · exact x_tsI (off := 94) (t := 95) dX16_maker_1 (by rw [e]; decide) (by rw [e]; decide) (by rw [e]; rfl) rfl key
      · refine b_itc h (fun hc h => ?_) (fun hn3 h => ?_)
        · have key : b_Y (d + 1) mX16_maker n Q X 150 [(2, 65), (0, a1), (0, a2), (0, a3)] [] w := by
            refine x_aload_n 0 dX16_maker_150 rfl rfl rfl rfl rfl ?_
            refine x_iload_n 3 dX16_maker_151 rfl rfl rfl ?_
            refine x_if_ne (t := 186) 34 dX16_maker_152 rfl rfl (b_ite h (fun hc h => ?_) (fun hc h => ?_))
            · refine x_iconst 0 (z := 0) dX16_maker_186 rfl (by decide) rfl ?_
              refine x_iload_n 2 dX16_maker_187 rfl rfl rfl ?_
              refine x_iconst 0 (z := 0) dX16_maker_188 rfl (by decide) rfl ?_
              refine x_iconst 0 (z := 0) dX16_maker_189 rfl (by decide) rfl ?_
              refine x_iconst 0 (z := 0) dX16_maker_190 rfl (by decide) rfl ?_
              refine y_Vi 274 (M := mX16_done) (As := [(0, 0), (0, a2), (0, 0), (0, 0), (0, 0)]) (st := []) dX16_maker_191 i65 rfl q2147 q2149 qs50 q383 q2150 rfl hmX16_done rfl rfl rfl rfl rfl rfl rfl rfl (k_mono h (fun r33 w34 h => ?_))
              exact y_iret dX16_maker_194 rfl h
            · refine x_aload_n 0 dX16_maker_155 rfl rfl rfl rfl rfl ?_
              refine y_get 56 8 (c := 15) (z := w 65 8) dX16_maker_156 i65 rfl in_X16 q1107 rfl rfl rfl rfl rfl ?_
              refine x_if_le (t := 186) 27 dX16_maker_159 rfl rfl (b_ite h (fun hc h => ?_) (fun hc h => ?_))
              · refine x_iconst 0 (z := 0) dX16_maker_186 rfl (by decide) rfl ?_
                refine x_iload_n 2 dX16_maker_187 rfl rfl rfl ?_
                refine x_iconst 0 (z := 0) dX16_maker_188 rfl (by decide) rfl ?_
                refine x_iconst 0 (z := 0) dX16_maker_189 rfl (by decide) rfl ?_
                refine x_iconst 0 (z := 0) dX16_maker_190 rfl (by decide) rfl ?_
                refine y_Vi 274 (M := mX16_done) (As := [(0, 0), (0, a2), (0, 0), (0, 0), (0, 0)]) (st := []) dX16_maker_191 i65 rfl q2147 q2149 qs50 q383 q2150 rfl hmX16_done rfl rfl rfl rfl rfl rfl rfl rfl (k_mono h (fun r35 w36 h => ?_))
                exact y_iret dX16_maker_194 rfl h
              · refine x_aload_n 0 dX16_maker_162 rfl rfl rfl rfl rfl ?_
                refine x_iconst 1 (z := 1) dX16_maker_163 rfl (by decide) rfl ?_
                refine x_aload_n 0 dX16_maker_164 rfl rfl rfl rfl rfl ?_
                refine y_getF 32 1 (c := 15) (z := 19) dX16_maker_165 i65 rfl in_X16 q1100 rfl rfl rfl fn_65_1 (Nat.le_trans (Nat.le_of_ble_eq_true rfl) hn) rfl ?_
                refine x_aload_n 0 dX16_maker_168 rfl rfl rfl rfl rfl ?_
                refine x_iconst 0 (z := 0) dX16_maker_169 rfl (by decide) rfl ?_
                refine y_Vi 209 (M := mX16_at) (As := [(0, 0)]) (st := [(2, 19), (0, 1), (2, 65), (2, 65)]) dX16_maker_170 i65 rfl q2171 q2173 qs54 q383 q2174 rfl hmX16_at rfl rfl rfl rfl rfl rfl rfl rfl (k_mono h (fun r37 w38 h => ?_))
                refine y_Vi 313 (M := mX7_option) (As := [(0, r37)]) (st := [(0, 1), (2, 65), (2, 65)]) dX16_maker_173 i19 rfl q2199 q2200 q2201 q374 q2202 rfl hmX7_option rfl rfl rfl rfl rfl rfl rfl rfl (k_mono h (fun r39 w40 h => ?_))
                refine y_Vi 278 (M := mX16_become) (As := [(0, 1), (0, r39)]) (st := [(2, 65)]) dX16_maker_176 i65 rfl q2143 q2145 qs49 q383 q2146 rfl hmX16_become rfl rfl rfl rfl rfl rfl rfl rfl (k_mono h (fun r41 w42 h => ?_))
                refine x_if_eq (t := 186) 7 dX16_maker_179 rfl rfl (b_ite h (fun hc h => ?_) (fun hc h => ?_))
                · refine x_iconst 0 (z := 0) dX16_maker_186 rfl (by decide) rfl ?_
                  refine x_iload_n 2 dX16_maker_187 rfl rfl rfl ?_
                  refine x_iconst 0 (z := 0) dX16_maker_188 rfl (by decide) rfl ?_
                  refine x_iconst 0 (z := 0) dX16_maker_189 rfl (by decide) rfl ?_
                  refine x_iconst 0 (z := 0) dX16_maker_190 rfl (by decide) rfl ?_
                  refine y_Vi 274 (M := mX16_done) (As := [(0, 0), (0, a2), (0, 0), (0, 0), (0, 0)]) (st := []) dX16_maker_191 i65 rfl q2147 q2149 qs50 q383 q2150 rfl hmX16_done rfl rfl rfl rfl rfl rfl rfl rfl (k_mono h (fun r43 w44 h => ?_))
                  exact y_iret dX16_maker_194 rfl h
                · refine x_iconst 1 (z := 1) dX16_maker_182 rfl (by decide) rfl ?_
                  refine x_goto 4 (q := 187) dX16_maker_183 rfl ?_
                  refine x_iload_n 2 dX16_maker_187 rfl rfl rfl ?_
                  refine x_iconst 0 (z := 0) dX16_maker_188 rfl (by decide) rfl ?_
                  refine x_iconst 0 (z := 0) dX16_maker_189 rfl (by decide) rfl ?_
                  refine x_iconst 0 (z := 0) dX16_maker_190 rfl (by decide) rfl ?_
                  refine y_Vi 274 (M := mX16_done) (As := [(0, 1), (0, a2), (0, 0), (0, 0), (0, 0)]) (st := []) dX16_maker_191 i65 rfl q2147 q2149 qs50 q383 q2150 rfl hmX16_done rfl rfl rfl rfl rfl rfl rfl rfl (k_mono h (fun r45 w46 h => ?_))
                  exact y_iret dX16_maker_194 rfl h
          have e := hc
          exact x_tsI (off := 149) (t := 150) dX16_maker_1 (by rw [e]; decide) (by rw [e]; decide) (by rw [e]; rfl) rfl key
        · refine b_itc h (fun hc h => ?_) (fun hn4 h => ?_)
          · have key : b_Y (d + 1) mX16_maker n Q X 195 [(2, 65), (0, a1), (0, a2), (0, a3)] [] w := by
              refine x_aload_n 0 dX16_maker_195 rfl rfl rfl rfl rfl ?_
              refine x_iload_n 3 dX16_maker_196 rfl rfl rfl ?_
              refine x_if_ne (t := 240) 43 dX16_maker_197 rfl rfl (b_ite h (fun hc h => ?_) (fun hc h => ?_))
              · refine x_iconst 0 (z := 0) dX16_maker_240 rfl (by decide) rfl ?_
                refine x_iload_n 2 dX16_maker_241 rfl rfl rfl ?_
                refine x_iconst 0 (z := 0) dX16_maker_242 rfl (by decide) rfl ?_
                refine x_iconst 0 (z := 0) dX16_maker_243 rfl (by decide) rfl ?_
                refine x_iconst 0 (z := 0) dX16_maker_244 rfl (by decide) rfl ?_
                refine y_Vi 274 (M := mX16_done) (As := [(0, 0), (0, a2), (0, 0), (0, 0), (0, 0)]) (st := []) dX16_maker_245 i65 rfl q2147 q2149 qs50 q383 q2150 rfl hmX16_done rfl rfl rfl rfl rfl rfl rfl rfl (k_mono h (fun r47 w48 h => ?_))
                exact y_iret dX16_maker_248 rfl h
              · refine x_aload_n 0 dX16_maker_200 rfl rfl rfl rfl rfl ?_
                refine x_iconst 1 (z := 1) dX16_maker_201 rfl (by decide) rfl ?_
                refine y_Vi 304 (M := mX16_word) (As := [(0, 1)]) (st := [(2, 65)]) dX16_maker_202 i65 rfl q2187 q2189 qs58 q383 q2190 rfl hmX16_word rfl rfl rfl rfl rfl rfl rfl rfl (k_mono h (fun r49 w50 h => ?_))
                refine x_bipush 11 (z := 11) dX16_maker_205 rfl (by decide) rfl ?_
                refine x_icmp_ne (t := 240) 33 dX16_maker_207 rfl rfl (b_ite h (fun hc h => ?_) (fun hc h => ?_))
                · refine x_iconst 0 (z := 0) dX16_maker_240 rfl (by decide) rfl ?_
                  refine x_iload_n 2 dX16_maker_241 rfl rfl rfl ?_
                  refine x_iconst 0 (z := 0) dX16_maker_242 rfl (by decide) rfl ?_
                  refine x_iconst 0 (z := 0) dX16_maker_243 rfl (by decide) rfl ?_
                  refine x_iconst 0 (z := 0) dX16_maker_244 rfl (by decide) rfl ?_
                  refine y_Vi 274 (M := mX16_done) (As := [(0, 0), (0, a2), (0, 0), (0, 0), (0, 0)]) (st := []) dX16_maker_245 i65 rfl q2147 q2149 qs50 q383 q2150 rfl hmX16_done rfl rfl rfl rfl rfl rfl rfl rfl (k_mono h (fun r51 w52 h => ?_))
                  exact y_iret dX16_maker_248 rfl h
                · refine x_aload_n 0 dX16_maker_210 rfl rfl rfl rfl rfl ?_
                  refine x_iconst 1 (z := 1) dX16_maker_211 rfl (by decide) rfl ?_
                  refine y_Vi 307 (M := mX16_left) (As := [(0, 1)]) (st := [(2, 65)]) dX16_maker_212 i65 rfl q2191 q2193 qs59 q383 q2194 rfl hmX16_left rfl rfl rfl rfl rfl rfl rfl rfl (k_mono h (fun r53 w54 h => ?_))
                  refine x_aload_n 0 dX16_maker_215 rfl rfl rfl rfl rfl ?_
                  refine x_iconst 0 (z := 0) dX16_maker_216 rfl (by decide) rfl ?_
                  refine y_Vi 209 (M := mX16_at) (As := [(0, 0)]) (st := [(0, r53), (2, 65)]) dX16_maker_217 i65 rfl q2171 q2173 qs54 q383 q2174 rfl hmX16_at rfl rfl rfl rfl rfl rfl rfl rfl (k_mono h (fun r55 w56 h => ?_))
                  refine x_icmp_ne (t := 240) 20 dX16_maker_220 rfl rfl (b_ite h (fun hc h => ?_) (fun hc h => ?_))
                  · refine x_iconst 0 (z := 0) dX16_maker_240 rfl (by decide) rfl ?_
                    refine x_iload_n 2 dX16_maker_241 rfl rfl rfl ?_
                    refine x_iconst 0 (z := 0) dX16_maker_242 rfl (by decide) rfl ?_
                    refine x_iconst 0 (z := 0) dX16_maker_243 rfl (by decide) rfl ?_
                    refine x_iconst 0 (z := 0) dX16_maker_244 rfl (by decide) rfl ?_
                    refine y_Vi 274 (M := mX16_done) (As := [(0, 0), (0, a2), (0, 0), (0, 0), (0, 0)]) (st := []) dX16_maker_245 i65 rfl q2147 q2149 qs50 q383 q2150 rfl hmX16_done rfl rfl rfl rfl rfl rfl rfl rfl (k_mono h (fun r57 w58 h => ?_))
                    exact y_iret dX16_maker_248 rfl h
                  · refine x_aload_n 0 dX16_maker_223 rfl rfl rfl rfl rfl ?_
                    refine x_iconst 2 (z := 2) dX16_maker_224 rfl (by decide) rfl ?_
                    refine x_aload_n 0 dX16_maker_225 rfl rfl rfl rfl rfl ?_
                    refine x_iconst 1 (z := 1) dX16_maker_226 rfl (by decide) rfl ?_
                    refine y_Vi 209 (M := mX16_at) (As := [(0, 1)]) (st := [(0, 2), (2, 65), (2, 65)]) dX16_maker_227 i65 rfl q2171 q2173 qs54 q383 q2174 rfl hmX16_at rfl rfl rfl rfl rfl rfl rfl rfl (k_mono h (fun r59 w60 h => ?_))
                    refine y_Vi 278 (M := mX16_become) (As := [(0, 2), (0, r59)]) (st := [(2, 65)]) dX16_maker_230 i65 rfl q2143 q2145 qs49 q383 q2146 rfl hmX16_become rfl rfl rfl rfl rfl rfl rfl rfl (k_mono h (fun r61 w62 h => ?_))
                    refine x_if_eq (t := 240) 7 dX16_maker_233 rfl rfl (b_ite h (fun hc h => ?_) (fun hc h => ?_))
                    · refine x_iconst 0 (z := 0) dX16_maker_240 rfl (by decide) rfl ?_
                      refine x_iload_n 2 dX16_maker_241 rfl rfl rfl ?_
                      refine x_iconst 0 (z := 0) dX16_maker_242 rfl (by decide) rfl ?_
                      refine x_iconst 0 (z := 0) dX16_maker_243 rfl (by decide) rfl ?_
                      refine x_iconst 0 (z := 0) dX16_maker_244 rfl (by decide) rfl ?_
                      refine y_Vi 274 (M := mX16_done) (As := [(0, 0), (0, a2), (0, 0), (0, 0), (0, 0)]) (st := []) dX16_maker_245 i65 rfl q2147 q2149 qs50 q383 q2150 rfl hmX16_done rfl rfl rfl rfl rfl rfl rfl rfl (k_mono h (fun r63 w64 h => ?_))
                      exact y_iret dX16_maker_248 rfl h
                    · refine x_iconst 1 (z := 1) dX16_maker_236 rfl (by decide) rfl ?_
                      refine x_goto 4 (q := 241) dX16_maker_237 rfl ?_
                      refine x_iload_n 2 dX16_maker_241 rfl rfl rfl ?_
                      refine x_iconst 0 (z := 0) dX16_maker_242 rfl (by decide) rfl ?_
                      refine x_iconst 0 (z := 0) dX16_maker_243 rfl (by decide) rfl ?_
                      refine x_iconst 0 (z := 0) dX16_maker_244 rfl (by decide) rfl ?_
                      refine y_Vi 274 (M := mX16_done) (As := [(0, 1), (0, a2), (0, 0), (0, 0), (0, 0)]) (st := []) dX16_maker_245 i65 rfl q2147 q2149 qs50 q383 q2150 rfl hmX16_done rfl rfl rfl rfl rfl rfl rfl rfl (k_mono h (fun r65 w66 h => ?_))
                      exact y_iret dX16_maker_248 rfl h
            have e := hc
            exact x_tsI (off := 194) (t := 195) dX16_maker_1 (by rw [e]; decide) (by rw [e]; decide) (by rw [e]; rfl) rfl key
          · have key : b_Y (d + 1) mX16_maker n Q X 249 [(2, 65), (0, a1), (0, a2), (0, a3)] [] w := by
              refine x_aload_n 0 dX16_maker_249 rfl rfl rfl rfl rfl ?_
              refine x_iload_n 1 dX16_maker_250 rfl rfl rfl ?_
              refine x_iload_n 2 dX16_maker_251 rfl rfl rfl ?_
              refine x_iload_n 3 dX16_maker_252 rfl rfl rfl ?_
              refine y_Vi 316 (M := mX16_told_2) (As := [(0, a1), (0, a2), (0, a3)]) (st := []) dX16_maker_253 i65 rfl q2203 q2205 qs61 q383 q2206 rfl hmX16_told_2 rfl rfl rfl rfl rfl rfl rfl rfl (k_mono h (fun r67 w68 h => ?_))
              exact y_iret dX16_maker_256 rfl h
            by_cases e : a2 = 44
            · exact x_tsI (off := 248) (t := 249) dX16_maker_1 (by rw [e]; decide) (by rw [e]; decide) (by rw [e]; rfl) rfl key
            have hx44 := e
            by_cases e : a2 = 45
            · exact x_tsI (off := 248) (t := 249) dX16_maker_1 (by rw [e]; decide) (by rw [e]; decide) (by rw [e]; rfl) rfl key
            have hx45 := e
            by_cases e : a2 = 46
            · exact x_tsI (off := 248) (t := 249) dX16_maker_1 (by rw [e]; decide) (by rw [e]; decide) (by rw [e]; rfl) rfl key
            have hx46 := e
            by_cases e : a2 = 47
            · exact x_tsI (off := 248) (t := 249) dX16_maker_1 (by rw [e]; decide) (by rw [e]; decide) (by rw [e]; rfl) rfl key
            have hx47 := e
            exact x_tsO (t := 249) dX16_maker_1 (by omega) rfl key
abbrev LX16_comb_23 (d n : Nat) (Q : Int → bW → Prop) (X : String → bW → Prop) (a2 : Int) (a3 : Int) (s0 : Int) (w : bW) : Prop := b_Y (d + 1) mX16_comb n Q X 23 [(2, 65), (9, 0), (0, a2), (0, a3), (9, 0), (9, 0), (9, 0), (9, 0), (9, 0)] [(0, s0)] w
abbrev LX16_comb_161 (d n : Nat) (Q : Int → bW → Prop) (X : String → bW → Prop) (a2 : Int) (a4 : Int) (a5 : Int) (a6 : Int) (a7 : Int) (w : bW) : Prop := b_Y (d + 1) mX16_comb n Q X 161 [(2, 65), (9, 0), (0, a2), (9, 0), (0, a4), (0, a5), (0, a6), (0, a7), (9, 0)] [] w
abbrev LX16_comb_88 (d n : Nat) (Q : Int → bW → Prop) (X : String → bW → Prop) (a2 : Int) (a4 : Int) (a5 : Int) (a6 : Int) (a7 : Int) (w : bW) : Prop := b_Y (d + 1) mX16_comb n Q X 88 [(2, 65), (9, 0), (0, a2), (9, 0), (0, a4), (0, a5), (0, a6), (0, a7), (9, 0)] [] w
abbrev LX16_comb_253 (d n : Nat) (Q : Int → bW → Prop) (X : String → bW → Prop) (a2 : Int) (a4 : Int) (a5 : Int) (a7 : Int) (a8 : Int) (w : bW) : Prop := b_Y (d + 1) mX16_comb n Q X 253 [(2, 65), (9, 0), (0, a2), (9, 0), (0, a4), (0, a5), (9, 0), (0, a7), (0, a8)] [] w
theorem rX16_comb {d n : Nat} {w : bW} {Q : Int → bW → Prop} {X : String → bW → Prop} (hn : 143 ≤ n) (a1 : Int) (a2 : Int) (a3 : Int) (h : if a3 ≠ 0 then (if a3 ≠ 1 then (LX16_comb_23 d n Q X a2 a3 (-1) w) else (b_K d mX16_told [(2, 65), (0, a1), (0, 0)] n w (fun r1 w2 => LX16_comb_23 d n Q X a2 a3 r1 w2) X)) else (LX16_comb_23 d n Q X a2 a3 2 w)) : b_K (d + 1) mX16_comb [(2, 65), (0, a1), (0, a2), (0, a3)] n w Q X := by
  have i65 := iz65 (Nat.le_trans (Nat.le_of_ble_eq_true rfl) hn)
  refine k_of (by decide) rfl rfl rfl (ls := [(2, 65), (0, a1), (0, a2), (0, a3), (9, 0), (9, 0), (9, 0), (9, 0), (9, 0)]) rfl ?_
  refine x_iload_n 3 dX16_comb_0 rfl rfl rfl ?_
  refine x_if_ne (t := 8) 7 dX16_comb_1 rfl rfl (b_ite h (fun hc h => ?_) (fun hc h => ?_))
  · refine x_iload_n 3 dX16_comb_8 rfl rfl rfl ?_
    refine x_iconst 1 (z := 1) dX16_comb_9 rfl (by decide) rfl ?_
    refine x_icmp_ne (t := 22) 12 dX16_comb_10 rfl rfl (b_ite h (fun hc h => ?_) (fun hc h => ?_))
    · refine x_iconst (-1) (z := (-1)) dX16_comb_22 rfl (by decide) rfl ?_
      exact x_fg (fgk (fgd (fgk (fgk (fgk (fgk (fgk (fgk (fgk (fg0)))))))))) h
    · refine x_aload_n 0 dX16_comb_13 rfl rfl rfl rfl rfl ?_
      refine x_iload_n 1 dX16_comb_14 rfl rfl rfl ?_
      refine x_iconst 0 (z := 0) dX16_comb_15 rfl (by decide) rfl ?_
      refine y_Vi 271 (M := mX16_told) (As := [(0, a1), (0, 0)]) (st := []) dX16_comb_16 i65 rfl q2159 q2161 qs52 q383 q2162 rfl hmX16_told rfl rfl rfl rfl rfl rfl rfl rfl (k_mono h (fun r1 w2 h => ?_))
      refine x_goto 4 (q := 23) dX16_comb_19 rfl ?_
      exact x_fg (fgk (fgd (fgk (fgk (fgk (fgk (fgk (fgk (fgk (fg0)))))))))) h
  · refine x_iconst 2 (z := 2) dX16_comb_4 rfl (by decide) rfl ?_
    refine x_goto 18 (q := 23) dX16_comb_5 rfl ?_
    exact x_fg (fgk (fgd (fgk (fgk (fgk (fgk (fgk (fgk (fgk (fg0)))))))))) h
theorem sX16_comb_23 {d n : Nat} {w : bW} {Q : Int → bW → Prop} {X : String → bW → Prop} (hn : 143 ≤ n) (a2 : Int) (a3 : Int) (s0 : Int) (h : if s0 < 2 then (Q 0 w) else (if s0 ≤ 8 then (if a3 ≠ 1 then (if a2 ≠ 39 then (if w 65 8 ≤ 0 then (LX16_comb_161 d n Q X a2 s0 0 (-1) 1 w) else (b_K d mX16_at [(2, 65), (0, 0)] n w (fun r1 w2 => LX16_comb_161 d n Q X a2 s0 0 r1 1 w2) X)) else (if s0 ≤ w 65 8 then (b_K d mX16_at [(2, 65), (0, b_i (s0 - 1))] n w (fun r3 w4 => LX16_comb_88 d n Q X a2 s0 0 r3 (b_i (s0 - 2)) w4) X) else (Q 0 w))) else (if a2 ≠ 39 then (if w 65 8 ≤ 0 then (LX16_comb_161 d n Q X a2 s0 (b_i (5 * s0)) (-1) 1 w) else (b_K d mX16_at [(2, 65), (0, 0)] n w (fun r5 w6 => LX16_comb_161 d n Q X a2 s0 (b_i (5 * s0)) r5 1 w6) X)) else (if s0 ≤ w 65 8 then (b_K d mX16_at [(2, 65), (0, b_i (s0 - 1))] n w (fun r7 w8 => LX16_comb_88 d n Q X a2 s0 (b_i (5 * s0)) r7 (b_i (s0 - 2)) w8) X) else (Q 0 w)))) else (Q 0 w))) : LX16_comb_23 d n Q X a2 a3 s0 w := by
  have i65 := iz65 (Nat.le_trans (Nat.le_of_ble_eq_true rfl) hn)
  refine x_istore 4 (ls' := [(2, 65), (9, 0), (0, a2), (0, a3), (0, s0), (9, 0), (9, 0), (9, 0), (9, 0)]) dX16_comb_23 rfl rfl rfl ?_
  refine x_iload 4 dX16_comb_25 rfl rfl ?_
  refine x_iconst 2 (z := 2) dX16_comb_27 rfl (by decide) rfl ?_
  refine x_icmp_lt (t := 38) 10 dX16_comb_28 rfl rfl (b_ite h (fun hc h => ?_) (fun hc h => ?_))
  · refine x_iconst 0 (z := 0) dX16_comb_38 rfl (by decide) rfl ?_
    exact y_iret dX16_comb_39 rfl h
  · refine x_iload 4 dX16_comb_31 rfl rfl ?_
    refine x_bipush 8 (z := 8) dX16_comb_33 rfl (by decide) rfl ?_
    refine x_icmp_le (t := 40) 5 dX16_comb_35 rfl rfl (b_ite h (fun hc h => ?_) (fun hc h => ?_))
    · refine x_iload_n 3 dX16_comb_40 rfl rfl rfl ?_
      refine x_iconst 1 (z := 1) dX16_comb_41 rfl (by decide) rfl ?_
      refine x_icmp_ne (t := 52) 10 dX16_comb_42 rfl rfl (b_ite h (fun hc h => ?_) (fun hc h => ?_))
      · refine x_iconst 0 (z := 0) dX16_comb_52 rfl (by decide) rfl ?_
        refine x_istore 5 (ls' := [(2, 65), (9, 0), (0, a2), (0, a3), (0, s0), (0, 0), (9, 0), (9, 0), (9, 0)]) dX16_comb_53 rfl rfl rfl ?_
        refine x_iload_n 2 dX16_comb_55 rfl rfl rfl ?_
        refine x_bipush 39 (z := 39) dX16_comb_56 rfl (by decide) rfl ?_
        refine x_icmp_ne (t := 140) 82 dX16_comb_58 rfl rfl (b_ite h (fun hc h => ?_) (fun hc h => ?_))
        · refine x_aload_n 0 dX16_comb_140 rfl rfl rfl rfl rfl ?_
          refine y_get 56 8 (c := 15) (z := w 65 8) dX16_comb_141 i65 rfl in_X16 q1107 rfl rfl rfl rfl rfl ?_
          refine x_if_le (t := 155) 11 dX16_comb_144 rfl rfl (b_ite h (fun hc h => ?_) (fun hc h => ?_))
          · refine x_iconst (-1) (z := (-1)) dX16_comb_155 rfl (by decide) rfl ?_
            refine x_istore 6 (ls' := [(2, 65), (9, 0), (0, a2), (0, a3), (0, s0), (0, 0), (0, (-1)), (9, 0), (9, 0)]) dX16_comb_156 rfl rfl rfl ?_
            refine x_iconst 1 (z := 1) dX16_comb_158 rfl (by decide) rfl ?_
            refine x_istore 7 (ls' := [(2, 65), (9, 0), (0, a2), (0, a3), (0, s0), (0, 0), (0, (-1)), (0, 1), (9, 0)]) dX16_comb_159 rfl rfl rfl ?_
            exact x_fg (fgk (fgk (fgk (fgd (fgk (fgk (fgk (fgk (fgk (fg0)))))))))) h
          · refine x_aload_n 0 dX16_comb_147 rfl rfl rfl rfl rfl ?_
            refine x_iconst 0 (z := 0) dX16_comb_148 rfl (by decide) rfl ?_
            refine y_Vi 209 (M := mX16_at) (As := [(0, 0)]) (st := []) dX16_comb_149 i65 rfl q2171 q2173 qs54 q383 q2174 rfl hmX16_at rfl rfl rfl rfl rfl rfl rfl rfl (k_mono h (fun r1 w2 h => ?_))
            refine x_goto 4 (q := 156) dX16_comb_152 rfl ?_
            refine x_istore 6 (ls' := [(2, 65), (9, 0), (0, a2), (0, a3), (0, s0), (0, 0), (0, r1), (9, 0), (9, 0)]) dX16_comb_156 rfl rfl rfl ?_
            refine x_iconst 1 (z := 1) dX16_comb_158 rfl (by decide) rfl ?_
            refine x_istore 7 (ls' := [(2, 65), (9, 0), (0, a2), (0, a3), (0, s0), (0, 0), (0, r1), (0, 1), (9, 0)]) dX16_comb_159 rfl rfl rfl ?_
            exact x_fg (fgk (fgk (fgk (fgd (fgk (fgk (fgk (fgk (fgk (fg0)))))))))) h
        · refine x_aload_n 0 dX16_comb_61 rfl rfl rfl rfl rfl ?_
          refine y_get 56 8 (c := 15) (z := w 65 8) dX16_comb_62 i65 rfl in_X16 q1107 rfl rfl rfl rfl rfl ?_
          refine x_iload 4 dX16_comb_65 rfl rfl ?_
          refine x_icmp_ge (t := 72) 5 dX16_comb_67 rfl rfl (b_ite h (fun hc h => ?_) (fun hc h => ?_))
          · refine x_aload_n 0 dX16_comb_72 rfl rfl rfl rfl rfl ?_
            refine x_iload 4 dX16_comb_73 rfl rfl ?_
            refine x_iconst 1 (z := 1) dX16_comb_75 rfl (by decide) rfl ?_
            refine x_isub dX16_comb_76 rfl ?_
            refine y_Vi 209 (M := mX16_at) (As := [(0, b_i (s0 - 1))]) (st := []) dX16_comb_77 i65 rfl q2171 q2173 qs54 q383 q2174 rfl hmX16_at rfl rfl rfl rfl rfl rfl rfl rfl (k_mono h (fun r3 w4 h => ?_))
            refine x_istore 6 (ls' := [(2, 65), (9, 0), (0, a2), (0, a3), (0, s0), (0, 0), (0, r3), (9, 0), (9, 0)]) dX16_comb_80 rfl rfl rfl ?_
            refine x_iload 4 dX16_comb_82 rfl rfl ?_
            refine x_iconst 2 (z := 2) dX16_comb_84 rfl (by decide) rfl ?_
            refine x_isub dX16_comb_85 rfl ?_
            refine x_istore 7 (ls' := [(2, 65), (9, 0), (0, a2), (0, a3), (0, s0), (0, 0), (0, r3), (0, b_i (s0 - 2)), (9, 0)]) dX16_comb_86 rfl rfl rfl ?_
            exact x_fg (fgk (fgk (fgk (fgd (fgk (fgk (fgk (fgk (fgk (fg0)))))))))) h
          · refine x_iconst 0 (z := 0) dX16_comb_70 rfl (by decide) rfl ?_
            exact y_iret dX16_comb_71 rfl h
      · refine x_iconst 5 (z := 5) dX16_comb_45 rfl (by decide) rfl ?_
        refine x_iload 4 dX16_comb_46 rfl rfl ?_
        refine x_imul dX16_comb_48 rfl ?_
        refine x_goto 4 (q := 53) dX16_comb_49 rfl ?_
        refine x_istore 5 (ls' := [(2, 65), (9, 0), (0, a2), (0, a3), (0, s0), (0, b_i (5 * s0)), (9, 0), (9, 0), (9, 0)]) dX16_comb_53 rfl rfl rfl ?_
        refine x_iload_n 2 dX16_comb_55 rfl rfl rfl ?_
        refine x_bipush 39 (z := 39) dX16_comb_56 rfl (by decide) rfl ?_
        refine x_icmp_ne (t := 140) 82 dX16_comb_58 rfl rfl (b_ite h (fun hc h => ?_) (fun hc h => ?_))
        · refine x_aload_n 0 dX16_comb_140 rfl rfl rfl rfl rfl ?_
          refine y_get 56 8 (c := 15) (z := w 65 8) dX16_comb_141 i65 rfl in_X16 q1107 rfl rfl rfl rfl rfl ?_
          refine x_if_le (t := 155) 11 dX16_comb_144 rfl rfl (b_ite h (fun hc h => ?_) (fun hc h => ?_))
          · refine x_iconst (-1) (z := (-1)) dX16_comb_155 rfl (by decide) rfl ?_
            refine x_istore 6 (ls' := [(2, 65), (9, 0), (0, a2), (0, a3), (0, s0), (0, b_i (5 * s0)), (0, (-1)), (9, 0), (9, 0)]) dX16_comb_156 rfl rfl rfl ?_
            refine x_iconst 1 (z := 1) dX16_comb_158 rfl (by decide) rfl ?_
            refine x_istore 7 (ls' := [(2, 65), (9, 0), (0, a2), (0, a3), (0, s0), (0, b_i (5 * s0)), (0, (-1)), (0, 1), (9, 0)]) dX16_comb_159 rfl rfl rfl ?_
            exact x_fg (fgk (fgk (fgk (fgd (fgk (fgk (fgk (fgk (fgk (fg0)))))))))) h
          · refine x_aload_n 0 dX16_comb_147 rfl rfl rfl rfl rfl ?_
            refine x_iconst 0 (z := 0) dX16_comb_148 rfl (by decide) rfl ?_
            refine y_Vi 209 (M := mX16_at) (As := [(0, 0)]) (st := []) dX16_comb_149 i65 rfl q2171 q2173 qs54 q383 q2174 rfl hmX16_at rfl rfl rfl rfl rfl rfl rfl rfl (k_mono h (fun r5 w6 h => ?_))
            refine x_goto 4 (q := 156) dX16_comb_152 rfl ?_
            refine x_istore 6 (ls' := [(2, 65), (9, 0), (0, a2), (0, a3), (0, s0), (0, b_i (5 * s0)), (0, r5), (9, 0), (9, 0)]) dX16_comb_156 rfl rfl rfl ?_
            refine x_iconst 1 (z := 1) dX16_comb_158 rfl (by decide) rfl ?_
            refine x_istore 7 (ls' := [(2, 65), (9, 0), (0, a2), (0, a3), (0, s0), (0, b_i (5 * s0)), (0, r5), (0, 1), (9, 0)]) dX16_comb_159 rfl rfl rfl ?_
            exact x_fg (fgk (fgk (fgk (fgd (fgk (fgk (fgk (fgk (fgk (fg0)))))))))) h
        · refine x_aload_n 0 dX16_comb_61 rfl rfl rfl rfl rfl ?_
          refine y_get 56 8 (c := 15) (z := w 65 8) dX16_comb_62 i65 rfl in_X16 q1107 rfl rfl rfl rfl rfl ?_
          refine x_iload 4 dX16_comb_65 rfl rfl ?_
          refine x_icmp_ge (t := 72) 5 dX16_comb_67 rfl rfl (b_ite h (fun hc h => ?_) (fun hc h => ?_))
          · refine x_aload_n 0 dX16_comb_72 rfl rfl rfl rfl rfl ?_
            refine x_iload 4 dX16_comb_73 rfl rfl ?_
            refine x_iconst 1 (z := 1) dX16_comb_75 rfl (by decide) rfl ?_
            refine x_isub dX16_comb_76 rfl ?_
            refine y_Vi 209 (M := mX16_at) (As := [(0, b_i (s0 - 1))]) (st := []) dX16_comb_77 i65 rfl q2171 q2173 qs54 q383 q2174 rfl hmX16_at rfl rfl rfl rfl rfl rfl rfl rfl (k_mono h (fun r7 w8 h => ?_))
            refine x_istore 6 (ls' := [(2, 65), (9, 0), (0, a2), (0, a3), (0, s0), (0, b_i (5 * s0)), (0, r7), (9, 0), (9, 0)]) dX16_comb_80 rfl rfl rfl ?_
            refine x_iload 4 dX16_comb_82 rfl rfl ?_
            refine x_iconst 2 (z := 2) dX16_comb_84 rfl (by decide) rfl ?_
            refine x_isub dX16_comb_85 rfl ?_
            refine x_istore 7 (ls' := [(2, 65), (9, 0), (0, a2), (0, a3), (0, s0), (0, b_i (5 * s0)), (0, r7), (0, b_i (s0 - 2)), (9, 0)]) dX16_comb_86 rfl rfl rfl ?_
            exact x_fg (fgk (fgk (fgk (fgd (fgk (fgk (fgk (fgk (fgk (fg0)))))))))) h
          · refine x_iconst 0 (z := 0) dX16_comb_70 rfl (by decide) rfl ?_
            exact y_iret dX16_comb_71 rfl h
    · refine x_iconst 0 (z := 0) dX16_comb_38 rfl (by decide) rfl ?_
      exact y_iret dX16_comb_39 rfl h
theorem sX16_comb_161 {d n : Nat} {w : bW} {Q : Int → bW → Prop} {X : String → bW → Prop} (hn : 143 ≤ n) (a2 : Int) (a4 : Int) (a5 : Int) (a6 : Int) (a7 : Int) (h : if a4 ≤ a7 then (if a6 < 0 then (Q 0 w) else (if b_i ((b_i ((w 65 8) + a4)) - 1) ≤ 300 then ((0 ≤ b_i ((w 65 8) - 1) ∧ b_i ((w 65 8) - 1) < 310) ∧ (LX16_comb_253 d n Q X a2 a4 a5 (w 68 (b_i ((w 65 8) - 1))) 0 (b_up w 65 8 (b_i ((w 65 8) - 1))))) else (Q 0 w))) else (if a6 < 0 then (if a6 < 0 then (Q 0 w) else (if b_i ((b_i ((w 65 8) + a4)) - 1) ≤ 300 then ((0 ≤ b_i ((w 65 8) - 1) ∧ b_i ((w 65 8) - 1) < 310) ∧ (LX16_comb_253 d n Q X a2 a4 a5 (w 68 (b_i ((w 65 8) - 1))) 0 (b_up w 65 8 (b_i ((w 65 8) - 1))))) else (Q 0 w))) else ((0 ≤ a6 ∧ a6 < 60000) ∧ (if w 20 a6 ≠ 18 then (LX16_comb_161 d n Q X a2 a4 a5 (-1) (b_i (a7 + 1)) w) else ((0 ≤ a6 ∧ a6 < 60000) ∧ (LX16_comb_161 d n Q X a2 a4 a5 (w 22 a6) (b_i (a7 + 1)) w)))))) : LX16_comb_161 d n Q X a2 a4 a5 a6 a7 w := by
  have i19 := iz19 (Nat.le_trans (Nat.le_of_ble_eq_true rfl) hn)
  have i20 := iz20 (Nat.le_trans (Nat.le_of_ble_eq_true rfl) hn)
  have i22 := iz22 (Nat.le_trans (Nat.le_of_ble_eq_true rfl) hn)
  have i65 := iz65 (Nat.le_trans (Nat.le_of_ble_eq_true rfl) hn)
  have i68 := iz68 (Nat.le_trans (Nat.le_of_ble_eq_true rfl) hn)
  refine x_iload 7 dX16_comb_161 rfl rfl ?_
  refine x_iload 4 dX16_comb_163 rfl rfl ?_
  refine x_icmp_ge (t := 210) 45 dX16_comb_165 rfl rfl (b_ite h (fun hc h => ?_) (fun hc h => ?_))
  · refine x_iload 6 dX16_comb_210 rfl rfl ?_
    refine x_if_lt (t := 230) 18 dX16_comb_212 rfl rfl (b_ite h (fun hc h => ?_) (fun hc h => ?_))
    · refine x_iconst 0 (z := 0) dX16_comb_230 rfl (by decide) rfl ?_
      exact y_iret dX16_comb_231 rfl h
    · refine x_aload_n 0 dX16_comb_215 rfl rfl rfl rfl rfl ?_
      refine y_get 56 8 (c := 15) (z := w 65 8) dX16_comb_216 i65 rfl in_X16 q1107 rfl rfl rfl rfl rfl ?_
      refine x_iload 4 dX16_comb_219 rfl rfl ?_
      refine x_iadd dX16_comb_221 rfl ?_
      refine x_iconst 1 (z := 1) dX16_comb_222 rfl (by decide) rfl ?_
      refine x_isub dX16_comb_223 rfl ?_
      refine x_sipush 300 (z := 300) dX16_comb_224 rfl (by decide) rfl ?_
      refine x_icmp_le (t := 232) 5 dX16_comb_227 rfl rfl (b_ite h (fun hc h => ?_) (fun hc h => ?_))
      · refine x_aload_n 0 dX16_comb_232 rfl rfl rfl rfl rfl ?_
        refine y_getF 20 7 (c := 15) (z := 68) dX16_comb_233 i65 rfl in_X16 q1106 rfl rfl rfl fn_65_7 (Nat.le_trans (Nat.le_of_ble_eq_true rfl) hn) rfl ?_
        refine x_aload_n 0 dX16_comb_236 rfl rfl rfl rfl rfl ?_
        refine x_dup dX16_comb_237 rfl rfl ?_
        refine y_get 56 8 (c := 15) (z := w 65 8) dX16_comb_238 i65 rfl in_X16 q1107 rfl rfl rfl rfl rfl ?_
        refine x_iconst 1 (z := 1) dX16_comb_241 rfl (by decide) rfl ?_
        refine x_isub dX16_comb_242 rfl ?_
        refine x_dup_x1 dX16_comb_243 rfl rfl rfl ?_
        refine x_put 56 8 (c := 15) dX16_comb_244 i65 rfl in_X16 tyX16_ok nmX16 q1107 rfl rfl rfl (Or.inl rfl) (Or.inl ⟨rfl, rfl⟩) rfl ?_
        obtain ⟨e1, h⟩ := h
        refine y_iald (z := w 68 (b_i ((w 65 8) - 1))) dX16_comb_247 ⟨310, i68, e1⟩ rfl rfl ?_
        refine x_istore 7 (ls' := [(2, 65), (9, 0), (0, a2), (9, 0), (0, a4), (0, a5), (0, a6), (0, w 68 (b_i ((w 65 8) - 1))), (9, 0)]) dX16_comb_248 rfl rfl rfl ?_
        refine x_iconst 0 (z := 0) dX16_comb_250 rfl (by decide) rfl ?_
        refine x_istore 8 (ls' := [(2, 65), (9, 0), (0, a2), (9, 0), (0, a4), (0, a5), (0, a6), (0, w 68 (b_i ((w 65 8) - 1))), (0, 0)]) dX16_comb_251 rfl rfl rfl ?_
        exact x_fg (fgk (fgk (fgk (fgk (fgk (fgk (fgd (fgk (fgk (fg0)))))))))) h
      · refine x_iconst 0 (z := 0) dX16_comb_230 rfl (by decide) rfl ?_
        exact y_iret dX16_comb_231 rfl h
  · refine x_iload 6 dX16_comb_168 rfl rfl ?_
    refine x_if_lt (t := 210) 40 dX16_comb_170 rfl rfl (b_ite h (fun hc h => ?_) (fun hc h => ?_))
    · refine x_iload 6 dX16_comb_210 rfl rfl ?_
      refine x_if_lt (t := 230) 18 dX16_comb_212 rfl rfl (b_ite h (fun hc h => ?_) (fun hc h => ?_))
      · refine x_iconst 0 (z := 0) dX16_comb_230 rfl (by decide) rfl ?_
        exact y_iret dX16_comb_231 rfl h
      · refine x_aload_n 0 dX16_comb_215 rfl rfl rfl rfl rfl ?_
        refine y_get 56 8 (c := 15) (z := w 65 8) dX16_comb_216 i65 rfl in_X16 q1107 rfl rfl rfl rfl rfl ?_
        refine x_iload 4 dX16_comb_219 rfl rfl ?_
        refine x_iadd dX16_comb_221 rfl ?_
        refine x_iconst 1 (z := 1) dX16_comb_222 rfl (by decide) rfl ?_
        refine x_isub dX16_comb_223 rfl ?_
        refine x_sipush 300 (z := 300) dX16_comb_224 rfl (by decide) rfl ?_
        refine x_icmp_le (t := 232) 5 dX16_comb_227 rfl rfl (b_ite h (fun hc h => ?_) (fun hc h => ?_))
        · refine x_aload_n 0 dX16_comb_232 rfl rfl rfl rfl rfl ?_
          refine y_getF 20 7 (c := 15) (z := 68) dX16_comb_233 i65 rfl in_X16 q1106 rfl rfl rfl fn_65_7 (Nat.le_trans (Nat.le_of_ble_eq_true rfl) hn) rfl ?_
          refine x_aload_n 0 dX16_comb_236 rfl rfl rfl rfl rfl ?_
          refine x_dup dX16_comb_237 rfl rfl ?_
          refine y_get 56 8 (c := 15) (z := w 65 8) dX16_comb_238 i65 rfl in_X16 q1107 rfl rfl rfl rfl rfl ?_
          refine x_iconst 1 (z := 1) dX16_comb_241 rfl (by decide) rfl ?_
          refine x_isub dX16_comb_242 rfl ?_
          refine x_dup_x1 dX16_comb_243 rfl rfl rfl ?_
          refine x_put 56 8 (c := 15) dX16_comb_244 i65 rfl in_X16 tyX16_ok nmX16 q1107 rfl rfl rfl (Or.inl rfl) (Or.inl ⟨rfl, rfl⟩) rfl ?_
          obtain ⟨e2, h⟩ := h
          refine y_iald (z := w 68 (b_i ((w 65 8) - 1))) dX16_comb_247 ⟨310, i68, e2⟩ rfl rfl ?_
          refine x_istore 7 (ls' := [(2, 65), (9, 0), (0, a2), (9, 0), (0, a4), (0, a5), (0, a6), (0, w 68 (b_i ((w 65 8) - 1))), (9, 0)]) dX16_comb_248 rfl rfl rfl ?_
          refine x_iconst 0 (z := 0) dX16_comb_250 rfl (by decide) rfl ?_
          refine x_istore 8 (ls' := [(2, 65), (9, 0), (0, a2), (9, 0), (0, a4), (0, a5), (0, a6), (0, w 68 (b_i ((w 65 8) - 1))), (0, 0)]) dX16_comb_251 rfl rfl rfl ?_
          exact x_fg (fgk (fgk (fgk (fgk (fgk (fgk (fgd (fgk (fgk (fg0)))))))))) h
        · refine x_iconst 0 (z := 0) dX16_comb_230 rfl (by decide) rfl ?_
          exact y_iret dX16_comb_231 rfl h
    · refine x_aload_n 0 dX16_comb_173 rfl rfl rfl rfl rfl ?_
      refine y_getF 32 1 (c := 15) (z := 19) dX16_comb_174 i65 rfl in_X16 q1100 rfl rfl rfl fn_65_1 (Nat.le_trans (Nat.le_of_ble_eq_true rfl) hn) rfl ?_
      refine y_getF 163 0 (c := 6) (z := 20) dX16_comb_177 i19 rfl in_X7 q755 rfl rfl rfl fn_19_0 (Nat.le_trans (Nat.le_of_ble_eq_true rfl) hn) rfl ?_
      refine x_iload 6 dX16_comb_180 rfl rfl ?_
      obtain ⟨e3, h⟩ := h
      refine y_bald (z := w 20 a6) dX16_comb_182 ⟨60000, i20, e3⟩ rfl rfl ?_
      refine x_bipush 18 (z := 18) dX16_comb_183 rfl (by decide) rfl ?_
      refine x_icmp_ne (t := 201) 16 dX16_comb_185 rfl rfl (b_ite h (fun hc h => ?_) (fun hc h => ?_))
      · refine x_iconst (-1) (z := (-1)) dX16_comb_201 rfl (by decide) rfl ?_
        refine x_istore 6 (ls' := [(2, 65), (9, 0), (0, a2), (9, 0), (0, a4), (0, a5), (0, (-1)), (0, a7), (9, 0)]) dX16_comb_202 rfl rfl rfl ?_
        refine x_iinc 7 1 (ls' := [(2, 65), (9, 0), (0, a2), (9, 0), (0, a4), (0, a5), (0, (-1)), (0, b_i (a7 + 1)), (9, 0)]) dX16_comb_204 rfl rfl rfl rfl ?_
        refine x_goto (-46) (q := 161) dX16_comb_207 rfl ?_
        exact x_fg (fgk (fgk (fgk (fgk (fgk (fgk (fgk (fgk (fgk (fg0)))))))))) h
      · refine x_aload_n 0 dX16_comb_188 rfl rfl rfl rfl rfl ?_
        refine y_getF 32 1 (c := 15) (z := 19) dX16_comb_189 i65 rfl in_X16 q1100 rfl rfl rfl fn_65_1 (Nat.le_trans (Nat.le_of_ble_eq_true rfl) hn) rfl ?_
        refine y_getF 169 2 (c := 6) (z := 22) dX16_comb_192 i19 rfl in_X7 q767 rfl rfl rfl fn_19_2 (Nat.le_trans (Nat.le_of_ble_eq_true rfl) hn) rfl ?_
        refine x_iload 6 dX16_comb_195 rfl rfl ?_
        obtain ⟨e4, h⟩ := h
        refine y_iald (z := w 22 a6) dX16_comb_197 ⟨60000, i22, e4⟩ rfl rfl ?_
        refine x_goto 4 (q := 202) dX16_comb_198 rfl ?_
        refine x_istore 6 (ls' := [(2, 65), (9, 0), (0, a2), (9, 0), (0, a4), (0, a5), (0, w 22 a6), (0, a7), (9, 0)]) dX16_comb_202 rfl rfl rfl ?_
        refine x_iinc 7 1 (ls' := [(2, 65), (9, 0), (0, a2), (9, 0), (0, a4), (0, a5), (0, w 22 a6), (0, b_i (a7 + 1)), (9, 0)]) dX16_comb_204 rfl rfl rfl rfl ?_
        refine x_goto (-46) (q := 161) dX16_comb_207 rfl ?_
        exact x_fg (fgk (fgk (fgk (fgk (fgk (fgk (fgk (fgk (fgk (fg0)))))))))) h
theorem sX16_comb_88 {d n : Nat} {w : bW} {Q : Int → bW → Prop} {X : String → bW → Prop} (hn : 143 ≤ n) (a2 : Int) (a4 : Int) (a5 : Int) (a6 : Int) (a7 : Int) (h : if a7 < 0 then (b_K d mX16_become [(2, 65), (0, a4), (0, a6)] n w (fun r1 w2 => b_K d mX16_done [(2, 65), (0, r1), (0, a2), (0, a4), (0, 0), (0, a5)] n w2 (fun r3 w4 => Q r3 w4) X) X) else (if a6 < 0 then (b_K d mX16_become [(2, 65), (0, a4), (0, a6)] n w (fun r5 w6 => b_K d mX16_done [(2, 65), (0, r5), (0, a2), (0, a4), (0, 0), (0, a5)] n w6 (fun r7 w8 => Q r7 w8) X) X) else (b_K d mX16_at [(2, 65), (0, a7)] n w (fun r9 w10 => b_K d mX7_pair [(2, 19), (0, r9), (0, a6)] n w10 (fun r11 w12 => LX16_comb_88 d n Q X a2 a4 a5 r11 (b_i (a7 + (-1))) w12) X) X))) : LX16_comb_88 d n Q X a2 a4 a5 a6 a7 w := by
  have i19 := iz19 (Nat.le_trans (Nat.le_of_ble_eq_true rfl) hn)
  have i65 := iz65 (Nat.le_trans (Nat.le_of_ble_eq_true rfl) hn)
  refine x_iload 7 dX16_comb_88 rfl rfl ?_
  refine x_if_lt (t := 121) 31 dX16_comb_90 rfl rfl (b_ite h (fun hc h => ?_) (fun hc h => ?_))
  · refine x_aload_n 0 dX16_comb_121 rfl rfl rfl rfl rfl ?_
    refine x_aload_n 0 dX16_comb_122 rfl rfl rfl rfl rfl ?_
    refine x_iload 4 dX16_comb_123 rfl rfl ?_
    refine x_iload 6 dX16_comb_125 rfl rfl ?_
    refine y_Vi 278 (M := mX16_become) (As := [(0, a4), (0, a6)]) (st := [(2, 65)]) dX16_comb_127 i65 rfl q2143 q2145 qs49 q383 q2146 rfl hmX16_become rfl rfl rfl rfl rfl rfl rfl rfl (k_mono h (fun r1 w2 h => ?_))
    refine x_iload_n 2 dX16_comb_130 rfl rfl rfl ?_
    refine x_iload 4 dX16_comb_131 rfl rfl ?_
    refine x_iconst 0 (z := 0) dX16_comb_133 rfl (by decide) rfl ?_
    refine x_iload 5 dX16_comb_134 rfl rfl ?_
    refine y_Vi 274 (M := mX16_done) (As := [(0, r1), (0, a2), (0, a4), (0, 0), (0, a5)]) (st := []) dX16_comb_136 i65 rfl q2147 q2149 qs50 q383 q2150 rfl hmX16_done rfl rfl rfl rfl rfl rfl rfl rfl (k_mono h (fun r3 w4 h => ?_))
    exact y_iret dX16_comb_139 rfl h
  · refine x_iload 6 dX16_comb_93 rfl rfl ?_
    refine x_if_lt (t := 121) 26 dX16_comb_95 rfl rfl (b_ite h (fun hc h => ?_) (fun hc h => ?_))
    · refine x_aload_n 0 dX16_comb_121 rfl rfl rfl rfl rfl ?_
      refine x_aload_n 0 dX16_comb_122 rfl rfl rfl rfl rfl ?_
      refine x_iload 4 dX16_comb_123 rfl rfl ?_
      refine x_iload 6 dX16_comb_125 rfl rfl ?_
      refine y_Vi 278 (M := mX16_become) (As := [(0, a4), (0, a6)]) (st := [(2, 65)]) dX16_comb_127 i65 rfl q2143 q2145 qs49 q383 q2146 rfl hmX16_become rfl rfl rfl rfl rfl rfl rfl rfl (k_mono h (fun r5 w6 h => ?_))
      refine x_iload_n 2 dX16_comb_130 rfl rfl rfl ?_
      refine x_iload 4 dX16_comb_131 rfl rfl ?_
      refine x_iconst 0 (z := 0) dX16_comb_133 rfl (by decide) rfl ?_
      refine x_iload 5 dX16_comb_134 rfl rfl ?_
      refine y_Vi 274 (M := mX16_done) (As := [(0, r5), (0, a2), (0, a4), (0, 0), (0, a5)]) (st := []) dX16_comb_136 i65 rfl q2147 q2149 qs50 q383 q2150 rfl hmX16_done rfl rfl rfl rfl rfl rfl rfl rfl (k_mono h (fun r7 w8 h => ?_))
      exact y_iret dX16_comb_139 rfl h
    · refine x_aload_n 0 dX16_comb_98 rfl rfl rfl rfl rfl ?_
      refine y_getF 32 1 (c := 15) (z := 19) dX16_comb_99 i65 rfl in_X16 q1100 rfl rfl rfl fn_65_1 (Nat.le_trans (Nat.le_of_ble_eq_true rfl) hn) rfl ?_
      refine x_aload_n 0 dX16_comb_102 rfl rfl rfl rfl rfl ?_
      refine x_iload 7 dX16_comb_103 rfl rfl ?_
      refine y_Vi 209 (M := mX16_at) (As := [(0, a7)]) (st := [(2, 19)]) dX16_comb_105 i65 rfl q2171 q2173 qs54 q383 q2174 rfl hmX16_at rfl rfl rfl rfl rfl rfl rfl rfl (k_mono h (fun r9 w10 h => ?_))
      refine x_iload 6 dX16_comb_108 rfl rfl ?_
      refine y_Vi 192 (M := mX7_pair) (As := [(0, r9), (0, a6)]) (st := []) dX16_comb_110 i19 rfl q1910 q1863 q1864 q374 q1865 rfl hmX7_pair rfl rfl rfl rfl rfl rfl rfl rfl (k_mono h (fun r11 w12 h => ?_))
      refine x_istore 6 (ls' := [(2, 65), (9, 0), (0, a2), (9, 0), (0, a4), (0, a5), (0, r11), (0, a7), (9, 0)]) dX16_comb_113 rfl rfl rfl ?_
      refine x_iinc 7 (-1) (ls' := [(2, 65), (9, 0), (0, a2), (9, 0), (0, a4), (0, a5), (0, r11), (0, b_i (a7 + (-1))), (9, 0)]) dX16_comb_115 rfl rfl rfl rfl ?_
      refine x_goto (-30) (q := 88) dX16_comb_118 rfl ?_
      exact x_fg (fgk (fgk (fgk (fgk (fgk (fgk (fgk (fgk (fgk (fg0)))))))))) h
theorem sX16_comb_253 {d n : Nat} {w : bW} {Q : Int → bW → Prop} {X : String → bW → Prop} (hn : 143 ≤ n) (a2 : Int) (a4 : Int) (a5 : Int) (a7 : Int) (a8 : Int) (h : if a4 ≤ a8 then (b_K d mX16_done [(2, 65), (0, 1), (0, a2), (0, a4), (0, 0), (0, a5)] n (b_up w 65 8 (b_i ((w 65 8) + a4))) (fun r1 w2 => Q r1 w2) X) else (if b_i (a4 - 1) ≤ a8 then ((0 ≤ b_i ((b_i ((b_i ((w 65 8) + a4)) - 1)) - a8) ∧ b_i ((b_i ((b_i ((w 65 8) + a4)) - 1)) - a8) < 310) ∧ (if b_i (a4 - 1) ≤ a8 then (LX16_comb_253 d n Q X a2 a4 a5 a7 (b_i (a8 + 1)) (b_up w 68 (b_i ((b_i ((b_i ((w 65 8) + a4)) - 1)) - a8)) a7)) else ((0 ≤ a7 ∧ a7 < 60000) ∧ (LX16_comb_253 d n Q X a2 a4 a5 (w 22 a7) (b_i (a8 + 1)) (b_up w 68 (b_i ((b_i ((b_i ((w 65 8) + a4)) - 1)) - a8)) a7))))) else ((0 ≤ a7 ∧ a7 < 60000) ∧ ((0 ≤ b_i ((b_i ((b_i ((w 65 8) + a4)) - 1)) - a8) ∧ b_i ((b_i ((b_i ((w 65 8) + a4)) - 1)) - a8) < 310) ∧ (if b_i (a4 - 1) ≤ a8 then (LX16_comb_253 d n Q X a2 a4 a5 a7 (b_i (a8 + 1)) (b_up w 68 (b_i ((b_i ((b_i ((w 65 8) + a4)) - 1)) - a8)) (w 21 a7))) else ((0 ≤ a7 ∧ a7 < 60000) ∧ (LX16_comb_253 d n Q X a2 a4 a5 (w 22 a7) (b_i (a8 + 1)) (b_up w 68 (b_i ((b_i ((b_i ((w 65 8) + a4)) - 1)) - a8)) (w 21 a7))))))))) : LX16_comb_253 d n Q X a2 a4 a5 a7 a8 w := by
  have i19 := iz19 (Nat.le_trans (Nat.le_of_ble_eq_true rfl) hn)
  have i21 := iz21 (Nat.le_trans (Nat.le_of_ble_eq_true rfl) hn)
  have i22 := iz22 (Nat.le_trans (Nat.le_of_ble_eq_true rfl) hn)
  have i65 := iz65 (Nat.le_trans (Nat.le_of_ble_eq_true rfl) hn)
  have i68 := iz68 (Nat.le_trans (Nat.le_of_ble_eq_true rfl) hn)
  refine x_iload 8 dX16_comb_253 rfl rfl ?_
  refine x_iload 4 dX16_comb_255 rfl rfl ?_
  refine x_icmp_ge (t := 333) 76 dX16_comb_257 rfl rfl (b_ite h (fun hc h => ?_) (fun hc h => ?_))
  · refine x_aload_n 0 dX16_comb_333 rfl rfl rfl rfl rfl ?_
    refine x_dup dX16_comb_334 rfl rfl ?_
    refine y_get 56 8 (c := 15) (z := w 65 8) dX16_comb_335 i65 rfl in_X16 q1107 rfl rfl rfl rfl rfl ?_
    refine x_iload 4 dX16_comb_338 rfl rfl ?_
    refine x_iadd dX16_comb_340 rfl ?_
    refine x_put 56 8 (c := 15) dX16_comb_341 i65 rfl in_X16 tyX16_ok nmX16 q1107 rfl rfl rfl (Or.inl rfl) (Or.inl ⟨rfl, rfl⟩) rfl ?_
    refine x_aload_n 0 dX16_comb_344 rfl rfl rfl rfl rfl ?_
    refine x_iconst 1 (z := 1) dX16_comb_345 rfl (by decide) rfl ?_
    refine x_iload_n 2 dX16_comb_346 rfl rfl rfl ?_
    refine x_iload 4 dX16_comb_347 rfl rfl ?_
    refine x_iconst 0 (z := 0) dX16_comb_349 rfl (by decide) rfl ?_
    refine x_iload 5 dX16_comb_350 rfl rfl ?_
    refine y_Vi 274 (M := mX16_done) (As := [(0, 1), (0, a2), (0, a4), (0, 0), (0, a5)]) (st := []) dX16_comb_352 i65 rfl q2147 q2149 qs50 q383 q2150 rfl hmX16_done rfl rfl rfl rfl rfl rfl rfl rfl (k_mono h (fun r1 w2 h => ?_))
    exact y_iret dX16_comb_355 rfl h
  · refine x_aload_n 0 dX16_comb_260 rfl rfl rfl rfl rfl ?_
    refine y_getF 20 7 (c := 15) (z := 68) dX16_comb_261 i65 rfl in_X16 q1106 rfl rfl rfl fn_65_7 (Nat.le_trans (Nat.le_of_ble_eq_true rfl) hn) rfl ?_
    refine x_aload_n 0 dX16_comb_264 rfl rfl rfl rfl rfl ?_
    refine y_get 56 8 (c := 15) (z := w 65 8) dX16_comb_265 i65 rfl in_X16 q1107 rfl rfl rfl rfl rfl ?_
    refine x_iload 4 dX16_comb_268 rfl rfl ?_
    refine x_iadd dX16_comb_270 rfl ?_
    refine x_iconst 1 (z := 1) dX16_comb_271 rfl (by decide) rfl ?_
    refine x_isub dX16_comb_272 rfl ?_
    refine x_iload 8 dX16_comb_273 rfl rfl ?_
    refine x_isub dX16_comb_275 rfl ?_
    refine x_iload 8 dX16_comb_276 rfl rfl ?_
    refine x_iload 4 dX16_comb_278 rfl rfl ?_
    refine x_iconst 1 (z := 1) dX16_comb_280 rfl (by decide) rfl ?_
    refine x_isub dX16_comb_281 rfl ?_
    refine x_icmp_ge (t := 298) 16 dX16_comb_282 rfl rfl (b_ite h (fun hc h => ?_) (fun hc h => ?_))
    · refine x_iload 7 dX16_comb_298 rfl rfl ?_
      obtain ⟨e3, h⟩ := h
      refine y_iast (x' := a7) dX16_comb_300 ⟨310, i68, e3⟩ rfl rfl ?_
      refine x_iload 8 dX16_comb_301 rfl rfl ?_
      refine x_iload 4 dX16_comb_303 rfl rfl ?_
      refine x_iconst 1 (z := 1) dX16_comb_305 rfl (by decide) rfl ?_
      refine x_isub dX16_comb_306 rfl ?_
      refine x_icmp_ge (t := 323) 16 dX16_comb_307 rfl rfl (b_ite h (fun hc h => ?_) (fun hc h => ?_))
      · refine x_iload 7 dX16_comb_323 rfl rfl ?_
        refine x_istore 7 (ls' := [(2, 65), (9, 0), (0, a2), (9, 0), (0, a4), (0, a5), (9, 0), (0, a7), (0, a8)]) dX16_comb_325 rfl rfl rfl ?_
        refine x_iinc 8 1 (ls' := [(2, 65), (9, 0), (0, a2), (9, 0), (0, a4), (0, a5), (9, 0), (0, a7), (0, b_i (a8 + 1))]) dX16_comb_327 rfl rfl rfl rfl ?_
        refine x_goto (-77) (q := 253) dX16_comb_330 rfl ?_
        exact x_fg (fgk (fgk (fgk (fgk (fgk (fgk (fgk (fgk (fgk (fg0)))))))))) h
      · refine x_aload_n 0 dX16_comb_310 rfl rfl rfl rfl rfl ?_
        refine y_getF 32 1 (c := 15) (z := 19) dX16_comb_311 i65 rfl in_X16 q1100 rfl rfl rfl fn_65_1 (Nat.le_trans (Nat.le_of_ble_eq_true rfl) hn) rfl ?_
        refine y_getF 169 2 (c := 6) (z := 22) dX16_comb_314 i19 rfl in_X7 q767 rfl rfl rfl fn_19_2 (Nat.le_trans (Nat.le_of_ble_eq_true rfl) hn) rfl ?_
        refine x_iload 7 dX16_comb_317 rfl rfl ?_
        obtain ⟨e4, h⟩ := h
        refine y_iald (z := w 22 a7) dX16_comb_319 ⟨60000, i22, e4⟩ rfl rfl ?_
        refine x_goto 5 (q := 325) dX16_comb_320 rfl ?_
        refine x_istore 7 (ls' := [(2, 65), (9, 0), (0, a2), (9, 0), (0, a4), (0, a5), (9, 0), (0, w 22 a7), (0, a8)]) dX16_comb_325 rfl rfl rfl ?_
        refine x_iinc 8 1 (ls' := [(2, 65), (9, 0), (0, a2), (9, 0), (0, a4), (0, a5), (9, 0), (0, w 22 a7), (0, b_i (a8 + 1))]) dX16_comb_327 rfl rfl rfl rfl ?_
        refine x_goto (-77) (q := 253) dX16_comb_330 rfl ?_
        exact x_fg (fgk (fgk (fgk (fgk (fgk (fgk (fgk (fgk (fgk (fg0)))))))))) h
    · refine x_aload_n 0 dX16_comb_285 rfl rfl rfl rfl rfl ?_
      refine y_getF 32 1 (c := 15) (z := 19) dX16_comb_286 i65 rfl in_X16 q1100 rfl rfl rfl fn_65_1 (Nat.le_trans (Nat.le_of_ble_eq_true rfl) hn) rfl ?_
      refine y_getF 166 1 (c := 6) (z := 21) dX16_comb_289 i19 rfl in_X7 q761 rfl rfl rfl fn_19_1 (Nat.le_trans (Nat.le_of_ble_eq_true rfl) hn) rfl ?_
      refine x_iload 7 dX16_comb_292 rfl rfl ?_
      obtain ⟨e5, h⟩ := h
      refine y_iald (z := w 21 a7) dX16_comb_294 ⟨60000, i21, e5⟩ rfl rfl ?_
      refine x_goto 5 (q := 300) dX16_comb_295 rfl ?_
      obtain ⟨e6, h⟩ := h
      refine y_iast (x' := w 21 a7) dX16_comb_300 ⟨310, i68, e6⟩ rfl rfl ?_
      refine x_iload 8 dX16_comb_301 rfl rfl ?_
      refine x_iload 4 dX16_comb_303 rfl rfl ?_
      refine x_iconst 1 (z := 1) dX16_comb_305 rfl (by decide) rfl ?_
      refine x_isub dX16_comb_306 rfl ?_
      refine x_icmp_ge (t := 323) 16 dX16_comb_307 rfl rfl (b_ite h (fun hc h => ?_) (fun hc h => ?_))
      · refine x_iload 7 dX16_comb_323 rfl rfl ?_
        refine x_istore 7 (ls' := [(2, 65), (9, 0), (0, a2), (9, 0), (0, a4), (0, a5), (9, 0), (0, a7), (0, a8)]) dX16_comb_325 rfl rfl rfl ?_
        refine x_iinc 8 1 (ls' := [(2, 65), (9, 0), (0, a2), (9, 0), (0, a4), (0, a5), (9, 0), (0, a7), (0, b_i (a8 + 1))]) dX16_comb_327 rfl rfl rfl rfl ?_
        refine x_goto (-77) (q := 253) dX16_comb_330 rfl ?_
        exact x_fg (fgk (fgk (fgk (fgk (fgk (fgk (fgk (fgk (fgk (fg0)))))))))) h
      · refine x_aload_n 0 dX16_comb_310 rfl rfl rfl rfl rfl ?_
        refine y_getF 32 1 (c := 15) (z := 19) dX16_comb_311 i65 rfl in_X16 q1100 rfl rfl rfl fn_65_1 (Nat.le_trans (Nat.le_of_ble_eq_true rfl) hn) rfl ?_
        refine y_getF 169 2 (c := 6) (z := 22) dX16_comb_314 i19 rfl in_X7 q767 rfl rfl rfl fn_19_2 (Nat.le_trans (Nat.le_of_ble_eq_true rfl) hn) rfl ?_
        refine x_iload 7 dX16_comb_317 rfl rfl ?_
        obtain ⟨e7, h⟩ := h
        refine y_iald (z := w 22 a7) dX16_comb_319 ⟨60000, i22, e7⟩ rfl rfl ?_
        refine x_goto 5 (q := 325) dX16_comb_320 rfl ?_
        refine x_istore 7 (ls' := [(2, 65), (9, 0), (0, a2), (9, 0), (0, a4), (0, a5), (9, 0), (0, w 22 a7), (0, a8)]) dX16_comb_325 rfl rfl rfl ?_
        refine x_iinc 8 1 (ls' := [(2, 65), (9, 0), (0, a2), (9, 0), (0, a4), (0, a5), (9, 0), (0, w 22 a7), (0, b_i (a8 + 1))]) dX16_comb_327 rfl rfl rfl rfl ?_
        refine x_goto (-77) (q := 253) dX16_comb_330 rfl ?_
        exact x_fg (fgk (fgk (fgk (fgk (fgk (fgk (fgk (fgk (fgk (fg0)))))))))) h
theorem rX16_word {d n : Nat} {w : bW} {Q : Int → bW → Prop} {X : String → bW → Prop} (hn : 143 ≤ n) (a1 : Int) (h : if w 65 8 ≤ a1 then (Q (-1) w) else (b_K d mX16_at [(2, 65), (0, a1)] n w (fun r1 w2 => (0 ≤ r1 ∧ r1 < 60000) ∧ (Q (w2 20 r1) w2)) X)) : b_K (d + 1) mX16_word [(2, 65), (0, a1)] n w Q X := by
  have i19 := iz19 (Nat.le_trans (Nat.le_of_ble_eq_true rfl) hn)
  have i20 := iz20 (Nat.le_trans (Nat.le_of_ble_eq_true rfl) hn)
  have i65 := iz65 (Nat.le_trans (Nat.le_of_ble_eq_true rfl) hn)
  refine k_of (by decide) rfl rfl rfl (ls := [(2, 65), (0, a1)]) rfl ?_
  refine x_iload_n 1 dX16_word_0 rfl rfl rfl ?_
  refine x_aload_n 0 dX16_word_1 rfl rfl rfl rfl rfl ?_
  refine y_get 56 8 (c := 15) (z := w 65 8) dX16_word_2 i65 rfl in_X16 q1107 rfl rfl rfl rfl rfl ?_
  refine x_icmp_ge (t := 24) 19 dX16_word_5 rfl rfl (b_ite h (fun hc h => ?_) (fun hc h => ?_))
  · refine x_iconst (-1) (z := (-1)) dX16_word_24 rfl (by decide) rfl ?_
    exact y_iret dX16_word_25 rfl h
  · refine x_aload_n 0 dX16_word_8 rfl rfl rfl rfl rfl ?_
    refine y_getF 32 1 (c := 15) (z := 19) dX16_word_9 i65 rfl in_X16 q1100 rfl rfl rfl fn_65_1 (Nat.le_trans (Nat.le_of_ble_eq_true rfl) hn) rfl ?_
    refine y_getF 163 0 (c := 6) (z := 20) dX16_word_12 i19 rfl in_X7 q755 rfl rfl rfl fn_19_0 (Nat.le_trans (Nat.le_of_ble_eq_true rfl) hn) rfl ?_
    refine x_aload_n 0 dX16_word_15 rfl rfl rfl rfl rfl ?_
    refine x_iload_n 1 dX16_word_16 rfl rfl rfl ?_
    refine y_Vi 209 (M := mX16_at) (As := [(0, a1)]) (st := [(2, 20)]) dX16_word_17 i65 rfl q2171 q2173 qs54 q383 q2174 rfl hmX16_at rfl rfl rfl rfl rfl rfl rfl rfl (k_mono h (fun r1 w2 h => ?_))
    obtain ⟨e3, h⟩ := h
    refine y_bald (z := w2 20 r1) dX16_word_20 ⟨60000, i20, e3⟩ rfl rfl ?_
    refine x_goto 4 (q := 25) dX16_word_21 rfl ?_
    exact y_iret dX16_word_25 rfl h
theorem rX16_left {d n : Nat} {w : bW} {Q : Int → bW → Prop} {X : String → bW → Prop} (hn : 143 ≤ n) (a1 : Int) (h : b_K d mX16_at [(2, 65), (0, a1)] n w (fun r1 w2 => (0 ≤ r1 ∧ r1 < 60000) ∧ (Q (w2 21 r1) w2)) X) : b_K (d + 1) mX16_left [(2, 65), (0, a1)] n w Q X := by
  have i19 := iz19 (Nat.le_trans (Nat.le_of_ble_eq_true rfl) hn)
  have i21 := iz21 (Nat.le_trans (Nat.le_of_ble_eq_true rfl) hn)
  have i65 := iz65 (Nat.le_trans (Nat.le_of_ble_eq_true rfl) hn)
  refine k_of (by decide) rfl rfl rfl (ls := [(2, 65), (0, a1)]) rfl ?_
  refine x_aload_n 0 dX16_left_0 rfl rfl rfl rfl rfl ?_
  refine y_getF 32 1 (c := 15) (z := 19) dX16_left_1 i65 rfl in_X16 q1100 rfl rfl rfl fn_65_1 (Nat.le_trans (Nat.le_of_ble_eq_true rfl) hn) rfl ?_
  refine y_getF 166 1 (c := 6) (z := 21) dX16_left_4 i19 rfl in_X7 q761 rfl rfl rfl fn_19_1 (Nat.le_trans (Nat.le_of_ble_eq_true rfl) hn) rfl ?_
  refine x_aload_n 0 dX16_left_7 rfl rfl rfl rfl rfl ?_
  refine x_iload_n 1 dX16_left_8 rfl rfl rfl ?_
  refine y_Vi 209 (M := mX16_at) (As := [(0, a1)]) (st := [(2, 21)]) dX16_left_9 i65 rfl q2171 q2173 qs54 q383 q2174 rfl hmX16_at rfl rfl rfl rfl rfl rfl rfl rfl (k_mono h (fun r1 w2 h => ?_))
  obtain ⟨e3, h⟩ := h
  refine y_iald (z := w2 21 r1) dX16_left_12 ⟨60000, i21, e3⟩ rfl rfl ?_
  exact y_iret dX16_left_13 rfl h
theorem rX16_right {d n : Nat} {w : bW} {Q : Int → bW → Prop} {X : String → bW → Prop} (hn : 143 ≤ n) (a1 : Int) (h : b_K d mX16_at [(2, 65), (0, a1)] n w (fun r1 w2 => (0 ≤ r1 ∧ r1 < 60000) ∧ (Q (w2 22 r1) w2)) X) : b_K (d + 1) mX16_right [(2, 65), (0, a1)] n w Q X := by
  have i19 := iz19 (Nat.le_trans (Nat.le_of_ble_eq_true rfl) hn)
  have i22 := iz22 (Nat.le_trans (Nat.le_of_ble_eq_true rfl) hn)
  have i65 := iz65 (Nat.le_trans (Nat.le_of_ble_eq_true rfl) hn)
  refine k_of (by decide) rfl rfl rfl (ls := [(2, 65), (0, a1)]) rfl ?_
  refine x_aload_n 0 dX16_right_0 rfl rfl rfl rfl rfl ?_
  refine y_getF 32 1 (c := 15) (z := 19) dX16_right_1 i65 rfl in_X16 q1100 rfl rfl rfl fn_65_1 (Nat.le_trans (Nat.le_of_ble_eq_true rfl) hn) rfl ?_
  refine y_getF 169 2 (c := 6) (z := 22) dX16_right_4 i19 rfl in_X7 q767 rfl rfl rfl fn_19_2 (Nat.le_trans (Nat.le_of_ble_eq_true rfl) hn) rfl ?_
  refine x_aload_n 0 dX16_right_7 rfl rfl rfl rfl rfl ?_
  refine x_iload_n 1 dX16_right_8 rfl rfl rfl ?_
  refine y_Vi 209 (M := mX16_at) (As := [(0, a1)]) (st := [(2, 22)]) dX16_right_9 i65 rfl q2171 q2173 qs54 q383 q2174 rfl hmX16_at rfl rfl rfl rfl rfl rfl rfl rfl (k_mono h (fun r1 w2 h => ?_))
  obtain ⟨e3, h⟩ := h
  refine y_iald (z := w2 22 r1) dX16_right_12 ⟨60000, i22, e3⟩ rfl rfl ?_
  exact y_iret dX16_right_13 rfl h
abbrev LX16_told_2_30 (d n : Nat) (Q : Int → bW → Prop) (X : String → bW → Prop) (a1 : Int) (a2 : Int) (a4 : Int) (s0 : Int) (s1 : Int) (w : bW) : Prop := b_Y (d + 1) mX16_told_2 n Q X 30 [(2, 65), (0, a1), (0, a2), (9, 0), (0, a4), (9, 0), (9, 0), (9, 0), (9, 0)] [(0, s0), (0, s1)] w
abbrev LX16_told_2_77 (d n : Nat) (Q : Int → bW → Prop) (X : String → bW → Prop) (a2 : Int) (a5 : Int) (a6 : Int) (w : bW) : Prop := b_Y (d + 1) mX16_told_2 n Q X 77 [(2, 65), (9, 0), (0, a2), (9, 0), (9, 0), (0, a5), (0, a6), (9, 0), (9, 0)] [] w
abbrev LX16_told_2_284 (d n : Nat) (Q : Int → bW → Prop) (X : String → bW → Prop) (a2 : Int) (a5 : Int) (a6 : Int) (s0 : Int) (w : bW) : Prop := b_Y (d + 1) mX16_told_2 n Q X 284 [(2, 65), (9, 0), (0, a2), (9, 0), (9, 0), (0, a5), (0, a6), (9, 0), (9, 0)] [(0, s0)] w
theorem rX16_told_2 {d n : Nat} {w : bW} {Q : Int → bW → Prop} {X : String → bW → Prop} (hn : 143 ≤ n) (a1 : Int) (a2 : Int) (a3 : Int) (h : if a2 = 50 then (LX16_told_2_30 d n Q X a1 a2 1 2 a3 w) else (if a2 ≠ 51 then (LX16_told_2_30 d n Q X a1 a2 0 1 a3 w) else (LX16_told_2_30 d n Q X a1 a2 1 2 a3 w))) : b_K (d + 1) mX16_told_2 [(2, 65), (0, a1), (0, a2), (0, a3)] n w Q X := by
  refine k_of (by decide) rfl rfl rfl (ls := [(2, 65), (0, a1), (0, a2), (0, a3), (9, 0), (9, 0), (9, 0), (9, 0), (9, 0)]) rfl ?_
  refine x_iload_n 2 dX16_told_2_0 rfl rfl rfl ?_
  refine x_bipush 50 (z := 50) dX16_told_2_1 rfl (by decide) rfl ?_
  refine x_icmp_eq (t := 12) 9 dX16_told_2_3 rfl rfl (b_ite h (fun hc h => ?_) (fun hc h => ?_))
  · refine x_iconst 1 (z := 1) dX16_told_2_12 rfl (by decide) rfl ?_
    refine x_goto 4 (q := 17) dX16_told_2_13 rfl ?_
    refine x_istore 4 (ls' := [(2, 65), (0, a1), (0, a2), (0, a3), (0, 1), (9, 0), (9, 0), (9, 0), (9, 0)]) dX16_told_2_17 rfl rfl rfl ?_
    refine x_iload_n 3 dX16_told_2_19 rfl rfl rfl ?_
    refine x_iload 4 dX16_told_2_20 rfl rfl ?_
    refine x_if_eq (t := 29) 7 dX16_told_2_22 rfl rfl (b_ifF (by decide) ?_)
    refine x_iconst 2 (z := 2) dX16_told_2_25 rfl (by decide) rfl ?_
    refine x_goto 4 (q := 30) dX16_told_2_26 rfl ?_
    exact x_fg (fgk (fgk (fgk (fgd (fgk (fgk (fgk (fgk (fgk (fg0)))))))))) h
  · refine x_iload_n 2 dX16_told_2_6 rfl rfl rfl ?_
    refine x_bipush 51 (z := 51) dX16_told_2_7 rfl (by decide) rfl ?_
    refine x_icmp_ne (t := 16) 7 dX16_told_2_9 rfl rfl (b_ite h (fun hc h => ?_) (fun hc h => ?_))
    · refine x_iconst 0 (z := 0) dX16_told_2_16 rfl (by decide) rfl ?_
      refine x_istore 4 (ls' := [(2, 65), (0, a1), (0, a2), (0, a3), (0, 0), (9, 0), (9, 0), (9, 0), (9, 0)]) dX16_told_2_17 rfl rfl rfl ?_
      refine x_iload_n 3 dX16_told_2_19 rfl rfl rfl ?_
      refine x_iload 4 dX16_told_2_20 rfl rfl ?_
      refine x_if_eq (t := 29) 7 dX16_told_2_22 rfl rfl (b_ifT (by decide) ?_)
      refine x_iconst 1 (z := 1) dX16_told_2_29 rfl (by decide) rfl ?_
      exact x_fg (fgk (fgk (fgk (fgd (fgk (fgk (fgk (fgk (fgk (fg0)))))))))) h
    · refine x_iconst 1 (z := 1) dX16_told_2_12 rfl (by decide) rfl ?_
      refine x_goto 4 (q := 17) dX16_told_2_13 rfl ?_
      refine x_istore 4 (ls' := [(2, 65), (0, a1), (0, a2), (0, a3), (0, 1), (9, 0), (9, 0), (9, 0), (9, 0)]) dX16_told_2_17 rfl rfl rfl ?_
      refine x_iload_n 3 dX16_told_2_19 rfl rfl rfl ?_
      refine x_iload 4 dX16_told_2_20 rfl rfl ?_
      refine x_if_eq (t := 29) 7 dX16_told_2_22 rfl rfl (b_ifF (by decide) ?_)
      refine x_iconst 2 (z := 2) dX16_told_2_25 rfl (by decide) rfl ?_
      refine x_goto 4 (q := 30) dX16_told_2_26 rfl ?_
      exact x_fg (fgk (fgk (fgk (fgd (fgk (fgk (fgk (fgk (fgk (fg0)))))))))) h
theorem sX16_told_2_30 {d n : Nat} {w : bW} {Q : Int → bW → Prop} {X : String → bW → Prop} (hn : 143 ≤ n) (a1 : Int) (a2 : Int) (a4 : Int) (s0 : Int) (s1 : Int) (h : if s1 = s0 then (b_K d mX16_typeAt [(2, 65), (0, a1), (0, 0)] n w (fun r1 w2 => if a4 = 0 then (if r1 < 0 then (Q 0 w2) else (if a4 = 0 then (LX16_told_2_77 d n Q X a2 r1 (-1) w2) else (Q 0 w2))) else (b_K d mX16_typeAt [(2, 65), (0, a1), (0, 1)] n w2 (fun r3 w4 => if r1 < 0 then (Q 0 w4) else (if a4 = 0 then (LX16_told_2_77 d n Q X a2 r1 r3 w4) else (if 0 ≤ r3 then (LX16_told_2_77 d n Q X a2 r1 r3 w4) else (Q 0 w4)))) X)) X) else (Q 0 w)) : LX16_told_2_30 d n Q X a1 a2 a4 s0 s1 w := by
  have i65 := iz65 (Nat.le_trans (Nat.le_of_ble_eq_true rfl) hn)
  refine x_icmp_eq (t := 35) 5 dX16_told_2_30 rfl rfl (b_ite h (fun hc h => ?_) (fun hc h => ?_))
  · refine x_aload_n 0 dX16_told_2_35 rfl rfl rfl rfl rfl ?_
    refine x_iload_n 1 dX16_told_2_36 rfl rfl rfl ?_
    refine x_iconst 0 (z := 0) dX16_told_2_37 rfl (by decide) rfl ?_
    refine y_Vi 285 (M := mX16_typeAt) (As := [(0, a1), (0, 0)]) (st := []) dX16_told_2_38 i65 rfl q1928 q1930 qs34 q383 q1931 rfl hmX16_typeAt rfl rfl rfl rfl rfl rfl rfl rfl (k_mono h (fun r1 w2 h => ?_))
    refine x_istore 5 (ls' := [(2, 65), (0, a1), (0, a2), (9, 0), (0, a4), (0, r1), (9, 0), (9, 0), (9, 0)]) dX16_told_2_41 rfl rfl rfl ?_
    refine x_iload 4 dX16_told_2_43 rfl rfl ?_
    refine x_if_eq (t := 57) 12 dX16_told_2_45 rfl rfl (b_ite h (fun hc h => ?_) (fun hc h => ?_))
    · refine x_iconst (-1) (z := (-1)) dX16_told_2_57 rfl (by decide) rfl ?_
      refine x_istore 6 (ls' := [(2, 65), (0, a1), (0, a2), (9, 0), (0, a4), (0, r1), (0, (-1)), (9, 0), (9, 0)]) dX16_told_2_58 rfl rfl rfl ?_
      refine x_iload 5 dX16_told_2_60 rfl rfl ?_
      refine x_if_lt (t := 75) 13 dX16_told_2_62 rfl rfl (b_ite h (fun hc h => ?_) (fun hc h => ?_))
      · refine x_iconst 0 (z := 0) dX16_told_2_75 rfl (by decide) rfl ?_
        exact y_iret dX16_told_2_76 rfl h
      · refine x_iload 4 dX16_told_2_65 rfl rfl ?_
        refine x_if_eq (t := 77) 10 dX16_told_2_67 rfl rfl (b_ite h (fun hc h => ?_) (fun hc h => ?_))
        · exact x_fg (fgk (fgd (fgk (fgk (fgd (fgk (fgk (fgk (fgk (fg0)))))))))) h
        · refine x_iload 6 dX16_told_2_70 rfl rfl ?_
          refine x_if_ge (t := 77) 5 dX16_told_2_72 rfl rfl (b_ifF (by decide) ?_)
          refine x_iconst 0 (z := 0) dX16_told_2_75 rfl (by decide) rfl ?_
          exact y_iret dX16_told_2_76 rfl h
    · refine x_aload_n 0 dX16_told_2_48 rfl rfl rfl rfl rfl ?_
      refine x_iload_n 1 dX16_told_2_49 rfl rfl rfl ?_
      refine x_iconst 1 (z := 1) dX16_told_2_50 rfl (by decide) rfl ?_
      refine y_Vi 285 (M := mX16_typeAt) (As := [(0, a1), (0, 1)]) (st := []) dX16_told_2_51 i65 rfl q1928 q1930 qs34 q383 q1931 rfl hmX16_typeAt rfl rfl rfl rfl rfl rfl rfl rfl (k_mono h (fun r3 w4 h => ?_))
      refine x_goto 4 (q := 58) dX16_told_2_54 rfl ?_
      refine x_istore 6 (ls' := [(2, 65), (0, a1), (0, a2), (9, 0), (0, a4), (0, r1), (0, r3), (9, 0), (9, 0)]) dX16_told_2_58 rfl rfl rfl ?_
      refine x_iload 5 dX16_told_2_60 rfl rfl ?_
      refine x_if_lt (t := 75) 13 dX16_told_2_62 rfl rfl (b_ite h (fun hc h => ?_) (fun hc h => ?_))
      · refine x_iconst 0 (z := 0) dX16_told_2_75 rfl (by decide) rfl ?_
        exact y_iret dX16_told_2_76 rfl h
      · refine x_iload 4 dX16_told_2_65 rfl rfl ?_
        refine x_if_eq (t := 77) 10 dX16_told_2_67 rfl rfl (b_ite h (fun hc h => ?_) (fun hc h => ?_))
        · exact x_fg (fgk (fgd (fgk (fgk (fgd (fgk (fgk (fgk (fgk (fg0)))))))))) h
        · refine x_iload 6 dX16_told_2_70 rfl rfl ?_
          refine x_if_ge (t := 77) 5 dX16_told_2_72 rfl rfl (b_ite h (fun hc h => ?_) (fun hc h => ?_))
          · exact x_fg (fgk (fgd (fgk (fgk (fgd (fgk (fgk (fgk (fgk (fg0)))))))))) h
          · refine x_iconst 0 (z := 0) dX16_told_2_75 rfl (by decide) rfl ?_
            exact y_iret dX16_told_2_76 rfl h
  · refine x_iconst 0 (z := 0) dX16_told_2_33 rfl (by decide) rfl ?_
    exact y_iret dX16_told_2_34 rfl h
theorem sX16_told_2_77 {d n : Nat} {w : bW} {Q : Int → bW → Prop} {X : String → bW → Prop} (hn : 143 ≤ n) (a2 : Int) (a5 : Int) (a6 : Int) (h : if a2 = 44 then (b_K d mX7_option [(2, 19), (0, a5)] n w (fun r1 w2 => b_K d mX16_become [(2, 65), (0, 0), (0, r1)] n w2 (fun r3 w4 => b_K d mX16_done [(2, 65), (0, r3), (0, a2), (0, 0), (0, 0), (0, 0)] n w4 (fun r5 w6 => Q r5 w6) X) X) X) else (if a2 = 45 then (if w 65 8 ≤ 0 then (b_K d mX16_done [(2, 65), (0, 0), (0, a2), (0, 0), (0, 0), (0, 0)] n w (fun r7 w8 => Q r7 w8) X) else (b_K d mX16_at [(2, 65), (0, 0)] n w (fun r9 w10 => b_K d mX7_make [(2, 19), (0, 14), (0, r9), (0, a5)] n w10 (fun r11 w12 => b_K d mX16_become [(2, 65), (0, 1), (0, r11)] n w12 (fun r13 w14 => if r13 = 0 then (b_K d mX16_done [(2, 65), (0, 0), (0, a2), (0, 0), (0, 0), (0, 0)] n w14 (fun r15 w16 => Q r15 w16) X) else (b_K d mX16_done [(2, 65), (0, 1), (0, a2), (0, 0), (0, 0), (0, 0)] n w14 (fun r17 w18 => Q r17 w18) X)) X) X) X)) else (if a2 = 46 then (if w 65 8 ≤ 0 then (b_K d mX16_done [(2, 65), (0, 0), (0, a2), (0, 0), (0, 0), (0, 0)] n w (fun r19 w20 => Q r19 w20) X) else (b_K d mX16_at [(2, 65), (0, 0)] n w (fun r21 w22 => b_K d mX7_make [(2, 19), (0, 14), (0, a5), (0, r21)] n w22 (fun r23 w24 => b_K d mX16_become [(2, 65), (0, 1), (0, r23)] n w24 (fun r25 w26 => if r25 = 0 then (b_K d mX16_done [(2, 65), (0, 0), (0, a2), (0, 0), (0, 0), (0, 0)] n w26 (fun r27 w28 => Q r27 w28) X) else (b_K d mX16_done [(2, 65), (0, 1), (0, a2), (0, 0), (0, 0), (0, 0)] n w26 (fun r29 w30 => Q r29 w30) X)) X) X) X)) else (if a2 = 47 then (b_K d mX7_make [(2, 19), (0, 11), (0, a5), (0, (-1))] n w (fun r31 w32 => b_K d mX16_become [(2, 65), (0, 0), (0, r31)] n w32 (fun r33 w34 => b_K d mX16_done [(2, 65), (0, r33), (0, a2), (0, 0), (0, 0), (0, 0)] n w34 (fun r35 w36 => Q r35 w36) X) X) X) else ((b_K d mX7_is [(2, 19), (0, a5), (0, 1)] n w (fun r37 w38 => if r37 = 0 then (LX16_told_2_284 d n Q X a2 a5 a6 0 w38) else (if a2 ≠ 51 then (LX16_told_2_284 d n Q X a2 a5 a6 1 w38) else (b_K d mX7_is [(2, 19), (0, a6), (0, 2)] n w38 (fun r39 w40 => if r39 = 0 then (LX16_told_2_284 d n Q X a2 a5 a6 0 w40) else (LX16_told_2_284 d n Q X a2 a5 a6 1 w40)) X))) X)))))) : LX16_told_2_77 d n Q X a2 a5 a6 w := by
  have i19 := iz19 (Nat.le_trans (Nat.le_of_ble_eq_true rfl) hn)
  have i65 := iz65 (Nat.le_trans (Nat.le_of_ble_eq_true rfl) hn)
  refine x_iload_n 2 dX16_told_2_77 rfl rfl rfl ?_
  refine b_itc h (fun hc h => ?_) (fun hn0 h => ?_)
  · have key : b_Y (d + 1) mX16_told_2 n Q X 108 [(2, 65), (9, 0), (0, a2), (9, 0), (9, 0), (0, a5), (0, a6), (9, 0), (9, 0)] [] w := by
      refine x_aload_n 0 dX16_told_2_108 rfl rfl rfl rfl rfl ?_
      refine x_aload_n 0 dX16_told_2_109 rfl rfl rfl rfl rfl ?_
      refine x_iconst 0 (z := 0) dX16_told_2_110 rfl (by decide) rfl ?_
      refine x_aload_n 0 dX16_told_2_111 rfl rfl rfl rfl rfl ?_
      refine y_getF 32 1 (c := 15) (z := 19) dX16_told_2_112 i65 rfl in_X16 q1100 rfl rfl rfl fn_65_1 (Nat.le_trans (Nat.le_of_ble_eq_true rfl) hn) rfl ?_
      refine x_iload 5 dX16_told_2_115 rfl rfl ?_
      refine y_Vi 313 (M := mX7_option) (As := [(0, a5)]) (st := [(0, 0), (2, 65), (2, 65)]) dX16_told_2_117 i19 rfl q2199 q2200 q2201 q374 q2202 rfl hmX7_option rfl rfl rfl rfl rfl rfl rfl rfl (k_mono h (fun r1 w2 h => ?_))
      refine y_Vi 278 (M := mX16_become) (As := [(0, 0), (0, r1)]) (st := [(2, 65)]) dX16_told_2_120 i65 rfl q2143 q2145 qs49 q383 q2146 rfl hmX16_become rfl rfl rfl rfl rfl rfl rfl rfl (k_mono h (fun r3 w4 h => ?_))
      refine x_iload_n 2 dX16_told_2_123 rfl rfl rfl ?_
      refine x_iconst 0 (z := 0) dX16_told_2_124 rfl (by decide) rfl ?_
      refine x_iconst 0 (z := 0) dX16_told_2_125 rfl (by decide) rfl ?_
      refine x_iconst 0 (z := 0) dX16_told_2_126 rfl (by decide) rfl ?_
      refine y_Vi 274 (M := mX16_done) (As := [(0, r3), (0, a2), (0, 0), (0, 0), (0, 0)]) (st := []) dX16_told_2_127 i65 rfl q2147 q2149 qs50 q383 q2150 rfl hmX16_done rfl rfl rfl rfl rfl rfl rfl rfl (k_mono h (fun r5 w6 h => ?_))
      exact y_iret dX16_told_2_130 rfl h
    have e := hc
    exact x_tsI (off := 30) (t := 108) dX16_told_2_78 (by rw [e]; decide) (by rw [e]; decide) (by rw [e]; rfl) rfl key
  · refine b_itc h (fun hc h => ?_) (fun hn1 h => ?_)
    · have key : b_Y (d + 1) mX16_told_2 n Q X 131 [(2, 65), (9, 0), (0, a2), (9, 0), (9, 0), (0, a5), (0, a6), (9, 0), (9, 0)] [] w := by
        refine x_aload_n 0 dX16_told_2_131 rfl rfl rfl rfl rfl ?_
        refine x_aload_n 0 dX16_told_2_132 rfl rfl rfl rfl rfl ?_
        refine y_get 56 8 (c := 15) (z := w 65 8) dX16_told_2_133 i65 rfl in_X16 q1107 rfl rfl rfl rfl rfl ?_
        refine x_if_le (t := 167) 31 dX16_told_2_136 rfl rfl (b_ite h (fun hc h => ?_) (fun hc h => ?_))
        · refine x_iconst 0 (z := 0) dX16_told_2_167 rfl (by decide) rfl ?_
          refine x_iload_n 2 dX16_told_2_168 rfl rfl rfl ?_
          refine x_iconst 0 (z := 0) dX16_told_2_169 rfl (by decide) rfl ?_
          refine x_iconst 0 (z := 0) dX16_told_2_170 rfl (by decide) rfl ?_
          refine x_iconst 0 (z := 0) dX16_told_2_171 rfl (by decide) rfl ?_
          refine y_Vi 274 (M := mX16_done) (As := [(0, 0), (0, a2), (0, 0), (0, 0), (0, 0)]) (st := []) dX16_told_2_172 i65 rfl q2147 q2149 qs50 q383 q2150 rfl hmX16_done rfl rfl rfl rfl rfl rfl rfl rfl (k_mono h (fun r7 w8 h => ?_))
          exact y_iret dX16_told_2_175 rfl h
        · refine x_aload_n 0 dX16_told_2_139 rfl rfl rfl rfl rfl ?_
          refine x_iconst 1 (z := 1) dX16_told_2_140 rfl (by decide) rfl ?_
          refine x_aload_n 0 dX16_told_2_141 rfl rfl rfl rfl rfl ?_
          refine y_getF 32 1 (c := 15) (z := 19) dX16_told_2_142 i65 rfl in_X16 q1100 rfl rfl rfl fn_65_1 (Nat.le_trans (Nat.le_of_ble_eq_true rfl) hn) rfl ?_
          refine x_bipush 14 (z := 14) dX16_told_2_145 rfl (by decide) rfl ?_
          refine x_aload_n 0 dX16_told_2_147 rfl rfl rfl rfl rfl ?_
          refine x_iconst 0 (z := 0) dX16_told_2_148 rfl (by decide) rfl ?_
          refine y_Vi 209 (M := mX16_at) (As := [(0, 0)]) (st := [(0, 14), (2, 19), (0, 1), (2, 65), (2, 65)]) dX16_told_2_149 i65 rfl q2171 q2173 qs54 q383 q2174 rfl hmX16_at rfl rfl rfl rfl rfl rfl rfl rfl (k_mono h (fun r9 w10 h => ?_))
          refine x_iload 5 dX16_told_2_152 rfl rfl ?_
          refine y_Vi 195 (M := mX7_make) (As := [(0, 14), (0, r9), (0, a5)]) (st := [(0, 1), (2, 65), (2, 65)]) dX16_told_2_154 i19 rfl q1911 q728 q729 q374 q730 rfl hmX7_make rfl rfl rfl rfl rfl rfl rfl rfl (k_mono h (fun r11 w12 h => ?_))
          refine y_Vi 278 (M := mX16_become) (As := [(0, 1), (0, r11)]) (st := [(2, 65)]) dX16_told_2_157 i65 rfl q2143 q2145 qs49 q383 q2146 rfl hmX16_become rfl rfl rfl rfl rfl rfl rfl rfl (k_mono h (fun r13 w14 h => ?_))
          refine x_if_eq (t := 167) 7 dX16_told_2_160 rfl rfl (b_ite h (fun hc h => ?_) (fun hc h => ?_))
          · refine x_iconst 0 (z := 0) dX16_told_2_167 rfl (by decide) rfl ?_
            refine x_iload_n 2 dX16_told_2_168 rfl rfl rfl ?_
            refine x_iconst 0 (z := 0) dX16_told_2_169 rfl (by decide) rfl ?_
            refine x_iconst 0 (z := 0) dX16_told_2_170 rfl (by decide) rfl ?_
            refine x_iconst 0 (z := 0) dX16_told_2_171 rfl (by decide) rfl ?_
            refine y_Vi 274 (M := mX16_done) (As := [(0, 0), (0, a2), (0, 0), (0, 0), (0, 0)]) (st := []) dX16_told_2_172 i65 rfl q2147 q2149 qs50 q383 q2150 rfl hmX16_done rfl rfl rfl rfl rfl rfl rfl rfl (k_mono h (fun r15 w16 h => ?_))
            exact y_iret dX16_told_2_175 rfl h
          · refine x_iconst 1 (z := 1) dX16_told_2_163 rfl (by decide) rfl ?_
            refine x_goto 4 (q := 168) dX16_told_2_164 rfl ?_
            refine x_iload_n 2 dX16_told_2_168 rfl rfl rfl ?_
            refine x_iconst 0 (z := 0) dX16_told_2_169 rfl (by decide) rfl ?_
            refine x_iconst 0 (z := 0) dX16_told_2_170 rfl (by decide) rfl ?_
            refine x_iconst 0 (z := 0) dX16_told_2_171 rfl (by decide) rfl ?_
            refine y_Vi 274 (M := mX16_done) (As := [(0, 1), (0, a2), (0, 0), (0, 0), (0, 0)]) (st := []) dX16_told_2_172 i65 rfl q2147 q2149 qs50 q383 q2150 rfl hmX16_done rfl rfl rfl rfl rfl rfl rfl rfl (k_mono h (fun r17 w18 h => ?_))
            exact y_iret dX16_told_2_175 rfl h
      have e := hc
      exact x_tsI (off := 53) (t := 131) dX16_told_2_78 (by rw [e]; decide) (by rw [e]; decide) (by rw [e]; rfl) rfl key
    · refine b_itc h (fun hc h => ?_) (fun hn2 h => ?_)
      · have key : b_Y (d + 1) mX16_told_2 n Q X 176 [(2, 65), (9, 0), (0, a2), (9, 0), (9, 0), (0, a5), (0, a6), (9, 0), (9, 0)] [] w := by
          refine x_aload_n 0 dX16_told_2_176 rfl rfl rfl rfl rfl ?_
          refine x_aload_n 0 dX16_told_2_177 rfl rfl rfl rfl rfl ?_
          refine y_get 56 8 (c := 15) (z := w 65 8) dX16_told_2_178 i65 rfl in_X16 q1107 rfl rfl rfl rfl rfl ?_
          refine x_if_le (t := 212) 31 dX16_told_2_181 rfl rfl (b_ite h (fun hc h => ?_) (fun hc h => ?_))
          · refine x_iconst 0 (z := 0) dX16_told_2_212 rfl (by decide) rfl ?_
            refine x_iload_n 2 dX16_told_2_213 rfl rfl rfl ?_
            refine x_iconst 0 (z := 0) dX16_told_2_214 rfl (by decide) rfl ?_
            refine x_iconst 0 (z := 0) dX16_told_2_215 rfl (by decide) rfl ?_
            refine x_iconst 0 (z := 0) dX16_told_2_216 rfl (by decide) rfl ?_
            refine y_Vi 274 (M := mX16_done) (As := [(0, 0), (0, a2), (0, 0), (0, 0), (0, 0)]) (st := []) dX16_told_2_217 i65 rfl q2147 q2149 qs50 q383 q2150 rfl hmX16_done rfl rfl rfl rfl rfl rfl rfl rfl (k_mono h (fun r19 w20 h => ?_))
            exact y_iret dX16_told_2_220 rfl h
          · refine x_aload_n 0 dX16_told_2_184 rfl rfl rfl rfl rfl ?_
            refine x_iconst 1 (z := 1) dX16_told_2_185 rfl (by decide) rfl ?_
            refine x_aload_n 0 dX16_told_2_186 rfl rfl rfl rfl rfl ?_
            refine y_getF 32 1 (c := 15) (z := 19) dX16_told_2_187 i65 rfl in_X16 q1100 rfl rfl rfl fn_65_1 (Nat.le_trans (Nat.le_of_ble_eq_true rfl) hn) rfl ?_
            refine x_bipush 14 (z := 14) dX16_told_2_190 rfl (by decide) rfl ?_
            refine x_iload 5 dX16_told_2_192 rfl rfl ?_
            refine x_aload_n 0 dX16_told_2_194 rfl rfl rfl rfl rfl ?_
            refine x_iconst 0 (z := 0) dX16_told_2_195 rfl (by decide) rfl ?_
            refine y_Vi 209 (M := mX16_at) (As := [(0, 0)]) (st := [(0, a5), (0, 14), (2, 19), (0, 1), (2, 65), (2, 65)]) dX16_told_2_196 i65 rfl q2171 q2173 qs54 q383 q2174 rfl hmX16_at rfl rfl rfl rfl rfl rfl rfl rfl (k_mono h (fun r21 w22 h => ?_))
            refine y_Vi 195 (M := mX7_make) (As := [(0, 14), (0, a5), (0, r21)]) (st := [(0, 1), (2, 65), (2, 65)]) dX16_told_2_199 i19 rfl q1911 q728 q729 q374 q730 rfl hmX7_make rfl rfl rfl rfl rfl rfl rfl rfl (k_mono h (fun r23 w24 h => ?_))
            refine y_Vi 278 (M := mX16_become) (As := [(0, 1), (0, r23)]) (st := [(2, 65)]) dX16_told_2_202 i65 rfl q2143 q2145 qs49 q383 q2146 rfl hmX16_become rfl rfl rfl rfl rfl rfl rfl rfl (k_mono h (fun r25 w26 h => ?_))
            refine x_if_eq (t := 212) 7 dX16_told_2_205 rfl rfl (b_ite h (fun hc h => ?_) (fun hc h => ?_))
            · refine x_iconst 0 (z := 0) dX16_told_2_212 rfl (by decide) rfl ?_
              refine x_iload_n 2 dX16_told_2_213 rfl rfl rfl ?_
              refine x_iconst 0 (z := 0) dX16_told_2_214 rfl (by decide) rfl ?_
              refine x_iconst 0 (z := 0) dX16_told_2_215 rfl (by decide) rfl ?_
              refine x_iconst 0 (z := 0) dX16_told_2_216 rfl (by decide) rfl ?_
              refine y_Vi 274 (M := mX16_done) (As := [(0, 0), (0, a2), (0, 0), (0, 0), (0, 0)]) (st := []) dX16_told_2_217 i65 rfl q2147 q2149 qs50 q383 q2150 rfl hmX16_done rfl rfl rfl rfl rfl rfl rfl rfl (k_mono h (fun r27 w28 h => ?_))
              exact y_iret dX16_told_2_220 rfl h
            · refine x_iconst 1 (z := 1) dX16_told_2_208 rfl (by decide) rfl ?_
              refine x_goto 4 (q := 213) dX16_told_2_209 rfl ?_
              refine x_iload_n 2 dX16_told_2_213 rfl rfl rfl ?_
              refine x_iconst 0 (z := 0) dX16_told_2_214 rfl (by decide) rfl ?_
              refine x_iconst 0 (z := 0) dX16_told_2_215 rfl (by decide) rfl ?_
              refine x_iconst 0 (z := 0) dX16_told_2_216 rfl (by decide) rfl ?_
              refine y_Vi 274 (M := mX16_done) (As := [(0, 1), (0, a2), (0, 0), (0, 0), (0, 0)]) (st := []) dX16_told_2_217 i65 rfl q2147 q2149 qs50 q383 q2150 rfl hmX16_done rfl rfl rfl rfl rfl rfl rfl rfl (k_mono h (fun r29 w30 h => ?_))
              exact y_iret dX16_told_2_220 rfl h
        have e := hc
        exact x_tsI (off := 98) (t := 176) dX16_told_2_78 (by rw [e]; decide) (by rw [e]; decide) (by rw [e]; rfl) rfl key
      · refine b_itc h (fun hc h => ?_) (fun hn3 h => ?_)
        · have key : b_Y (d + 1) mX16_told_2 n Q X 221 [(2, 65), (9, 0), (0, a2), (9, 0), (9, 0), (0, a5), (0, a6), (9, 0), (9, 0)] [] w := by
            refine x_aload_n 0 dX16_told_2_221 rfl rfl rfl rfl rfl ?_
            refine x_aload_n 0 dX16_told_2_222 rfl rfl rfl rfl rfl ?_
            refine x_iconst 0 (z := 0) dX16_told_2_223 rfl (by decide) rfl ?_
            refine x_aload_n 0 dX16_told_2_224 rfl rfl rfl rfl rfl ?_
            refine y_getF 32 1 (c := 15) (z := 19) dX16_told_2_225 i65 rfl in_X16 q1100 rfl rfl rfl fn_65_1 (Nat.le_trans (Nat.le_of_ble_eq_true rfl) hn) rfl ?_
            refine x_bipush 11 (z := 11) dX16_told_2_228 rfl (by decide) rfl ?_
            refine x_iload 5 dX16_told_2_230 rfl rfl ?_
            refine x_iconst (-1) (z := (-1)) dX16_told_2_232 rfl (by decide) rfl ?_
            refine y_Vi 195 (M := mX7_make) (As := [(0, 11), (0, a5), (0, (-1))]) (st := [(0, 0), (2, 65), (2, 65)]) dX16_told_2_233 i19 rfl q1911 q728 q729 q374 q730 rfl hmX7_make rfl rfl rfl rfl rfl rfl rfl rfl (k_mono h (fun r31 w32 h => ?_))
            refine y_Vi 278 (M := mX16_become) (As := [(0, 0), (0, r31)]) (st := [(2, 65)]) dX16_told_2_236 i65 rfl q2143 q2145 qs49 q383 q2146 rfl hmX16_become rfl rfl rfl rfl rfl rfl rfl rfl (k_mono h (fun r33 w34 h => ?_))
            refine x_iload_n 2 dX16_told_2_239 rfl rfl rfl ?_
            refine x_iconst 0 (z := 0) dX16_told_2_240 rfl (by decide) rfl ?_
            refine x_iconst 0 (z := 0) dX16_told_2_241 rfl (by decide) rfl ?_
            refine x_iconst 0 (z := 0) dX16_told_2_242 rfl (by decide) rfl ?_
            refine y_Vi 274 (M := mX16_done) (As := [(0, r33), (0, a2), (0, 0), (0, 0), (0, 0)]) (st := []) dX16_told_2_243 i65 rfl q2147 q2149 qs50 q383 q2150 rfl hmX16_done rfl rfl rfl rfl rfl rfl rfl rfl (k_mono h (fun r35 w36 h => ?_))
            exact y_iret dX16_told_2_246 rfl h
          have e := hc
          exact x_tsI (off := 143) (t := 221) dX16_told_2_78 (by rw [e]; decide) (by rw [e]; decide) (by rw [e]; rfl) rfl key
        · have key : b_Y (d + 1) mX16_told_2 n Q X 247 [(2, 65), (9, 0), (0, a2), (9, 0), (9, 0), (0, a5), (0, a6), (9, 0), (9, 0)] [] w := by
            refine x_aload_n 0 dX16_told_2_247 rfl rfl rfl rfl rfl ?_
            refine y_getF 32 1 (c := 15) (z := 19) dX16_told_2_248 i65 rfl in_X16 q1100 rfl rfl rfl fn_65_1 (Nat.le_trans (Nat.le_of_ble_eq_true rfl) hn) rfl ?_
            refine x_iload 5 dX16_told_2_251 rfl rfl ?_
            refine x_iconst 1 (z := 1) dX16_told_2_253 rfl (by decide) rfl ?_
            refine y_Vi 120 (M := mX7_is) (As := [(0, a5), (0, 1)]) (st := []) dX16_told_2_254 i19 rfl q1866 q744 q745 q374 q746 rfl hmX7_is rfl rfl rfl rfl rfl rfl rfl rfl (k_mono h (fun r37 w38 h => ?_))
            refine x_if_eq (t := 283) 26 dX16_told_2_257 rfl rfl (b_ite h (fun hc h => ?_) (fun hc h => ?_))
            · refine x_iconst 0 (z := 0) dX16_told_2_283 rfl (by decide) rfl ?_
              exact x_fg (fgk (fgk (fgk (fgk (fgk (fgk (fgk (fgk (fgk (fg0)))))))))) h
            · refine x_iload_n 2 dX16_told_2_260 rfl rfl rfl ?_
              refine x_bipush 51 (z := 51) dX16_told_2_261 rfl (by decide) rfl ?_
              refine x_icmp_ne (t := 279) 16 dX16_told_2_263 rfl rfl (b_ite h (fun hc h => ?_) (fun hc h => ?_))
              · refine x_iconst 1 (z := 1) dX16_told_2_279 rfl (by decide) rfl ?_
                refine x_goto 4 (q := 284) dX16_told_2_280 rfl ?_
                exact x_fg (fgk (fgk (fgk (fgk (fgk (fgk (fgk (fgk (fgk (fg0)))))))))) h
              · refine x_aload_n 0 dX16_told_2_266 rfl rfl rfl rfl rfl ?_
                refine y_getF 32 1 (c := 15) (z := 19) dX16_told_2_267 i65 rfl in_X16 q1100 rfl rfl rfl fn_65_1 (Nat.le_trans (Nat.le_of_ble_eq_true rfl) hn) rfl ?_
                refine x_iload 6 dX16_told_2_270 rfl rfl ?_
                refine x_iconst 2 (z := 2) dX16_told_2_272 rfl (by decide) rfl ?_
                refine y_Vi 120 (M := mX7_is) (As := [(0, a6), (0, 2)]) (st := []) dX16_told_2_273 i19 rfl q1866 q744 q745 q374 q746 rfl hmX7_is rfl rfl rfl rfl rfl rfl rfl rfl (k_mono h (fun r39 w40 h => ?_))
                refine x_if_eq (t := 283) 7 dX16_told_2_276 rfl rfl (b_ite h (fun hc h => ?_) (fun hc h => ?_))
                · refine x_iconst 0 (z := 0) dX16_told_2_283 rfl (by decide) rfl ?_
                  exact x_fg (fgk (fgk (fgk (fgk (fgk (fgk (fgk (fgk (fgk (fg0)))))))))) h
                · refine x_iconst 1 (z := 1) dX16_told_2_279 rfl (by decide) rfl ?_
                  refine x_goto 4 (q := 284) dX16_told_2_280 rfl ?_
                  exact x_fg (fgk (fgk (fgk (fgk (fgk (fgk (fgk (fgk (fgk (fg0)))))))))) h
          exact x_tsO (t := 247) dX16_told_2_78 (by omega) rfl key
theorem sX16_told_2_284 {d n : Nat} {w : bW} {Q : Int → bW → Prop} {X : String → bW → Prop} (hn : 143 ≤ n) (a2 : Int) (a5 : Int) (a6 : Int) (s0 : Int) (h : if a2 ≠ 49 then (if a2 ≠ 50 then (if s0 = 0 then (b_K d mX16_done [(2, 65), (0, 0), (0, a2), (0, 0), (0, 0), (0, 0)] n w (fun r1 w2 => Q r1 w2) X) else (b_K d mX7_make [(2, 19), (0, 16), (0, a5), (0, a6)] n w (fun r3 w4 => b_K d mX16_become [(2, 65), (0, 0), (0, r3)] n w4 (fun r5 w6 => if r5 = 0 then (b_K d mX16_done [(2, 65), (0, 0), (0, a2), (0, 0), (0, 0), (0, 0)] n w6 (fun r7 w8 => Q r7 w8) X) else (b_K d mX16_done [(2, 65), (0, 1), (0, a2), (0, 0), (0, 0), (0, 0)] n w6 (fun r9 w10 => Q r9 w10) X)) X) X)) else (if s0 = 0 then (b_K d mX16_done [(2, 65), (0, 0), (0, a2), (0, 0), (0, 0), (0, 0)] n w (fun r11 w12 => Q r11 w12) X) else (b_K d mX7_make [(2, 19), (0, 15), (0, a5), (0, a6)] n w (fun r13 w14 => b_K d mX16_become [(2, 65), (0, 0), (0, r13)] n w14 (fun r15 w16 => if r15 = 0 then (b_K d mX16_done [(2, 65), (0, 0), (0, a2), (0, 0), (0, 0), (0, 0)] n w16 (fun r17 w18 => Q r17 w18) X) else (b_K d mX16_done [(2, 65), (0, 1), (0, a2), (0, 0), (0, 0), (0, 0)] n w16 (fun r19 w20 => Q r19 w20) X)) X) X))) else (if s0 = 0 then (b_K d mX16_done [(2, 65), (0, 0), (0, a2), (0, 0), (0, 0), (0, 0)] n w (fun r21 w22 => Q r21 w22) X) else (b_K d mX7_make [(2, 19), (0, 12), (0, a5), (0, a6)] n w (fun r23 w24 => b_K d mX16_become [(2, 65), (0, 0), (0, r23)] n w24 (fun r25 w26 => if r25 = 0 then (b_K d mX16_done [(2, 65), (0, 0), (0, a2), (0, 0), (0, 0), (0, 0)] n w26 (fun r27 w28 => Q r27 w28) X) else (b_K d mX16_done [(2, 65), (0, 1), (0, a2), (0, 0), (0, 0), (0, 0)] n w26 (fun r29 w30 => Q r29 w30) X)) X) X))) : LX16_told_2_284 d n Q X a2 a5 a6 s0 w := by
  have i19 := iz19 (Nat.le_trans (Nat.le_of_ble_eq_true rfl) hn)
  have i65 := iz65 (Nat.le_trans (Nat.le_of_ble_eq_true rfl) hn)
  refine x_istore 7 (ls' := [(2, 65), (9, 0), (0, a2), (9, 0), (9, 0), (0, a5), (0, a6), (0, s0), (9, 0)]) dX16_told_2_284 rfl rfl rfl ?_
  refine x_iload_n 2 dX16_told_2_286 rfl rfl rfl ?_
  refine x_bipush 49 (z := 49) dX16_told_2_287 rfl (by decide) rfl ?_
  refine x_icmp_ne (t := 297) 8 dX16_told_2_289 rfl rfl (b_ite h (fun hc h => ?_) (fun hc h => ?_))
  · refine x_iload_n 2 dX16_told_2_297 rfl rfl rfl ?_
    refine x_bipush 50 (z := 50) dX16_told_2_298 rfl (by decide) rfl ?_
    refine x_icmp_ne (t := 308) 8 dX16_told_2_300 rfl rfl (b_ite h (fun hc h => ?_) (fun hc h => ?_))
    · refine x_bipush 16 (z := 16) dX16_told_2_308 rfl (by decide) rfl ?_
      refine x_istore 8 (ls' := [(2, 65), (9, 0), (0, a2), (9, 0), (9, 0), (0, a5), (0, a6), (0, s0), (0, 16)]) dX16_told_2_310 rfl rfl rfl ?_
      refine x_aload_n 0 dX16_told_2_312 rfl rfl rfl rfl rfl ?_
      refine x_iload 7 dX16_told_2_313 rfl rfl ?_
      refine x_if_eq (t := 343) 28 dX16_told_2_315 rfl rfl (b_ite h (fun hc h => ?_) (fun hc h => ?_))
      · refine x_iconst 0 (z := 0) dX16_told_2_343 rfl (by decide) rfl ?_
        refine x_iload_n 2 dX16_told_2_344 rfl rfl rfl ?_
        refine x_iconst 0 (z := 0) dX16_told_2_345 rfl (by decide) rfl ?_
        refine x_iconst 0 (z := 0) dX16_told_2_346 rfl (by decide) rfl ?_
        refine x_iconst 0 (z := 0) dX16_told_2_347 rfl (by decide) rfl ?_
        refine y_Vi 274 (M := mX16_done) (As := [(0, 0), (0, a2), (0, 0), (0, 0), (0, 0)]) (st := []) dX16_told_2_348 i65 rfl q2147 q2149 qs50 q383 q2150 rfl hmX16_done rfl rfl rfl rfl rfl rfl rfl rfl (k_mono h (fun r1 w2 h => ?_))
        exact y_iret dX16_told_2_351 rfl h
      · refine x_aload_n 0 dX16_told_2_318 rfl rfl rfl rfl rfl ?_
        refine x_iconst 0 (z := 0) dX16_told_2_319 rfl (by decide) rfl ?_
        refine x_aload_n 0 dX16_told_2_320 rfl rfl rfl rfl rfl ?_
        refine y_getF 32 1 (c := 15) (z := 19) dX16_told_2_321 i65 rfl in_X16 q1100 rfl rfl rfl fn_65_1 (Nat.le_trans (Nat.le_of_ble_eq_true rfl) hn) rfl ?_
        refine x_iload 8 dX16_told_2_324 rfl rfl ?_
        refine x_iload 5 dX16_told_2_326 rfl rfl ?_
        refine x_iload 6 dX16_told_2_328 rfl rfl ?_
        refine y_Vi 195 (M := mX7_make) (As := [(0, 16), (0, a5), (0, a6)]) (st := [(0, 0), (2, 65), (2, 65)]) dX16_told_2_330 i19 rfl q1911 q728 q729 q374 q730 rfl hmX7_make rfl rfl rfl rfl rfl rfl rfl rfl (k_mono h (fun r3 w4 h => ?_))
        refine y_Vi 278 (M := mX16_become) (As := [(0, 0), (0, r3)]) (st := [(2, 65)]) dX16_told_2_333 i65 rfl q2143 q2145 qs49 q383 q2146 rfl hmX16_become rfl rfl rfl rfl rfl rfl rfl rfl (k_mono h (fun r5 w6 h => ?_))
        refine x_if_eq (t := 343) 7 dX16_told_2_336 rfl rfl (b_ite h (fun hc h => ?_) (fun hc h => ?_))
        · refine x_iconst 0 (z := 0) dX16_told_2_343 rfl (by decide) rfl ?_
          refine x_iload_n 2 dX16_told_2_344 rfl rfl rfl ?_
          refine x_iconst 0 (z := 0) dX16_told_2_345 rfl (by decide) rfl ?_
          refine x_iconst 0 (z := 0) dX16_told_2_346 rfl (by decide) rfl ?_
          refine x_iconst 0 (z := 0) dX16_told_2_347 rfl (by decide) rfl ?_
          refine y_Vi 274 (M := mX16_done) (As := [(0, 0), (0, a2), (0, 0), (0, 0), (0, 0)]) (st := []) dX16_told_2_348 i65 rfl q2147 q2149 qs50 q383 q2150 rfl hmX16_done rfl rfl rfl rfl rfl rfl rfl rfl (k_mono h (fun r7 w8 h => ?_))
          exact y_iret dX16_told_2_351 rfl h
        · refine x_iconst 1 (z := 1) dX16_told_2_339 rfl (by decide) rfl ?_
          refine x_goto 4 (q := 344) dX16_told_2_340 rfl ?_
          refine x_iload_n 2 dX16_told_2_344 rfl rfl rfl ?_
          refine x_iconst 0 (z := 0) dX16_told_2_345 rfl (by decide) rfl ?_
          refine x_iconst 0 (z := 0) dX16_told_2_346 rfl (by decide) rfl ?_
          refine x_iconst 0 (z := 0) dX16_told_2_347 rfl (by decide) rfl ?_
          refine y_Vi 274 (M := mX16_done) (As := [(0, 1), (0, a2), (0, 0), (0, 0), (0, 0)]) (st := []) dX16_told_2_348 i65 rfl q2147 q2149 qs50 q383 q2150 rfl hmX16_done rfl rfl rfl rfl rfl rfl rfl rfl (k_mono h (fun r9 w10 h => ?_))
          exact y_iret dX16_told_2_351 rfl h
    · refine x_bipush 15 (z := 15) dX16_told_2_303 rfl (by decide) rfl ?_
      refine x_goto 5 (q := 310) dX16_told_2_305 rfl ?_
      refine x_istore 8 (ls' := [(2, 65), (9, 0), (0, a2), (9, 0), (9, 0), (0, a5), (0, a6), (0, s0), (0, 15)]) dX16_told_2_310 rfl rfl rfl ?_
      refine x_aload_n 0 dX16_told_2_312 rfl rfl rfl rfl rfl ?_
      refine x_iload 7 dX16_told_2_313 rfl rfl ?_
      refine x_if_eq (t := 343) 28 dX16_told_2_315 rfl rfl (b_ite h (fun hc h => ?_) (fun hc h => ?_))
      · refine x_iconst 0 (z := 0) dX16_told_2_343 rfl (by decide) rfl ?_
        refine x_iload_n 2 dX16_told_2_344 rfl rfl rfl ?_
        refine x_iconst 0 (z := 0) dX16_told_2_345 rfl (by decide) rfl ?_
        refine x_iconst 0 (z := 0) dX16_told_2_346 rfl (by decide) rfl ?_
        refine x_iconst 0 (z := 0) dX16_told_2_347 rfl (by decide) rfl ?_
        refine y_Vi 274 (M := mX16_done) (As := [(0, 0), (0, a2), (0, 0), (0, 0), (0, 0)]) (st := []) dX16_told_2_348 i65 rfl q2147 q2149 qs50 q383 q2150 rfl hmX16_done rfl rfl rfl rfl rfl rfl rfl rfl (k_mono h (fun r11 w12 h => ?_))
        exact y_iret dX16_told_2_351 rfl h
      · refine x_aload_n 0 dX16_told_2_318 rfl rfl rfl rfl rfl ?_
        refine x_iconst 0 (z := 0) dX16_told_2_319 rfl (by decide) rfl ?_
        refine x_aload_n 0 dX16_told_2_320 rfl rfl rfl rfl rfl ?_
        refine y_getF 32 1 (c := 15) (z := 19) dX16_told_2_321 i65 rfl in_X16 q1100 rfl rfl rfl fn_65_1 (Nat.le_trans (Nat.le_of_ble_eq_true rfl) hn) rfl ?_
        refine x_iload 8 dX16_told_2_324 rfl rfl ?_
        refine x_iload 5 dX16_told_2_326 rfl rfl ?_
        refine x_iload 6 dX16_told_2_328 rfl rfl ?_
        refine y_Vi 195 (M := mX7_make) (As := [(0, 15), (0, a5), (0, a6)]) (st := [(0, 0), (2, 65), (2, 65)]) dX16_told_2_330 i19 rfl q1911 q728 q729 q374 q730 rfl hmX7_make rfl rfl rfl rfl rfl rfl rfl rfl (k_mono h (fun r13 w14 h => ?_))
        refine y_Vi 278 (M := mX16_become) (As := [(0, 0), (0, r13)]) (st := [(2, 65)]) dX16_told_2_333 i65 rfl q2143 q2145 qs49 q383 q2146 rfl hmX16_become rfl rfl rfl rfl rfl rfl rfl rfl (k_mono h (fun r15 w16 h => ?_))
        refine x_if_eq (t := 343) 7 dX16_told_2_336 rfl rfl (b_ite h (fun hc h => ?_) (fun hc h => ?_))
        · refine x_iconst 0 (z := 0) dX16_told_2_343 rfl (by decide) rfl ?_
          refine x_iload_n 2 dX16_told_2_344 rfl rfl rfl ?_
          refine x_iconst 0 (z := 0) dX16_told_2_345 rfl (by decide) rfl ?_
          refine x_iconst 0 (z := 0) dX16_told_2_346 rfl (by decide) rfl ?_
          refine x_iconst 0 (z := 0) dX16_told_2_347 rfl (by decide) rfl ?_
          refine y_Vi 274 (M := mX16_done) (As := [(0, 0), (0, a2), (0, 0), (0, 0), (0, 0)]) (st := []) dX16_told_2_348 i65 rfl q2147 q2149 qs50 q383 q2150 rfl hmX16_done rfl rfl rfl rfl rfl rfl rfl rfl (k_mono h (fun r17 w18 h => ?_))
          exact y_iret dX16_told_2_351 rfl h
        · refine x_iconst 1 (z := 1) dX16_told_2_339 rfl (by decide) rfl ?_
          refine x_goto 4 (q := 344) dX16_told_2_340 rfl ?_
          refine x_iload_n 2 dX16_told_2_344 rfl rfl rfl ?_
          refine x_iconst 0 (z := 0) dX16_told_2_345 rfl (by decide) rfl ?_
          refine x_iconst 0 (z := 0) dX16_told_2_346 rfl (by decide) rfl ?_
          refine x_iconst 0 (z := 0) dX16_told_2_347 rfl (by decide) rfl ?_
          refine y_Vi 274 (M := mX16_done) (As := [(0, 1), (0, a2), (0, 0), (0, 0), (0, 0)]) (st := []) dX16_told_2_348 i65 rfl q2147 q2149 qs50 q383 q2150 rfl hmX16_done rfl rfl rfl rfl rfl rfl rfl rfl (k_mono h (fun r19 w20 h => ?_))
          exact y_iret dX16_told_2_351 rfl h
  · refine x_bipush 12 (z := 12) dX16_told_2_292 rfl (by decide) rfl ?_
    refine x_goto 16 (q := 310) dX16_told_2_294 rfl ?_
    refine x_istore 8 (ls' := [(2, 65), (9, 0), (0, a2), (9, 0), (9, 0), (0, a5), (0, a6), (0, s0), (0, 12)]) dX16_told_2_310 rfl rfl rfl ?_
    refine x_aload_n 0 dX16_told_2_312 rfl rfl rfl rfl rfl ?_
    refine x_iload 7 dX16_told_2_313 rfl rfl ?_
    refine x_if_eq (t := 343) 28 dX16_told_2_315 rfl rfl (b_ite h (fun hc h => ?_) (fun hc h => ?_))
    · refine x_iconst 0 (z := 0) dX16_told_2_343 rfl (by decide) rfl ?_
      refine x_iload_n 2 dX16_told_2_344 rfl rfl rfl ?_
      refine x_iconst 0 (z := 0) dX16_told_2_345 rfl (by decide) rfl ?_
      refine x_iconst 0 (z := 0) dX16_told_2_346 rfl (by decide) rfl ?_
      refine x_iconst 0 (z := 0) dX16_told_2_347 rfl (by decide) rfl ?_
      refine y_Vi 274 (M := mX16_done) (As := [(0, 0), (0, a2), (0, 0), (0, 0), (0, 0)]) (st := []) dX16_told_2_348 i65 rfl q2147 q2149 qs50 q383 q2150 rfl hmX16_done rfl rfl rfl rfl rfl rfl rfl rfl (k_mono h (fun r21 w22 h => ?_))
      exact y_iret dX16_told_2_351 rfl h
    · refine x_aload_n 0 dX16_told_2_318 rfl rfl rfl rfl rfl ?_
      refine x_iconst 0 (z := 0) dX16_told_2_319 rfl (by decide) rfl ?_
      refine x_aload_n 0 dX16_told_2_320 rfl rfl rfl rfl rfl ?_
      refine y_getF 32 1 (c := 15) (z := 19) dX16_told_2_321 i65 rfl in_X16 q1100 rfl rfl rfl fn_65_1 (Nat.le_trans (Nat.le_of_ble_eq_true rfl) hn) rfl ?_
      refine x_iload 8 dX16_told_2_324 rfl rfl ?_
      refine x_iload 5 dX16_told_2_326 rfl rfl ?_
      refine x_iload 6 dX16_told_2_328 rfl rfl ?_
      refine y_Vi 195 (M := mX7_make) (As := [(0, 12), (0, a5), (0, a6)]) (st := [(0, 0), (2, 65), (2, 65)]) dX16_told_2_330 i19 rfl q1911 q728 q729 q374 q730 rfl hmX7_make rfl rfl rfl rfl rfl rfl rfl rfl (k_mono h (fun r23 w24 h => ?_))
      refine y_Vi 278 (M := mX16_become) (As := [(0, 0), (0, r23)]) (st := [(2, 65)]) dX16_told_2_333 i65 rfl q2143 q2145 qs49 q383 q2146 rfl hmX16_become rfl rfl rfl rfl rfl rfl rfl rfl (k_mono h (fun r25 w26 h => ?_))
      refine x_if_eq (t := 343) 7 dX16_told_2_336 rfl rfl (b_ite h (fun hc h => ?_) (fun hc h => ?_))
      · refine x_iconst 0 (z := 0) dX16_told_2_343 rfl (by decide) rfl ?_
        refine x_iload_n 2 dX16_told_2_344 rfl rfl rfl ?_
        refine x_iconst 0 (z := 0) dX16_told_2_345 rfl (by decide) rfl ?_
        refine x_iconst 0 (z := 0) dX16_told_2_346 rfl (by decide) rfl ?_
        refine x_iconst 0 (z := 0) dX16_told_2_347 rfl (by decide) rfl ?_
        refine y_Vi 274 (M := mX16_done) (As := [(0, 0), (0, a2), (0, 0), (0, 0), (0, 0)]) (st := []) dX16_told_2_348 i65 rfl q2147 q2149 qs50 q383 q2150 rfl hmX16_done rfl rfl rfl rfl rfl rfl rfl rfl (k_mono h (fun r27 w28 h => ?_))
        exact y_iret dX16_told_2_351 rfl h
      · refine x_iconst 1 (z := 1) dX16_told_2_339 rfl (by decide) rfl ?_
        refine x_goto 4 (q := 344) dX16_told_2_340 rfl ?_
        refine x_iload_n 2 dX16_told_2_344 rfl rfl rfl ?_
        refine x_iconst 0 (z := 0) dX16_told_2_345 rfl (by decide) rfl ?_
        refine x_iconst 0 (z := 0) dX16_told_2_346 rfl (by decide) rfl ?_
        refine x_iconst 0 (z := 0) dX16_told_2_347 rfl (by decide) rfl ?_
        refine y_Vi 274 (M := mX16_done) (As := [(0, 1), (0, a2), (0, 0), (0, 0), (0, 0)]) (st := []) dX16_told_2_348 i65 rfl q2147 q2149 qs50 q383 q2150 rfl hmX16_done rfl rfl rfl rfl rfl rfl rfl rfl (k_mono h (fun r29 w30 h => ?_))
        exact y_iret dX16_told_2_351 rfl h
abbrev LX16_control_344 (d n : Nat) (Q : Int → bW → Prop) (X : String → bW → Prop) (a2 : Int) (s0 : Int) (w : bW) : Prop := b_Y (d + 1) mX16_control n Q X 344 [(2, 65), (9, 0), (0, a2), (9, 0), (9, 0)] [(0, s0)] w
theorem rX16_control {d n : Nat} {w : bW} {Q : Int → bW → Prop} {X : String → bW → Prop} (hn : 143 ≤ n) (a1 : Int) (a2 : Int) (a3 : Int) (h : if a2 = 52 ∨ a2 = 53 ∨ a2 = 54 ∨ a2 = 55 then (if a3 ≠ 2 then (Q 0 w) else (b_K d mX16_isCode [(2, 65), (0, a1), (0, 0)] n w (fun r1 w2 => if r1 = 0 then (Q 0 w2) else (b_K d mX16_isCode [(2, 65), (0, a1), (0, 1)] n w2 (fun r3 w4 => if r3 = 0 then (Q 0 w4) else (b_K d mX16_branch [(2, 65), (0, a1), (0, a2)] n w4 (fun r5 w6 => Q r5 w6) X)) X)) X)) else (if a2 = 56 ∨ a2 = 57 then (if a3 ≠ 1 then (Q 0 w) else (b_K d mX16_isCode [(2, 65), (0, a1), (0, 0)] n w (fun r7 w8 => if r7 = 0 then (Q 0 w8) else (b_K d mX16_loop [(2, 65), (0, a1), (0, a2)] n w8 (fun r9 w10 => Q r9 w10) X)) X)) else (if a2 = 58 ∨ a2 = 59 then (if a3 ≠ 1 then (Q 0 w) else (b_K d mX16_isCode [(2, 65), (0, a1), (0, 0)] n w (fun r11 w12 => if r11 = 0 then (Q 0 w12) else (b_K d mX16_each [(2, 65), (0, a1), (0, a2)] n w12 (fun r13 w14 => Q r13 w14) X)) X)) else (if a2 = 60 then (if a3 ≠ 0 then (Q 0 w) else (if w 65 8 = 0 then (Q 0 w) else (b_K d mX16_at [(2, 65), (0, 0)] n w (fun r15 w16 => b_K d mX7_is [(2, 19), (0, r15), (0, 2)] n w16 (fun r17 w18 => if r17 ≠ 0 then (b_K d mX16_at [(2, 65), (0, 0)] n (b_up w18 65 11 1) (fun r19 w20 => b_K d mX16_done [(2, 65), (0, 1), (0, a2), (0, r19), (0, 0), (0, 0)] n w20 (fun r21 w22 => Q r21 w22) X) X) else (Q 0 w18)) X) X))) else (if a2 = 61 then (if a3 ≠ 3 then (Q 0 w) else (b_K d mX16_isCode [(2, 65), (0, a1), (0, 2)] n w (fun r23 w24 => if r23 = 0 then (Q 0 w24) else (b_K d mX16_lambda [(2, 65), (0, a1)] n w24 (fun r25 w26 => Q r25 w26) X)) X)) else (if a2 = 62 then (if a3 ≠ 0 then (b_K d mX16_done [(2, 65), (0, 0), (0, a2), (0, 0), (0, 0), (0, 0)] n w (fun r27 w28 => Q r27 w28) X) else (b_K d mX16_word [(2, 65), (0, 1)] n w (fun r29 w30 => if r29 ≠ 17 then (b_K d mX16_done [(2, 65), (0, 0), (0, a2), (0, 0), (0, 0), (0, 0)] n w30 (fun r31 w32 => Q r31 w32) X) else (b_K d mX16_left [(2, 65), (0, 1)] n w30 (fun r33 w34 => b_K d mX16_at [(2, 65), (0, 0)] n w34 (fun r35 w36 => if r33 ≠ r35 then (b_K d mX16_done [(2, 65), (0, 0), (0, a2), (0, 0), (0, 0), (0, 0)] n w36 (fun r37 w38 => Q r37 w38) X) else (b_K d mX16_right [(2, 65), (0, 1)] n w36 (fun r39 w40 => b_K d mX16_become [(2, 65), (0, 2), (0, r39)] n w40 (fun r41 w42 => if r41 = 0 then (b_K d mX16_done [(2, 65), (0, 0), (0, a2), (0, 0), (0, 0), (0, 0)] n w42 (fun r43 w44 => Q r43 w44) X) else (b_K d mX16_done [(2, 65), (0, 1), (0, a2), (0, 0), (0, 0), (0, 0)] n w42 (fun r45 w46 => Q r45 w46) X)) X) X)) X) X)) X)) else ((if a3 ≠ 0 then (LX16_control_344 d n Q X a2 0 w) else (b_K d mX16_word [(2, 65), (0, 1)] n w (fun r47 w48 => if r47 ≠ 17 then (LX16_control_344 d n Q X a2 0 w48) else (b_K d mX16_left [(2, 65), (0, 1)] n w48 (fun r49 w50 => (0 ≤ r49 ∧ r49 < 60000) ∧ (if w50 20 r49 ≠ 18 then (LX16_control_344 d n Q X a2 0 w50) else (b_K d mX16_left [(2, 65), (0, 1)] n w50 (fun r52 w53 => (0 ≤ r52 ∧ r52 < 60000) ∧ (b_K d mX16_at [(2, 65), (0, 0)] n w53 (fun r55 w56 => if w53 21 r52 ≠ r55 then (LX16_control_344 d n Q X a2 0 w56) else (b_K d mX16_at [(2, 65), (0, 0)] n w56 (fun r57 w58 => b_K d mX7_is [(2, 19), (0, r57), (0, 2)] n w58 (fun r59 w60 => if r59 = 0 then (LX16_control_344 d n Q X a2 0 w60) else (LX16_control_344 d n Q X a2 1 w60)) X) X)) X)) X))) X)) X))))))))) : b_K (d + 1) mX16_control [(2, 65), (0, a1), (0, a2), (0, a3)] n w Q X := by
  have i19 := iz19 (Nat.le_trans (Nat.le_of_ble_eq_true rfl) hn)
  have i20 := iz20 (Nat.le_trans (Nat.le_of_ble_eq_true rfl) hn)
  have i21 := iz21 (Nat.le_trans (Nat.le_of_ble_eq_true rfl) hn)
  have i65 := iz65 (Nat.le_trans (Nat.le_of_ble_eq_true rfl) hn)
  refine k_of (by decide) rfl rfl rfl (ls := [(2, 65), (0, a1), (0, a2), (0, a3), (9, 0)]) rfl ?_
  refine x_iload_n 2 dX16_control_0 rfl rfl rfl ?_
  refine b_itc h (fun hc h => ?_) (fun hn0 h => ?_)
  · have key : b_Y (d + 1) mX16_control n Q X 60 [(2, 65), (0, a1), (0, a2), (0, a3), (9, 0)] [] w := by
      refine x_iload_n 3 dX16_control_60 rfl rfl rfl ?_
      refine x_iconst 2 (z := 2) dX16_control_61 rfl (by decide) rfl ?_
      refine x_icmp_ne (t := 92) 30 dX16_control_62 rfl rfl (b_ite h (fun hc h => ?_) (fun hc h => ?_))
      · refine x_iconst 0 (z := 0) dX16_control_92 rfl (by decide) rfl ?_
        exact y_iret dX16_control_93 rfl h
      · refine x_aload_n 0 dX16_control_65 rfl rfl rfl rfl rfl ?_
        refine x_iload_n 1 dX16_control_66 rfl rfl rfl ?_
        refine x_iconst 0 (z := 0) dX16_control_67 rfl (by decide) rfl ?_
        refine y_Vi 298 (M := mX16_isCode) (As := [(0, a1), (0, 0)]) (st := []) dX16_control_68 i65 rfl q2166 q2168 qs53 q383 q2169 rfl hmX16_isCode rfl rfl rfl rfl rfl rfl rfl rfl (k_mono h (fun r1 w2 h => ?_))
        refine x_if_eq (t := 92) 21 dX16_control_71 rfl rfl (b_ite h (fun hc h => ?_) (fun hc h => ?_))
        · refine x_iconst 0 (z := 0) dX16_control_92 rfl (by decide) rfl ?_
          exact y_iret dX16_control_93 rfl h
        · refine x_aload_n 0 dX16_control_74 rfl rfl rfl rfl rfl ?_
          refine x_iload_n 1 dX16_control_75 rfl rfl rfl ?_
          refine x_iconst 1 (z := 1) dX16_control_76 rfl (by decide) rfl ?_
          refine y_Vi 298 (M := mX16_isCode) (As := [(0, a1), (0, 1)]) (st := []) dX16_control_77 i65 rfl q2166 q2168 qs53 q383 q2169 rfl hmX16_isCode rfl rfl rfl rfl rfl rfl rfl rfl (k_mono h (fun r3 w4 h => ?_))
          refine x_if_eq (t := 92) 12 dX16_control_80 rfl rfl (b_ite h (fun hc h => ?_) (fun hc h => ?_))
          · refine x_iconst 0 (z := 0) dX16_control_92 rfl (by decide) rfl ?_
            exact y_iret dX16_control_93 rfl h
          · refine x_aload_n 0 dX16_control_83 rfl rfl rfl rfl rfl ?_
            refine x_iload_n 1 dX16_control_84 rfl rfl rfl ?_
            refine x_iload_n 2 dX16_control_85 rfl rfl rfl ?_
            refine y_Vi 318 (M := mX16_branch) (As := [(0, a1), (0, a2)]) (st := []) dX16_control_86 i65 rfl q2211 q2213 qs63 q383 q2214 rfl hmX16_branch rfl rfl rfl rfl rfl rfl rfl rfl (k_mono h (fun r5 w6 h => ?_))
            refine x_goto 4 (q := 93) dX16_control_89 rfl ?_
            exact y_iret dX16_control_93 rfl h
    rcases hc with e | e | e | e
    · exact x_tsI (off := 59) (t := 60) dX16_control_1 (by rw [e]; decide) (by rw [e]; decide) (by rw [e]; rfl) rfl key
    · exact x_tsI (off := 59) (t := 60) dX16_control_1 (by rw [e]; decide) (by rw [e]; decide) (by rw [e]; rfl) rfl key
    · exact x_tsI (off := 59) (t := 60) dX16_control_1 (by rw [e]; decide) (by rw [e]; decide) (by rw [e]; rfl) rfl key
    · exact x_tsI (off := 59) (t := 60) dX16_control_1 (by rw [e]; decide) (by rw [e]; decide) (by rw [e]; rfl) rfl key
  · refine b_itc h (fun hc h => ?_) (fun hn1 h => ?_)
    · have key : b_Y (d + 1) mX16_control n Q X 94 [(2, 65), (0, a1), (0, a2), (0, a3), (9, 0)] [] w := by
        refine x_iload_n 3 dX16_control_94 rfl rfl rfl ?_
        refine x_iconst 1 (z := 1) dX16_control_95 rfl (by decide) rfl ?_
        refine x_icmp_ne (t := 117) 21 dX16_control_96 rfl rfl (b_ite h (fun hc h => ?_) (fun hc h => ?_))
        · refine x_iconst 0 (z := 0) dX16_control_117 rfl (by decide) rfl ?_
          exact y_iret dX16_control_118 rfl h
        · refine x_aload_n 0 dX16_control_99 rfl rfl rfl rfl rfl ?_
          refine x_iload_n 1 dX16_control_100 rfl rfl rfl ?_
          refine x_iconst 0 (z := 0) dX16_control_101 rfl (by decide) rfl ?_
          refine y_Vi 298 (M := mX16_isCode) (As := [(0, a1), (0, 0)]) (st := []) dX16_control_102 i65 rfl q2166 q2168 qs53 q383 q2169 rfl hmX16_isCode rfl rfl rfl rfl rfl rfl rfl rfl (k_mono h (fun r7 w8 h => ?_))
          refine x_if_eq (t := 117) 12 dX16_control_105 rfl rfl (b_ite h (fun hc h => ?_) (fun hc h => ?_))
          · refine x_iconst 0 (z := 0) dX16_control_117 rfl (by decide) rfl ?_
            exact y_iret dX16_control_118 rfl h
          · refine x_aload_n 0 dX16_control_108 rfl rfl rfl rfl rfl ?_
            refine x_iload_n 1 dX16_control_109 rfl rfl rfl ?_
            refine x_iload_n 2 dX16_control_110 rfl rfl rfl ?_
            refine y_Vi 321 (M := mX16_loop) (As := [(0, a1), (0, a2)]) (st := []) dX16_control_111 i65 rfl q2227 q2229 qs67 q383 q2230 rfl hmX16_loop rfl rfl rfl rfl rfl rfl rfl rfl (k_mono h (fun r9 w10 h => ?_))
            refine x_goto 4 (q := 118) dX16_control_114 rfl ?_
            exact y_iret dX16_control_118 rfl h
      rcases hc with e | e
      · exact x_tsI (off := 93) (t := 94) dX16_control_1 (by rw [e]; decide) (by rw [e]; decide) (by rw [e]; rfl) rfl key
      · exact x_tsI (off := 93) (t := 94) dX16_control_1 (by rw [e]; decide) (by rw [e]; decide) (by rw [e]; rfl) rfl key
    · refine b_itc h (fun hc h => ?_) (fun hn2 h => ?_)
      · have key : b_Y (d + 1) mX16_control n Q X 119 [(2, 65), (0, a1), (0, a2), (0, a3), (9, 0)] [] w := by
          refine x_iload_n 3 dX16_control_119 rfl rfl rfl ?_
          refine x_iconst 1 (z := 1) dX16_control_120 rfl (by decide) rfl ?_
          refine x_icmp_ne (t := 142) 21 dX16_control_121 rfl rfl (b_ite h (fun hc h => ?_) (fun hc h => ?_))
          · refine x_iconst 0 (z := 0) dX16_control_142 rfl (by decide) rfl ?_
            exact y_iret dX16_control_143 rfl h
          · refine x_aload_n 0 dX16_control_124 rfl rfl rfl rfl rfl ?_
            refine x_iload_n 1 dX16_control_125 rfl rfl rfl ?_
            refine x_iconst 0 (z := 0) dX16_control_126 rfl (by decide) rfl ?_
            refine y_Vi 298 (M := mX16_isCode) (As := [(0, a1), (0, 0)]) (st := []) dX16_control_127 i65 rfl q2166 q2168 qs53 q383 q2169 rfl hmX16_isCode rfl rfl rfl rfl rfl rfl rfl rfl (k_mono h (fun r11 w12 h => ?_))
            refine x_if_eq (t := 142) 12 dX16_control_130 rfl rfl (b_ite h (fun hc h => ?_) (fun hc h => ?_))
            · refine x_iconst 0 (z := 0) dX16_control_142 rfl (by decide) rfl ?_
              exact y_iret dX16_control_143 rfl h
            · refine x_aload_n 0 dX16_control_133 rfl rfl rfl rfl rfl ?_
              refine x_iload_n 1 dX16_control_134 rfl rfl rfl ?_
              refine x_iload_n 2 dX16_control_135 rfl rfl rfl ?_
              refine y_Vi 324 (M := mX16_each) (As := [(0, a1), (0, a2)]) (st := []) dX16_control_136 i65 rfl q2231 q2233 qs68 q383 q2234 rfl hmX16_each rfl rfl rfl rfl rfl rfl rfl rfl (k_mono h (fun r13 w14 h => ?_))
              refine x_goto 4 (q := 143) dX16_control_139 rfl ?_
              exact y_iret dX16_control_143 rfl h
        rcases hc with e | e
        · exact x_tsI (off := 118) (t := 119) dX16_control_1 (by rw [e]; decide) (by rw [e]; decide) (by rw [e]; rfl) rfl key
        · exact x_tsI (off := 118) (t := 119) dX16_control_1 (by rw [e]; decide) (by rw [e]; decide) (by rw [e]; rfl) rfl key
      · refine b_itc h (fun hc h => ?_) (fun hn3 h => ?_)
        · have key : b_Y (d + 1) mX16_control n Q X 144 [(2, 65), (0, a1), (0, a2), (0, a3), (9, 0)] [] w := by
            refine x_iload_n 3 dX16_control_144 rfl rfl rfl ?_
            refine x_if_ne (t := 171) 26 dX16_control_145 rfl rfl (b_ite h (fun hc h => ?_) (fun hc h => ?_))
            · refine x_iconst 0 (z := 0) dX16_control_171 rfl (by decide) rfl ?_
              exact y_iret dX16_control_172 rfl h
            · refine x_aload_n 0 dX16_control_148 rfl rfl rfl rfl rfl ?_
              refine y_get 56 8 (c := 15) (z := w 65 8) dX16_control_149 i65 rfl in_X16 q1107 rfl rfl rfl rfl rfl ?_
              refine x_if_eq (t := 171) 19 dX16_control_152 rfl rfl (b_ite h (fun hc h => ?_) (fun hc h => ?_))
              · refine x_iconst 0 (z := 0) dX16_control_171 rfl (by decide) rfl ?_
                exact y_iret dX16_control_172 rfl h
              · refine x_aload_n 0 dX16_control_155 rfl rfl rfl rfl rfl ?_
                refine y_getF 32 1 (c := 15) (z := 19) dX16_control_156 i65 rfl in_X16 q1100 rfl rfl rfl fn_65_1 (Nat.le_trans (Nat.le_of_ble_eq_true rfl) hn) rfl ?_
                refine x_aload_n 0 dX16_control_159 rfl rfl rfl rfl rfl ?_
                refine x_iconst 0 (z := 0) dX16_control_160 rfl (by decide) rfl ?_
                refine y_Vi 209 (M := mX16_at) (As := [(0, 0)]) (st := [(2, 19)]) dX16_control_161 i65 rfl q2171 q2173 qs54 q383 q2174 rfl hmX16_at rfl rfl rfl rfl rfl rfl rfl rfl (k_mono h (fun r15 w16 h => ?_))
                refine x_iconst 2 (z := 2) dX16_control_164 rfl (by decide) rfl ?_
                refine y_Vi 120 (M := mX7_is) (As := [(0, r15), (0, 2)]) (st := []) dX16_control_165 i19 rfl q1866 q744 q745 q374 q746 rfl hmX7_is rfl rfl rfl rfl rfl rfl rfl rfl (k_mono h (fun r17 w18 h => ?_))
                refine x_if_ne (t := 173) 5 dX16_control_168 rfl rfl (b_ite h (fun hc h => ?_) (fun hc h => ?_))
                · refine x_aload_n 0 dX16_control_173 rfl rfl rfl rfl rfl ?_
                  refine x_iconst 1 (z := 1) dX16_control_174 rfl (by decide) rfl ?_
                  refine x_put 199 11 (c := 15) dX16_control_175 i65 rfl in_X16 tyX16_ok nmX16 q1110 rfl rfl rfl (Or.inl rfl) (Or.inr (Or.inl ⟨rfl, rfl, by decide⟩)) rfl ?_
                  refine x_aload_n 0 dX16_control_178 rfl rfl rfl rfl rfl ?_
                  refine x_iconst 1 (z := 1) dX16_control_179 rfl (by decide) rfl ?_
                  refine x_iload_n 2 dX16_control_180 rfl rfl rfl ?_
                  refine x_aload_n 0 dX16_control_181 rfl rfl rfl rfl rfl ?_
                  refine x_iconst 0 (z := 0) dX16_control_182 rfl (by decide) rfl ?_
                  refine y_Vi 209 (M := mX16_at) (As := [(0, 0)]) (st := [(0, a2), (0, 1), (2, 65)]) dX16_control_183 i65 rfl q2171 q2173 qs54 q383 q2174 rfl hmX16_at rfl rfl rfl rfl rfl rfl rfl rfl (k_mono h (fun r19 w20 h => ?_))
                  refine x_iconst 0 (z := 0) dX16_control_186 rfl (by decide) rfl ?_
                  refine x_iconst 0 (z := 0) dX16_control_187 rfl (by decide) rfl ?_
                  refine y_Vi 274 (M := mX16_done) (As := [(0, 1), (0, a2), (0, r19), (0, 0), (0, 0)]) (st := []) dX16_control_188 i65 rfl q2147 q2149 qs50 q383 q2150 rfl hmX16_done rfl rfl rfl rfl rfl rfl rfl rfl (k_mono h (fun r21 w22 h => ?_))
                  exact y_iret dX16_control_191 rfl h
                · refine x_iconst 0 (z := 0) dX16_control_171 rfl (by decide) rfl ?_
                  exact y_iret dX16_control_172 rfl h
          have e := hc
          exact x_tsI (off := 143) (t := 144) dX16_control_1 (by rw [e]; decide) (by rw [e]; decide) (by rw [e]; rfl) rfl key
        · refine b_itc h (fun hc h => ?_) (fun hn4 h => ?_)
          · have key : b_Y (d + 1) mX16_control n Q X 192 [(2, 65), (0, a1), (0, a2), (0, a3), (9, 0)] [] w := by
              refine x_iload_n 3 dX16_control_192 rfl rfl rfl ?_
              refine x_iconst 3 (z := 3) dX16_control_193 rfl (by decide) rfl ?_
              refine x_icmp_ne (t := 214) 20 dX16_control_194 rfl rfl (b_ite h (fun hc h => ?_) (fun hc h => ?_))
              · refine x_iconst 0 (z := 0) dX16_control_214 rfl (by decide) rfl ?_
                exact y_iret dX16_control_215 rfl h
              · refine x_aload_n 0 dX16_control_197 rfl rfl rfl rfl rfl ?_
                refine x_iload_n 1 dX16_control_198 rfl rfl rfl ?_
                refine x_iconst 2 (z := 2) dX16_control_199 rfl (by decide) rfl ?_
                refine y_Vi 298 (M := mX16_isCode) (As := [(0, a1), (0, 2)]) (st := []) dX16_control_200 i65 rfl q2166 q2168 qs53 q383 q2169 rfl hmX16_isCode rfl rfl rfl rfl rfl rfl rfl rfl (k_mono h (fun r23 w24 h => ?_))
                refine x_if_eq (t := 214) 11 dX16_control_203 rfl rfl (b_ite h (fun hc h => ?_) (fun hc h => ?_))
                · refine x_iconst 0 (z := 0) dX16_control_214 rfl (by decide) rfl ?_
                  exact y_iret dX16_control_215 rfl h
                · refine x_aload_n 0 dX16_control_206 rfl rfl rfl rfl rfl ?_
                  refine x_iload_n 1 dX16_control_207 rfl rfl rfl ?_
                  refine y_Vi 327 (M := mX16_lambda) (As := [(0, a1)]) (st := []) dX16_control_208 i65 rfl q2239 q2241 qs70 q383 q2242 rfl hmX16_lambda rfl rfl rfl rfl rfl rfl rfl rfl (k_mono h (fun r25 w26 h => ?_))
                  refine x_goto 4 (q := 215) dX16_control_211 rfl ?_
                  exact y_iret dX16_control_215 rfl h
            have e := hc
            exact x_tsI (off := 191) (t := 192) dX16_control_1 (by rw [e]; decide) (by rw [e]; decide) (by rw [e]; rfl) rfl key
          · refine b_itc h (fun hc h => ?_) (fun hn5 h => ?_)
            · have key : b_Y (d + 1) mX16_control n Q X 216 [(2, 65), (0, a1), (0, a2), (0, a3), (9, 0)] [] w := by
                refine x_aload_n 0 dX16_control_216 rfl rfl rfl rfl rfl ?_
                refine x_iload_n 3 dX16_control_217 rfl rfl rfl ?_
                refine x_if_ne (t := 261) 43 dX16_control_218 rfl rfl (b_ite h (fun hc h => ?_) (fun hc h => ?_))
                · refine x_iconst 0 (z := 0) dX16_control_261 rfl (by decide) rfl ?_
                  refine x_iload_n 2 dX16_control_262 rfl rfl rfl ?_
                  refine x_iconst 0 (z := 0) dX16_control_263 rfl (by decide) rfl ?_
                  refine x_iconst 0 (z := 0) dX16_control_264 rfl (by decide) rfl ?_
                  refine x_iconst 0 (z := 0) dX16_control_265 rfl (by decide) rfl ?_
                  refine y_Vi 274 (M := mX16_done) (As := [(0, 0), (0, a2), (0, 0), (0, 0), (0, 0)]) (st := []) dX16_control_266 i65 rfl q2147 q2149 qs50 q383 q2150 rfl hmX16_done rfl rfl rfl rfl rfl rfl rfl rfl (k_mono h (fun r27 w28 h => ?_))
                  exact y_iret dX16_control_269 rfl h
                · refine x_aload_n 0 dX16_control_221 rfl rfl rfl rfl rfl ?_
                  refine x_iconst 1 (z := 1) dX16_control_222 rfl (by decide) rfl ?_
                  refine y_Vi 304 (M := mX16_word) (As := [(0, 1)]) (st := [(2, 65)]) dX16_control_223 i65 rfl q2187 q2189 qs58 q383 q2190 rfl hmX16_word rfl rfl rfl rfl rfl rfl rfl rfl (k_mono h (fun r29 w30 h => ?_))
                  refine x_bipush 17 (z := 17) dX16_control_226 rfl (by decide) rfl ?_
                  refine x_icmp_ne (t := 261) 33 dX16_control_228 rfl rfl (b_ite h (fun hc h => ?_) (fun hc h => ?_))
                  · refine x_iconst 0 (z := 0) dX16_control_261 rfl (by decide) rfl ?_
                    refine x_iload_n 2 dX16_control_262 rfl rfl rfl ?_
                    refine x_iconst 0 (z := 0) dX16_control_263 rfl (by decide) rfl ?_
                    refine x_iconst 0 (z := 0) dX16_control_264 rfl (by decide) rfl ?_
                    refine x_iconst 0 (z := 0) dX16_control_265 rfl (by decide) rfl ?_
                    refine y_Vi 274 (M := mX16_done) (As := [(0, 0), (0, a2), (0, 0), (0, 0), (0, 0)]) (st := []) dX16_control_266 i65 rfl q2147 q2149 qs50 q383 q2150 rfl hmX16_done rfl rfl rfl rfl rfl rfl rfl rfl (k_mono h (fun r31 w32 h => ?_))
                    exact y_iret dX16_control_269 rfl h
                  · refine x_aload_n 0 dX16_control_231 rfl rfl rfl rfl rfl ?_
                    refine x_iconst 1 (z := 1) dX16_control_232 rfl (by decide) rfl ?_
                    refine y_Vi 307 (M := mX16_left) (As := [(0, 1)]) (st := [(2, 65)]) dX16_control_233 i65 rfl q2191 q2193 qs59 q383 q2194 rfl hmX16_left rfl rfl rfl rfl rfl rfl rfl rfl (k_mono h (fun r33 w34 h => ?_))
                    refine x_aload_n 0 dX16_control_236 rfl rfl rfl rfl rfl ?_
                    refine x_iconst 0 (z := 0) dX16_control_237 rfl (by decide) rfl ?_
                    refine y_Vi 209 (M := mX16_at) (As := [(0, 0)]) (st := [(0, r33), (2, 65)]) dX16_control_238 i65 rfl q2171 q2173 qs54 q383 q2174 rfl hmX16_at rfl rfl rfl rfl rfl rfl rfl rfl (k_mono h (fun r35 w36 h => ?_))
                    refine x_icmp_ne (t := 261) 20 dX16_control_241 rfl rfl (b_ite h (fun hc h => ?_) (fun hc h => ?_))
                    · refine x_iconst 0 (z := 0) dX16_control_261 rfl (by decide) rfl ?_
                      refine x_iload_n 2 dX16_control_262 rfl rfl rfl ?_
                      refine x_iconst 0 (z := 0) dX16_control_263 rfl (by decide) rfl ?_
                      refine x_iconst 0 (z := 0) dX16_control_264 rfl (by decide) rfl ?_
                      refine x_iconst 0 (z := 0) dX16_control_265 rfl (by decide) rfl ?_
                      refine y_Vi 274 (M := mX16_done) (As := [(0, 0), (0, a2), (0, 0), (0, 0), (0, 0)]) (st := []) dX16_control_266 i65 rfl q2147 q2149 qs50 q383 q2150 rfl hmX16_done rfl rfl rfl rfl rfl rfl rfl rfl (k_mono h (fun r37 w38 h => ?_))
                      exact y_iret dX16_control_269 rfl h
                    · refine x_aload_n 0 dX16_control_244 rfl rfl rfl rfl rfl ?_
                      refine x_iconst 2 (z := 2) dX16_control_245 rfl (by decide) rfl ?_
                      refine x_aload_n 0 dX16_control_246 rfl rfl rfl rfl rfl ?_
                      refine x_iconst 1 (z := 1) dX16_control_247 rfl (by decide) rfl ?_
                      refine y_Vi 310 (M := mX16_right) (As := [(0, 1)]) (st := [(0, 2), (2, 65), (2, 65)]) dX16_control_248 i65 rfl q2195 q2197 qs60 q383 q2198 rfl hmX16_right rfl rfl rfl rfl rfl rfl rfl rfl (k_mono h (fun r39 w40 h => ?_))
                      refine y_Vi 278 (M := mX16_become) (As := [(0, 2), (0, r39)]) (st := [(2, 65)]) dX16_control_251 i65 rfl q2143 q2145 qs49 q383 q2146 rfl hmX16_become rfl rfl rfl rfl rfl rfl rfl rfl (k_mono h (fun r41 w42 h => ?_))
                      refine x_if_eq (t := 261) 7 dX16_control_254 rfl rfl (b_ite h (fun hc h => ?_) (fun hc h => ?_))
                      · refine x_iconst 0 (z := 0) dX16_control_261 rfl (by decide) rfl ?_
                        refine x_iload_n 2 dX16_control_262 rfl rfl rfl ?_
                        refine x_iconst 0 (z := 0) dX16_control_263 rfl (by decide) rfl ?_
                        refine x_iconst 0 (z := 0) dX16_control_264 rfl (by decide) rfl ?_
                        refine x_iconst 0 (z := 0) dX16_control_265 rfl (by decide) rfl ?_
                        refine y_Vi 274 (M := mX16_done) (As := [(0, 0), (0, a2), (0, 0), (0, 0), (0, 0)]) (st := []) dX16_control_266 i65 rfl q2147 q2149 qs50 q383 q2150 rfl hmX16_done rfl rfl rfl rfl rfl rfl rfl rfl (k_mono h (fun r43 w44 h => ?_))
                        exact y_iret dX16_control_269 rfl h
                      · refine x_iconst 1 (z := 1) dX16_control_257 rfl (by decide) rfl ?_
                        refine x_goto 4 (q := 262) dX16_control_258 rfl ?_
                        refine x_iload_n 2 dX16_control_262 rfl rfl rfl ?_
                        refine x_iconst 0 (z := 0) dX16_control_263 rfl (by decide) rfl ?_
                        refine x_iconst 0 (z := 0) dX16_control_264 rfl (by decide) rfl ?_
                        refine x_iconst 0 (z := 0) dX16_control_265 rfl (by decide) rfl ?_
                        refine y_Vi 274 (M := mX16_done) (As := [(0, 1), (0, a2), (0, 0), (0, 0), (0, 0)]) (st := []) dX16_control_266 i65 rfl q2147 q2149 qs50 q383 q2150 rfl hmX16_done rfl rfl rfl rfl rfl rfl rfl rfl (k_mono h (fun r45 w46 h => ?_))
                        exact y_iret dX16_control_269 rfl h
              have e := hc
              exact x_tsI (off := 215) (t := 216) dX16_control_1 (by rw [e]; decide) (by rw [e]; decide) (by rw [e]; rfl) rfl key
            · have key : b_Y (d + 1) mX16_control n Q X 270 [(2, 65), (0, a1), (0, a2), (0, a3), (9, 0)] [] w := by
                refine x_iload_n 3 dX16_control_270 rfl rfl rfl ?_
                refine x_if_ne (t := 343) 72 dX16_control_271 rfl rfl (b_ite h (fun hc h => ?_) (fun hc h => ?_))
                · refine x_iconst 0 (z := 0) dX16_control_343 rfl (by decide) rfl ?_
                  exact x_fg (fgk (fgd (fgk (fgd (fgk (fg0)))))) h
                · refine x_aload_n 0 dX16_control_274 rfl rfl rfl rfl rfl ?_
                  refine x_iconst 1 (z := 1) dX16_control_275 rfl (by decide) rfl ?_
                  refine y_Vi 304 (M := mX16_word) (As := [(0, 1)]) (st := []) dX16_control_276 i65 rfl q2187 q2189 qs58 q383 q2190 rfl hmX16_word rfl rfl rfl rfl rfl rfl rfl rfl (k_mono h (fun r47 w48 h => ?_))
                  refine x_bipush 17 (z := 17) dX16_control_279 rfl (by decide) rfl ?_
                  refine x_icmp_ne (t := 343) 62 dX16_control_281 rfl rfl (b_ite h (fun hc h => ?_) (fun hc h => ?_))
                  · refine x_iconst 0 (z := 0) dX16_control_343 rfl (by decide) rfl ?_
                    exact x_fg (fgk (fgd (fgk (fgd (fgk (fg0)))))) h
                  · refine x_aload_n 0 dX16_control_284 rfl rfl rfl rfl rfl ?_
                    refine y_getF 32 1 (c := 15) (z := 19) dX16_control_285 i65 rfl in_X16 q1100 rfl rfl rfl fn_65_1 (Nat.le_trans (Nat.le_of_ble_eq_true rfl) hn) rfl ?_
                    refine y_getF 163 0 (c := 6) (z := 20) dX16_control_288 i19 rfl in_X7 q755 rfl rfl rfl fn_19_0 (Nat.le_trans (Nat.le_of_ble_eq_true rfl) hn) rfl ?_
                    refine x_aload_n 0 dX16_control_291 rfl rfl rfl rfl rfl ?_
                    refine x_iconst 1 (z := 1) dX16_control_292 rfl (by decide) rfl ?_
                    refine y_Vi 307 (M := mX16_left) (As := [(0, 1)]) (st := [(2, 20)]) dX16_control_293 i65 rfl q2191 q2193 qs59 q383 q2194 rfl hmX16_left rfl rfl rfl rfl rfl rfl rfl rfl (k_mono h (fun r49 w50 h => ?_))
                    obtain ⟨e51, h⟩ := h
                    refine y_bald (z := w50 20 r49) dX16_control_296 ⟨60000, i20, e51⟩ rfl rfl ?_
                    refine x_bipush 18 (z := 18) dX16_control_297 rfl (by decide) rfl ?_
                    refine x_icmp_ne (t := 343) 44 dX16_control_299 rfl rfl (b_ite h (fun hc h => ?_) (fun hc h => ?_))
                    · refine x_iconst 0 (z := 0) dX16_control_343 rfl (by decide) rfl ?_
                      exact x_fg (fgk (fgd (fgk (fgd (fgk (fg0)))))) h
                    · refine x_aload_n 0 dX16_control_302 rfl rfl rfl rfl rfl ?_
                      refine y_getF 32 1 (c := 15) (z := 19) dX16_control_303 i65 rfl in_X16 q1100 rfl rfl rfl fn_65_1 (Nat.le_trans (Nat.le_of_ble_eq_true rfl) hn) rfl ?_
                      refine y_getF 166 1 (c := 6) (z := 21) dX16_control_306 i19 rfl in_X7 q761 rfl rfl rfl fn_19_1 (Nat.le_trans (Nat.le_of_ble_eq_true rfl) hn) rfl ?_
                      refine x_aload_n 0 dX16_control_309 rfl rfl rfl rfl rfl ?_
                      refine x_iconst 1 (z := 1) dX16_control_310 rfl (by decide) rfl ?_
                      refine y_Vi 307 (M := mX16_left) (As := [(0, 1)]) (st := [(2, 21)]) dX16_control_311 i65 rfl q2191 q2193 qs59 q383 q2194 rfl hmX16_left rfl rfl rfl rfl rfl rfl rfl rfl (k_mono h (fun r52 w53 h => ?_))
                      obtain ⟨e54, h⟩ := h
                      refine y_iald (z := w53 21 r52) dX16_control_314 ⟨60000, i21, e54⟩ rfl rfl ?_
                      refine x_aload_n 0 dX16_control_315 rfl rfl rfl rfl rfl ?_
                      refine x_iconst 0 (z := 0) dX16_control_316 rfl (by decide) rfl ?_
                      refine y_Vi 209 (M := mX16_at) (As := [(0, 0)]) (st := [(0, w53 21 r52)]) dX16_control_317 i65 rfl q2171 q2173 qs54 q383 q2174 rfl hmX16_at rfl rfl rfl rfl rfl rfl rfl rfl (k_mono h (fun r55 w56 h => ?_))
                      refine x_icmp_ne (t := 343) 23 dX16_control_320 rfl rfl (b_ite h (fun hc h => ?_) (fun hc h => ?_))
                      · refine x_iconst 0 (z := 0) dX16_control_343 rfl (by decide) rfl ?_
                        exact x_fg (fgk (fgd (fgk (fgd (fgk (fg0)))))) h
                      · refine x_aload_n 0 dX16_control_323 rfl rfl rfl rfl rfl ?_
                        refine y_getF 32 1 (c := 15) (z := 19) dX16_control_324 i65 rfl in_X16 q1100 rfl rfl rfl fn_65_1 (Nat.le_trans (Nat.le_of_ble_eq_true rfl) hn) rfl ?_
                        refine x_aload_n 0 dX16_control_327 rfl rfl rfl rfl rfl ?_
                        refine x_iconst 0 (z := 0) dX16_control_328 rfl (by decide) rfl ?_
                        refine y_Vi 209 (M := mX16_at) (As := [(0, 0)]) (st := [(2, 19)]) dX16_control_329 i65 rfl q2171 q2173 qs54 q383 q2174 rfl hmX16_at rfl rfl rfl rfl rfl rfl rfl rfl (k_mono h (fun r57 w58 h => ?_))
                        refine x_iconst 2 (z := 2) dX16_control_332 rfl (by decide) rfl ?_
                        refine y_Vi 120 (M := mX7_is) (As := [(0, r57), (0, 2)]) (st := []) dX16_control_333 i19 rfl q1866 q744 q745 q374 q746 rfl hmX7_is rfl rfl rfl rfl rfl rfl rfl rfl (k_mono h (fun r59 w60 h => ?_))
                        refine x_if_eq (t := 343) 7 dX16_control_336 rfl rfl (b_ite h (fun hc h => ?_) (fun hc h => ?_))
                        · refine x_iconst 0 (z := 0) dX16_control_343 rfl (by decide) rfl ?_
                          exact x_fg (fgk (fgd (fgk (fgd (fgk (fg0)))))) h
                        · refine x_iconst 1 (z := 1) dX16_control_339 rfl (by decide) rfl ?_
                          refine x_goto 4 (q := 344) dX16_control_340 rfl ?_
                          exact x_fg (fgk (fgd (fgk (fgd (fgk (fg0)))))) h
              exact x_tsO (t := 270) dX16_control_1 (by omega) rfl key
theorem sX16_control_344 {d n : Nat} {w : bW} {Q : Int → bW → Prop} {X : String → bW → Prop} (hn : 143 ≤ n) (a2 : Int) (s0 : Int) (h : if s0 = 0 then (b_K d mX16_done [(2, 65), (0, 0), (0, a2), (0, 0), (0, 0), (0, 0)] n w (fun r1 w2 => Q r1 w2) X) else (b_K d mX16_left [(2, 65), (0, 1)] n w (fun r3 w4 => (0 ≤ r3 ∧ r3 < 60000) ∧ (b_K d mX16_right [(2, 65), (0, 1)] n w4 (fun r6 w7 => b_K d mX7_make [(2, 19), (0, 17), (0, w4 22 r3), (0, r6)] n w7 (fun r8 w9 => b_K d mX16_become [(2, 65), (0, 2), (0, r8)] n w9 (fun r10 w11 => if r10 = 0 then (b_K d mX16_done [(2, 65), (0, 0), (0, a2), (0, 0), (0, 0), (0, 0)] n w11 (fun r12 w13 => Q r12 w13) X) else (b_K d mX16_done [(2, 65), (0, 1), (0, a2), (0, 0), (0, 0), (0, 0)] n w11 (fun r14 w15 => Q r14 w15) X)) X) X) X)) X)) : LX16_control_344 d n Q X a2 s0 w := by
  have i19 := iz19 (Nat.le_trans (Nat.le_of_ble_eq_true rfl) hn)
  have i22 := iz22 (Nat.le_trans (Nat.le_of_ble_eq_true rfl) hn)
  have i65 := iz65 (Nat.le_trans (Nat.le_of_ble_eq_true rfl) hn)
  refine x_istore 4 (ls' := [(2, 65), (9, 0), (0, a2), (9, 0), (0, s0)]) dX16_control_344 rfl rfl rfl ?_
  refine x_aload_n 0 dX16_control_346 rfl rfl rfl rfl rfl ?_
  refine x_iload 4 dX16_control_347 rfl rfl ?_
  refine x_if_eq (t := 391) 42 dX16_control_349 rfl rfl (b_ite h (fun hc h => ?_) (fun hc h => ?_))
  · refine x_iconst 0 (z := 0) dX16_control_391 rfl (by decide) rfl ?_
    refine x_iload_n 2 dX16_control_392 rfl rfl rfl ?_
    refine x_iconst 0 (z := 0) dX16_control_393 rfl (by decide) rfl ?_
    refine x_iconst 0 (z := 0) dX16_control_394 rfl (by decide) rfl ?_
    refine x_iconst 0 (z := 0) dX16_control_395 rfl (by decide) rfl ?_
    refine y_Vi 274 (M := mX16_done) (As := [(0, 0), (0, a2), (0, 0), (0, 0), (0, 0)]) (st := []) dX16_control_396 i65 rfl q2147 q2149 qs50 q383 q2150 rfl hmX16_done rfl rfl rfl rfl rfl rfl rfl rfl (k_mono h (fun r1 w2 h => ?_))
    exact y_iret dX16_control_399 rfl h
  · refine x_aload_n 0 dX16_control_352 rfl rfl rfl rfl rfl ?_
    refine x_iconst 2 (z := 2) dX16_control_353 rfl (by decide) rfl ?_
    refine x_aload_n 0 dX16_control_354 rfl rfl rfl rfl rfl ?_
    refine y_getF 32 1 (c := 15) (z := 19) dX16_control_355 i65 rfl in_X16 q1100 rfl rfl rfl fn_65_1 (Nat.le_trans (Nat.le_of_ble_eq_true rfl) hn) rfl ?_
    refine x_bipush 17 (z := 17) dX16_control_358 rfl (by decide) rfl ?_
    refine x_aload_n 0 dX16_control_360 rfl rfl rfl rfl rfl ?_
    refine y_getF 32 1 (c := 15) (z := 19) dX16_control_361 i65 rfl in_X16 q1100 rfl rfl rfl fn_65_1 (Nat.le_trans (Nat.le_of_ble_eq_true rfl) hn) rfl ?_
    refine y_getF 169 2 (c := 6) (z := 22) dX16_control_364 i19 rfl in_X7 q767 rfl rfl rfl fn_19_2 (Nat.le_trans (Nat.le_of_ble_eq_true rfl) hn) rfl ?_
    refine x_aload_n 0 dX16_control_367 rfl rfl rfl rfl rfl ?_
    refine x_iconst 1 (z := 1) dX16_control_368 rfl (by decide) rfl ?_
    refine y_Vi 307 (M := mX16_left) (As := [(0, 1)]) (st := [(2, 22), (0, 17), (2, 19), (0, 2), (2, 65), (2, 65)]) dX16_control_369 i65 rfl q2191 q2193 qs59 q383 q2194 rfl hmX16_left rfl rfl rfl rfl rfl rfl rfl rfl (k_mono h (fun r3 w4 h => ?_))
    obtain ⟨e5, h⟩ := h
    refine y_iald (z := w4 22 r3) dX16_control_372 ⟨60000, i22, e5⟩ rfl rfl ?_
    refine x_aload_n 0 dX16_control_373 rfl rfl rfl rfl rfl ?_
    refine x_iconst 1 (z := 1) dX16_control_374 rfl (by decide) rfl ?_
    refine y_Vi 310 (M := mX16_right) (As := [(0, 1)]) (st := [(0, w4 22 r3), (0, 17), (2, 19), (0, 2), (2, 65), (2, 65)]) dX16_control_375 i65 rfl q2195 q2197 qs60 q383 q2198 rfl hmX16_right rfl rfl rfl rfl rfl rfl rfl rfl (k_mono h (fun r6 w7 h => ?_))
    refine y_Vi 195 (M := mX7_make) (As := [(0, 17), (0, w4 22 r3), (0, r6)]) (st := [(0, 2), (2, 65), (2, 65)]) dX16_control_378 i19 rfl q1911 q728 q729 q374 q730 rfl hmX7_make rfl rfl rfl rfl rfl rfl rfl rfl (k_mono h (fun r8 w9 h => ?_))
    refine y_Vi 278 (M := mX16_become) (As := [(0, 2), (0, r8)]) (st := [(2, 65)]) dX16_control_381 i65 rfl q2143 q2145 qs49 q383 q2146 rfl hmX16_become rfl rfl rfl rfl rfl rfl rfl rfl (k_mono h (fun r10 w11 h => ?_))
    refine x_if_eq (t := 391) 7 dX16_control_384 rfl rfl (b_ite h (fun hc h => ?_) (fun hc h => ?_))
    · refine x_iconst 0 (z := 0) dX16_control_391 rfl (by decide) rfl ?_
      refine x_iload_n 2 dX16_control_392 rfl rfl rfl ?_
      refine x_iconst 0 (z := 0) dX16_control_393 rfl (by decide) rfl ?_
      refine x_iconst 0 (z := 0) dX16_control_394 rfl (by decide) rfl ?_
      refine x_iconst 0 (z := 0) dX16_control_395 rfl (by decide) rfl ?_
      refine y_Vi 274 (M := mX16_done) (As := [(0, 0), (0, a2), (0, 0), (0, 0), (0, 0)]) (st := []) dX16_control_396 i65 rfl q2147 q2149 qs50 q383 q2150 rfl hmX16_done rfl rfl rfl rfl rfl rfl rfl rfl (k_mono h (fun r12 w13 h => ?_))
      exact y_iret dX16_control_399 rfl h
    · refine x_iconst 1 (z := 1) dX16_control_387 rfl (by decide) rfl ?_
      refine x_goto 4 (q := 392) dX16_control_388 rfl ?_
      refine x_iload_n 2 dX16_control_392 rfl rfl rfl ?_
      refine x_iconst 0 (z := 0) dX16_control_393 rfl (by decide) rfl ?_
      refine x_iconst 0 (z := 0) dX16_control_394 rfl (by decide) rfl ?_
      refine x_iconst 0 (z := 0) dX16_control_395 rfl (by decide) rfl ?_
      refine y_Vi 274 (M := mX16_done) (As := [(0, 1), (0, a2), (0, 0), (0, 0), (0, 0)]) (st := []) dX16_control_396 i65 rfl q2147 q2149 qs50 q383 q2150 rfl hmX16_done rfl rfl rfl rfl rfl rfl rfl rfl (k_mono h (fun r14 w15 h => ?_))
      exact y_iret dX16_control_399 rfl h
abbrev LX16_branch_34 (d n : Nat) (Q : Int → bW → Prop) (X : String → bW → Prop) (a1 : Int) (a2 : Int) (s0 : Int) (w : bW) : Prop := b_Y (d + 1) mX16_branch n Q X 34 [(2, 65), (0, a1), (0, a2), (9, 0), (9, 0), (9, 0), (9, 0), (9, 0), (9, 0), (9, 0), (9, 0), (9, 0), (9, 0), (9, 0)] [(0, s0)] w
abbrev LX16_branch_161 (d n : Nat) (Q : Int → bW → Prop) (X : String → bW → Prop) (a1 : Int) (a2 : Int) (a4 : Int) (a5 : Int) (a6 : Int) (w : bW) : Prop := b_Y (d + 1) mX16_branch n Q X 161 [(2, 65), (0, a1), (0, a2), (9, 0), (0, a4), (0, a5), (0, a6), (9, 0), (9, 0), (9, 0), (9, 0), (9, 0), (9, 0), (9, 0)] [] w
abbrev LX16_branch_251 (d n : Nat) (Q : Int → bW → Prop) (X : String → bW → Prop) (a1 : Int) (a2 : Int) (a5 : Int) (a8 : Int) (a9 : Int) (a10 : Int) (w : bW) : Prop := b_Y (d + 1) mX16_branch n Q X 251 [(2, 65), (0, a1), (0, a2), (9, 0), (9, 0), (0, a5), (9, 0), (9, 0), (0, a8), (0, a9), (0, a10), (9, 0), (9, 0), (9, 0)] [] w
abbrev LX16_branch_318 (d n : Nat) (Q : Int → bW → Prop) (X : String → bW → Prop) (a2 : Int) (a5 : Int) (a8 : Int) (a9 : Int) (a11 : Int) (a12 : Int) (s0 : Int) (w : bW) : Prop := b_Y (d + 1) mX16_branch n Q X 318 [(2, 65), (9, 0), (0, a2), (9, 0), (9, 0), (0, a5), (9, 0), (9, 0), (0, a8), (0, a9), (9, 0), (0, a11), (0, a12), (9, 0)] [(0, s0)] w
theorem rX16_branch {d n : Nat} {w : bW} {Q : Int → bW → Prop} {X : String → bW → Prop} (hn : 143 ≤ n) (a1 : Int) (a2 : Int) (h : if a2 ≠ 52 then (if a2 ≠ 53 then (if a2 ≠ 54 then (LX16_branch_34 d n Q X a1 a2 11 w) else (LX16_branch_34 d n Q X a1 a2 14 w)) else (LX16_branch_34 d n Q X a1 a2 10 w)) else (LX16_branch_34 d n Q X a1 a2 1 w)) : b_K (d + 1) mX16_branch [(2, 65), (0, a1), (0, a2)] n w Q X := by
  refine k_of (by decide) rfl rfl rfl (ls := [(2, 65), (0, a1), (0, a2), (9, 0), (9, 0), (9, 0), (9, 0), (9, 0), (9, 0), (9, 0), (9, 0), (9, 0), (9, 0), (9, 0)]) rfl ?_
  refine x_iload_n 2 dX16_branch_0 rfl rfl rfl ?_
  refine x_bipush 52 (z := 52) dX16_branch_1 rfl (by decide) rfl ?_
  refine x_icmp_ne (t := 10) 7 dX16_branch_3 rfl rfl (b_ite h (fun hc h => ?_) (fun hc h => ?_))
  · refine x_iload_n 2 dX16_branch_10 rfl rfl rfl ?_
    refine x_bipush 53 (z := 53) dX16_branch_11 rfl (by decide) rfl ?_
    refine x_icmp_ne (t := 21) 8 dX16_branch_13 rfl rfl (b_ite h (fun hc h => ?_) (fun hc h => ?_))
    · refine x_iload_n 2 dX16_branch_21 rfl rfl rfl ?_
      refine x_bipush 54 (z := 54) dX16_branch_22 rfl (by decide) rfl ?_
      refine x_icmp_ne (t := 32) 8 dX16_branch_24 rfl rfl (b_ite h (fun hc h => ?_) (fun hc h => ?_))
      · refine x_bipush 11 (z := 11) dX16_branch_32 rfl (by decide) rfl ?_
        exact x_fg (fgk (fgk (fgk (fgk (fgk (fgk (fgk (fgk (fgk (fgk (fgk (fgk (fgk (fgk (fg0))))))))))))))) h
      · refine x_bipush 14 (z := 14) dX16_branch_27 rfl (by decide) rfl ?_
        refine x_goto 5 (q := 34) dX16_branch_29 rfl ?_
        exact x_fg (fgk (fgk (fgk (fgk (fgk (fgk (fgk (fgk (fgk (fgk (fgk (fgk (fgk (fgk (fg0))))))))))))))) h
    · refine x_bipush 10 (z := 10) dX16_branch_16 rfl (by decide) rfl ?_
      refine x_goto 16 (q := 34) dX16_branch_18 rfl ?_
      exact x_fg (fgk (fgk (fgk (fgk (fgk (fgk (fgk (fgk (fgk (fgk (fgk (fgk (fgk (fgk (fg0))))))))))))))) h
  · refine x_iconst 1 (z := 1) dX16_branch_6 rfl (by decide) rfl ?_
    refine x_goto 27 (q := 34) dX16_branch_7 rfl ?_
    exact x_fg (fgk (fgk (fgk (fgk (fgk (fgk (fgk (fgk (fgk (fgk (fgk (fgk (fgk (fgk (fg0))))))))))))))) h
theorem sX16_branch_34 {d n : Nat} {w : bW} {Q : Int → bW → Prop} {X : String → bW → Prop} (hn : 143 ≤ n) (a1 : Int) (a2 : Int) (s0 : Int) (h : b_K d mX16_word [(2, 65), (0, 0)] n w (fun r1 w2 => if r1 = s0 then ((0 ≤ b_i ((w2 65 8) - 1) ∧ b_i ((w2 65 8) - 1) < 310) ∧ (b_K d mX16_save [(2, 65)] n (b_up w2 65 8 (b_i ((w2 65 8) - 1))) (fun r4 w5 => if 300 < b_i ((w5 65 8) + 2) then (if a2 ≠ 54 then (if a2 ≠ 55 then (LX16_branch_161 d n Q X a1 a2 (w2 68 (b_i ((w2 65 8) - 1))) (w2 65 10) (w5 65 10) w5) else (Q 0 w5)) else ((0 ≤ w2 68 (b_i ((w2 65 8) - 1)) ∧ w2 68 (b_i ((w2 65 8) - 1)) < 60000) ∧ (b_K d mX16_become [(2, 65), (0, 0), (0, w5 21 (w2 68 (b_i ((w2 65 8) - 1))))] n w5 (fun r7 w8 => LX16_branch_161 d n Q X a1 a2 (w2 68 (b_i ((w2 65 8) - 1))) (w2 65 10) (w5 65 10) w8) X))) else (if a2 ≠ 54 then (if a2 ≠ 55 then (LX16_branch_161 d n Q X a1 a2 (w2 68 (b_i ((w2 65 8) - 1))) (w2 65 10) (w5 65 10) w5) else (b_K d mX16_become [(2, 65), (0, 0), (0, w2 68 (b_i ((w2 65 8) - 1)))] n w5 (fun r9 w10 => (0 ≤ w2 68 (b_i ((w2 65 8) - 1)) ∧ w2 68 (b_i ((w2 65 8) - 1)) < 60000) ∧ (b_K d mX16_become [(2, 65), (0, 0), (0, w10 21 (w2 68 (b_i ((w2 65 8) - 1))))] n w10 (fun r12 w13 => LX16_branch_161 d n Q X a1 a2 (w2 68 (b_i ((w2 65 8) - 1))) (w2 65 10) (w5 65 10) w13) X)) X)) else ((0 ≤ w2 68 (b_i ((w2 65 8) - 1)) ∧ w2 68 (b_i ((w2 65 8) - 1)) < 60000) ∧ (b_K d mX16_become [(2, 65), (0, 0), (0, w5 21 (w2 68 (b_i ((w2 65 8) - 1))))] n w5 (fun r15 w16 => LX16_branch_161 d n Q X a1 a2 (w2 68 (b_i ((w2 65 8) - 1))) (w2 65 10) (w5 65 10) w16) X)))) X)) else (Q 0 w2)) X) : LX16_branch_34 d n Q X a1 a2 s0 w := by
  have i19 := iz19 (Nat.le_trans (Nat.le_of_ble_eq_true rfl) hn)
  have i21 := iz21 (Nat.le_trans (Nat.le_of_ble_eq_true rfl) hn)
  have i65 := iz65 (Nat.le_trans (Nat.le_of_ble_eq_true rfl) hn)
  have i68 := iz68 (Nat.le_trans (Nat.le_of_ble_eq_true rfl) hn)
  refine x_istore_n 3 (ls' := [(2, 65), (0, a1), (0, a2), (0, s0), (9, 0), (9, 0), (9, 0), (9, 0), (9, 0), (9, 0), (9, 0), (9, 0), (9, 0), (9, 0)]) dX16_branch_34 rfl rfl rfl rfl ?_
  refine x_aload_n 0 dX16_branch_35 rfl rfl rfl rfl rfl ?_
  refine x_iconst 0 (z := 0) dX16_branch_36 rfl (by decide) rfl ?_
  refine y_Vi 304 (M := mX16_word) (As := [(0, 0)]) (st := []) dX16_branch_37 i65 rfl q2187 q2189 qs58 q383 q2190 rfl hmX16_word rfl rfl rfl rfl rfl rfl rfl rfl (k_mono h (fun r1 w2 h => ?_))
  refine x_iload_n 3 dX16_branch_40 rfl rfl rfl ?_
  refine x_icmp_eq (t := 46) 5 dX16_branch_41 rfl rfl (b_ite h (fun hc h => ?_) (fun hc h => ?_))
  · refine x_aload_n 0 dX16_branch_46 rfl rfl rfl rfl rfl ?_
    refine y_getF 20 7 (c := 15) (z := 68) dX16_branch_47 i65 rfl in_X16 q1106 rfl rfl rfl fn_65_7 (Nat.le_trans (Nat.le_of_ble_eq_true rfl) hn) rfl ?_
    refine x_aload_n 0 dX16_branch_50 rfl rfl rfl rfl rfl ?_
    refine x_dup dX16_branch_51 rfl rfl ?_
    refine y_get 56 8 (c := 15) (z := w2 65 8) dX16_branch_52 i65 rfl in_X16 q1107 rfl rfl rfl rfl rfl ?_
    refine x_iconst 1 (z := 1) dX16_branch_55 rfl (by decide) rfl ?_
    refine x_isub dX16_branch_56 rfl ?_
    refine x_dup_x1 dX16_branch_57 rfl rfl rfl ?_
    refine x_put 56 8 (c := 15) dX16_branch_58 i65 rfl in_X16 tyX16_ok nmX16 q1107 rfl rfl rfl (Or.inl rfl) (Or.inl ⟨rfl, rfl⟩) rfl ?_
    obtain ⟨e3, h⟩ := h
    refine y_iald (z := w2 68 (b_i ((w2 65 8) - 1))) dX16_branch_61 ⟨310, i68, e3⟩ rfl rfl ?_
    refine x_istore 4 (ls' := [(2, 65), (0, a1), (0, a2), (0, s0), (0, w2 68 (b_i ((w2 65 8) - 1))), (9, 0), (9, 0), (9, 0), (9, 0), (9, 0), (9, 0), (9, 0), (9, 0), (9, 0)]) dX16_branch_62 rfl rfl rfl ?_
    refine x_aload_n 0 dX16_branch_64 rfl rfl rfl rfl rfl ?_
    refine y_get 59 10 (c := 15) (z := w2 65 10) dX16_branch_65 i65 rfl in_X16 q1109 rfl rfl rfl rfl rfl ?_
    refine x_istore 5 (ls' := [(2, 65), (0, a1), (0, a2), (0, s0), (0, w2 68 (b_i ((w2 65 8) - 1))), (0, w2 65 10), (9, 0), (9, 0), (9, 0), (9, 0), (9, 0), (9, 0), (9, 0), (9, 0)]) dX16_branch_68 rfl rfl rfl ?_
    refine x_aload_n 0 dX16_branch_70 rfl rfl rfl rfl rfl ?_
    refine y_Vv 330 (M := mX16_save) (As := []) (st := []) dX16_branch_71 i65 rfl q2215 q2217 qs64 q383 q2218 rfl hmX16_save rfl rfl rfl rfl rfl rfl rfl (k_mono h (fun r4 w5 h => ?_))
    refine x_aload_n 0 dX16_branch_74 rfl rfl rfl rfl rfl ?_
    refine y_get 59 10 (c := 15) (z := w5 65 10) dX16_branch_75 i65 rfl in_X16 q1109 rfl rfl rfl rfl rfl ?_
    refine x_istore 6 (ls' := [(2, 65), (0, a1), (0, a2), (0, s0), (0, w2 68 (b_i ((w2 65 8) - 1))), (0, w2 65 10), (0, w5 65 10), (9, 0), (9, 0), (9, 0), (9, 0), (9, 0), (9, 0), (9, 0)]) dX16_branch_78 rfl rfl rfl ?_
    refine x_aload_n 0 dX16_branch_80 rfl rfl rfl rfl rfl ?_
    refine y_get 56 8 (c := 15) (z := w5 65 8) dX16_branch_81 i65 rfl in_X16 q1107 rfl rfl rfl rfl rfl ?_
    refine x_iconst 2 (z := 2) dX16_branch_84 rfl (by decide) rfl ?_
    refine x_iadd dX16_branch_85 rfl ?_
    refine x_sipush 300 (z := 300) dX16_branch_86 rfl (by decide) rfl ?_
    refine x_icmp_gt (t := 96) 7 dX16_branch_89 rfl rfl (b_ite h (fun hc h => ?_) (fun hc h => ?_))
    · refine x_iconst 0 (z := 0) dX16_branch_96 rfl (by decide) rfl ?_
      refine x_istore 7 (ls' := [(2, 65), (0, a1), (0, a2), (0, s0), (0, w2 68 (b_i ((w2 65 8) - 1))), (0, w2 65 10), (0, w5 65 10), (0, 0), (9, 0), (9, 0), (9, 0), (9, 0), (9, 0), (9, 0)]) dX16_branch_97 rfl rfl rfl ?_
      refine x_iload_n 2 dX16_branch_99 rfl rfl rfl ?_
      refine x_bipush 54 (z := 54) dX16_branch_100 rfl (by decide) rfl ?_
      refine x_icmp_ne (t := 124) 22 dX16_branch_102 rfl rfl (b_ite h (fun hc h => ?_) (fun hc h => ?_))
      · refine x_iload_n 2 dX16_branch_124 rfl rfl rfl ?_
        refine x_bipush 55 (z := 55) dX16_branch_125 rfl (by decide) rfl ?_
        refine x_icmp_ne (t := 161) 34 dX16_branch_127 rfl rfl (b_ite h (fun hc h => ?_) (fun hc h => ?_))
        · exact x_fg (fgk (fgk (fgk (fgd (fgk (fgk (fgk (fgd (fgk (fgk (fgk (fgk (fgk (fgk (fg0))))))))))))))) h
        · refine x_iload 7 dX16_branch_130 rfl rfl ?_
          refine x_if_ne (t := 137) 5 dX16_branch_132 rfl rfl (b_ifF (by decide) ?_)
          refine x_iconst 0 (z := 0) dX16_branch_135 rfl (by decide) rfl ?_
          exact y_iret dX16_branch_136 rfl h
      · refine x_aload_n 0 dX16_branch_105 rfl rfl rfl rfl rfl ?_
        refine x_iconst 0 (z := 0) dX16_branch_106 rfl (by decide) rfl ?_
        refine x_aload_n 0 dX16_branch_107 rfl rfl rfl rfl rfl ?_
        refine y_getF 32 1 (c := 15) (z := 19) dX16_branch_108 i65 rfl in_X16 q1100 rfl rfl rfl fn_65_1 (Nat.le_trans (Nat.le_of_ble_eq_true rfl) hn) rfl ?_
        refine y_getF 166 1 (c := 6) (z := 21) dX16_branch_111 i19 rfl in_X7 q761 rfl rfl rfl fn_19_1 (Nat.le_trans (Nat.le_of_ble_eq_true rfl) hn) rfl ?_
        refine x_iload 4 dX16_branch_114 rfl rfl ?_
        obtain ⟨e6, h⟩ := h
        refine y_iald (z := w5 21 (w2 68 (b_i ((w2 65 8) - 1)))) dX16_branch_116 ⟨60000, i21, e6⟩ rfl rfl ?_
        refine y_Vi 278 (M := mX16_become) (As := [(0, 0), (0, w5 21 (w2 68 (b_i ((w2 65 8) - 1))))]) (st := []) dX16_branch_117 i65 rfl q2143 q2145 qs49 q383 q2146 rfl hmX16_become rfl rfl rfl rfl rfl rfl rfl rfl (k_mono h (fun r7 w8 h => ?_))
        refine x_pop dX16_branch_120 rfl rfl ?_
        refine x_goto 40 (q := 161) dX16_branch_121 rfl ?_
        exact x_fg (fgk (fgk (fgk (fgd (fgk (fgk (fgk (fgd (fgk (fgk (fgk (fgk (fgk (fgk (fg0))))))))))))))) h
    · refine x_iconst 1 (z := 1) dX16_branch_92 rfl (by decide) rfl ?_
      refine x_goto 4 (q := 97) dX16_branch_93 rfl ?_
      refine x_istore 7 (ls' := [(2, 65), (0, a1), (0, a2), (0, s0), (0, w2 68 (b_i ((w2 65 8) - 1))), (0, w2 65 10), (0, w5 65 10), (0, 1), (9, 0), (9, 0), (9, 0), (9, 0), (9, 0), (9, 0)]) dX16_branch_97 rfl rfl rfl ?_
      refine x_iload_n 2 dX16_branch_99 rfl rfl rfl ?_
      refine x_bipush 54 (z := 54) dX16_branch_100 rfl (by decide) rfl ?_
      refine x_icmp_ne (t := 124) 22 dX16_branch_102 rfl rfl (b_ite h (fun hc h => ?_) (fun hc h => ?_))
      · refine x_iload_n 2 dX16_branch_124 rfl rfl rfl ?_
        refine x_bipush 55 (z := 55) dX16_branch_125 rfl (by decide) rfl ?_
        refine x_icmp_ne (t := 161) 34 dX16_branch_127 rfl rfl (b_ite h (fun hc h => ?_) (fun hc h => ?_))
        · exact x_fg (fgk (fgk (fgk (fgd (fgk (fgk (fgk (fgd (fgk (fgk (fgk (fgk (fgk (fgk (fg0))))))))))))))) h
        · refine x_iload 7 dX16_branch_130 rfl rfl ?_
          refine x_if_ne (t := 137) 5 dX16_branch_132 rfl rfl (b_ifT (by decide) ?_)
          refine x_aload_n 0 dX16_branch_137 rfl rfl rfl rfl rfl ?_
          refine x_iconst 0 (z := 0) dX16_branch_138 rfl (by decide) rfl ?_
          refine x_iload 4 dX16_branch_139 rfl rfl ?_
          refine y_Vi 278 (M := mX16_become) (As := [(0, 0), (0, w2 68 (b_i ((w2 65 8) - 1)))]) (st := []) dX16_branch_141 i65 rfl q2143 q2145 qs49 q383 q2146 rfl hmX16_become rfl rfl rfl rfl rfl rfl rfl rfl (k_mono h (fun r9 w10 h => ?_))
          refine x_pop dX16_branch_144 rfl rfl ?_
          refine x_aload_n 0 dX16_branch_145 rfl rfl rfl rfl rfl ?_
          refine x_iconst 0 (z := 0) dX16_branch_146 rfl (by decide) rfl ?_
          refine x_aload_n 0 dX16_branch_147 rfl rfl rfl rfl rfl ?_
          refine y_getF 32 1 (c := 15) (z := 19) dX16_branch_148 i65 rfl in_X16 q1100 rfl rfl rfl fn_65_1 (Nat.le_trans (Nat.le_of_ble_eq_true rfl) hn) rfl ?_
          refine y_getF 166 1 (c := 6) (z := 21) dX16_branch_151 i19 rfl in_X7 q761 rfl rfl rfl fn_19_1 (Nat.le_trans (Nat.le_of_ble_eq_true rfl) hn) rfl ?_
          refine x_iload 4 dX16_branch_154 rfl rfl ?_
          obtain ⟨e11, h⟩ := h
          refine y_iald (z := w10 21 (w2 68 (b_i ((w2 65 8) - 1)))) dX16_branch_156 ⟨60000, i21, e11⟩ rfl rfl ?_
          refine y_Vi 278 (M := mX16_become) (As := [(0, 0), (0, w10 21 (w2 68 (b_i ((w2 65 8) - 1))))]) (st := []) dX16_branch_157 i65 rfl q2143 q2145 qs49 q383 q2146 rfl hmX16_become rfl rfl rfl rfl rfl rfl rfl rfl (k_mono h (fun r12 w13 h => ?_))
          refine x_pop dX16_branch_160 rfl rfl ?_
          exact x_fg (fgk (fgk (fgk (fgd (fgk (fgk (fgk (fgd (fgk (fgk (fgk (fgk (fgk (fgk (fg0))))))))))))))) h
      · refine x_aload_n 0 dX16_branch_105 rfl rfl rfl rfl rfl ?_
        refine x_iconst 0 (z := 0) dX16_branch_106 rfl (by decide) rfl ?_
        refine x_aload_n 0 dX16_branch_107 rfl rfl rfl rfl rfl ?_
        refine y_getF 32 1 (c := 15) (z := 19) dX16_branch_108 i65 rfl in_X16 q1100 rfl rfl rfl fn_65_1 (Nat.le_trans (Nat.le_of_ble_eq_true rfl) hn) rfl ?_
        refine y_getF 166 1 (c := 6) (z := 21) dX16_branch_111 i19 rfl in_X7 q761 rfl rfl rfl fn_19_1 (Nat.le_trans (Nat.le_of_ble_eq_true rfl) hn) rfl ?_
        refine x_iload 4 dX16_branch_114 rfl rfl ?_
        obtain ⟨e14, h⟩ := h
        refine y_iald (z := w5 21 (w2 68 (b_i ((w2 65 8) - 1)))) dX16_branch_116 ⟨60000, i21, e14⟩ rfl rfl ?_
        refine y_Vi 278 (M := mX16_become) (As := [(0, 0), (0, w5 21 (w2 68 (b_i ((w2 65 8) - 1))))]) (st := []) dX16_branch_117 i65 rfl q2143 q2145 qs49 q383 q2146 rfl hmX16_become rfl rfl rfl rfl rfl rfl rfl rfl (k_mono h (fun r15 w16 h => ?_))
        refine x_pop dX16_branch_120 rfl rfl ?_
        refine x_goto 40 (q := 161) dX16_branch_121 rfl ?_
        exact x_fg (fgk (fgk (fgk (fgd (fgk (fgk (fgk (fgd (fgk (fgk (fgk (fgk (fgk (fgk (fg0))))))))))))))) h
  · refine x_iconst 0 (z := 0) dX16_branch_44 rfl (by decide) rfl ?_
    exact y_iret dX16_branch_45 rfl h
theorem sX16_branch_161 {d n : Nat} {w : bW} {Q : Int → bW → Prop} {X : String → bW → Prop} (hn : 143 ≤ n) (a1 : Int) (a2 : Int) (a4 : Int) (a5 : Int) (a6 : Int) (h : b_K d mX16_argument [(2, 65), (0, a1), (0, 0)] n w (fun r1 w2 => b_K d mX16_code [(2, 65), (0, r1)] n w2 (fun r3 w4 => if w4 65 15 < 0 then (b_K d mX16_save [(2, 65)] n w4 (fun r5 w6 => b_K d mX16_load [(2, 65), (0, a6)] n w6 (fun r7 w8 => if a2 ≠ 53 then (if a2 ≠ 54 then (LX16_branch_251 d n Q X a1 a2 a5 r3 (w4 65 11) (w6 65 10) w8) else ((0 ≤ a4 ∧ a4 < 60000) ∧ (b_K d mX16_become [(2, 65), (0, 0), (0, w8 22 a4)] n w8 (fun r10 w11 => LX16_branch_251 d n Q X a1 a2 a5 r3 (w4 65 11) (w6 65 10) w11) X))) else ((0 ≤ a4 ∧ a4 < 60000) ∧ (b_K d mX16_become [(2, 65), (0, 0), (0, w8 21 a4)] n w8 (fun r13 w14 => LX16_branch_251 d n Q X a1 a2 a5 r3 (w4 65 11) (w6 65 10) w14) X))) X) X) else (Q 0 w4)) X) X) : LX16_branch_161 d n Q X a1 a2 a4 a5 a6 w := by
  have i19 := iz19 (Nat.le_trans (Nat.le_of_ble_eq_true rfl) hn)
  have i21 := iz21 (Nat.le_trans (Nat.le_of_ble_eq_true rfl) hn)
  have i22 := iz22 (Nat.le_trans (Nat.le_of_ble_eq_true rfl) hn)
  have i65 := iz65 (Nat.le_trans (Nat.le_of_ble_eq_true rfl) hn)
  refine x_aload_n 0 dX16_branch_161 rfl rfl rfl rfl rfl ?_
  refine x_aload_n 0 dX16_branch_162 rfl rfl rfl rfl rfl ?_
  refine x_iload_n 1 dX16_branch_163 rfl rfl rfl ?_
  refine x_iconst 0 (z := 0) dX16_branch_164 rfl (by decide) rfl ?_
  refine y_Vi 226 (M := mX16_argument) (As := [(0, a1), (0, 0)]) (st := [(2, 65)]) dX16_branch_165 i65 rfl q1932 q1934 qs35 q383 q1935 rfl hmX16_argument rfl rfl rfl rfl rfl rfl rfl rfl (k_mono h (fun r1 w2 h => ?_))
  refine y_Vi 206 (M := mX16_code) (As := [(0, r1)]) (st := []) dX16_branch_168 i65 rfl q1912 q1914 qs30 q383 q1915 rfl hmX16_code rfl rfl rfl rfl rfl rfl rfl rfl (k_mono h (fun r3 w4 h => ?_))
  refine x_istore 8 (ls' := [(2, 65), (0, a1), (0, a2), (9, 0), (0, a4), (0, a5), (0, a6), (9, 0), (0, r3), (9, 0), (9, 0), (9, 0), (9, 0), (9, 0)]) dX16_branch_171 rfl rfl rfl ?_
  refine x_aload_n 0 dX16_branch_173 rfl rfl rfl rfl rfl ?_
  refine y_get 52 15 (c := 15) (z := w4 65 15) dX16_branch_174 i65 rfl in_X16 q1114 rfl rfl rfl rfl rfl ?_
  refine x_if_lt (t := 182) 5 dX16_branch_177 rfl rfl (b_ite h (fun hc h => ?_) (fun hc h => ?_))
  · refine x_aload_n 0 dX16_branch_182 rfl rfl rfl rfl rfl ?_
    refine y_get 199 11 (c := 15) (z := w4 65 11) dX16_branch_183 i65 rfl in_X16 q1110 rfl rfl rfl rfl rfl ?_
    refine x_istore 9 (ls' := [(2, 65), (0, a1), (0, a2), (9, 0), (0, a4), (0, a5), (0, a6), (9, 0), (0, r3), (0, w4 65 11), (9, 0), (9, 0), (9, 0), (9, 0)]) dX16_branch_186 rfl rfl rfl ?_
    refine x_aload_n 0 dX16_branch_188 rfl rfl rfl rfl rfl ?_
    refine y_Vv 330 (M := mX16_save) (As := []) (st := []) dX16_branch_189 i65 rfl q2215 q2217 qs64 q383 q2218 rfl hmX16_save rfl rfl rfl rfl rfl rfl rfl (k_mono h (fun r5 w6 h => ?_))
    refine x_aload_n 0 dX16_branch_192 rfl rfl rfl rfl rfl ?_
    refine y_get 59 10 (c := 15) (z := w6 65 10) dX16_branch_193 i65 rfl in_X16 q1109 rfl rfl rfl rfl rfl ?_
    refine x_istore 10 (ls' := [(2, 65), (0, a1), (0, a2), (9, 0), (0, a4), (0, a5), (0, a6), (9, 0), (0, r3), (0, w4 65 11), (0, w6 65 10), (9, 0), (9, 0), (9, 0)]) dX16_branch_196 rfl rfl rfl ?_
    refine x_aload_n 0 dX16_branch_198 rfl rfl rfl rfl rfl ?_
    refine x_iload 6 dX16_branch_199 rfl rfl ?_
    refine y_Vv 333 (M := mX16_load) (As := [(0, a6)]) (st := []) dX16_branch_201 i65 rfl q2219 q2221 qs65 q383 q2222 rfl hmX16_load rfl rfl rfl rfl rfl rfl rfl (k_mono h (fun r7 w8 h => ?_))
    refine x_iload_n 2 dX16_branch_204 rfl rfl rfl ?_
    refine x_bipush 53 (z := 53) dX16_branch_205 rfl (by decide) rfl ?_
    refine x_icmp_ne (t := 229) 22 dX16_branch_207 rfl rfl (b_ite h (fun hc h => ?_) (fun hc h => ?_))
    · refine x_iload_n 2 dX16_branch_229 rfl rfl rfl ?_
      refine x_bipush 54 (z := 54) dX16_branch_230 rfl (by decide) rfl ?_
      refine x_icmp_ne (t := 251) 19 dX16_branch_232 rfl rfl (b_ite h (fun hc h => ?_) (fun hc h => ?_))
      · exact x_fg (fgk (fgk (fgk (fgk (fgd (fgk (fgd (fgk (fgk (fgk (fgk (fgk (fgk (fgk (fg0))))))))))))))) h
      · refine x_aload_n 0 dX16_branch_235 rfl rfl rfl rfl rfl ?_
        refine x_iconst 0 (z := 0) dX16_branch_236 rfl (by decide) rfl ?_
        refine x_aload_n 0 dX16_branch_237 rfl rfl rfl rfl rfl ?_
        refine y_getF 32 1 (c := 15) (z := 19) dX16_branch_238 i65 rfl in_X16 q1100 rfl rfl rfl fn_65_1 (Nat.le_trans (Nat.le_of_ble_eq_true rfl) hn) rfl ?_
        refine y_getF 169 2 (c := 6) (z := 22) dX16_branch_241 i19 rfl in_X7 q767 rfl rfl rfl fn_19_2 (Nat.le_trans (Nat.le_of_ble_eq_true rfl) hn) rfl ?_
        refine x_iload 4 dX16_branch_244 rfl rfl ?_
        obtain ⟨e9, h⟩ := h
        refine y_iald (z := w8 22 a4) dX16_branch_246 ⟨60000, i22, e9⟩ rfl rfl ?_
        refine y_Vi 278 (M := mX16_become) (As := [(0, 0), (0, w8 22 a4)]) (st := []) dX16_branch_247 i65 rfl q2143 q2145 qs49 q383 q2146 rfl hmX16_become rfl rfl rfl rfl rfl rfl rfl rfl (k_mono h (fun r10 w11 h => ?_))
        refine x_pop dX16_branch_250 rfl rfl ?_
        exact x_fg (fgk (fgk (fgk (fgk (fgd (fgk (fgd (fgk (fgk (fgk (fgk (fgk (fgk (fgk (fg0))))))))))))))) h
    · refine x_aload_n 0 dX16_branch_210 rfl rfl rfl rfl rfl ?_
      refine x_iconst 0 (z := 0) dX16_branch_211 rfl (by decide) rfl ?_
      refine x_aload_n 0 dX16_branch_212 rfl rfl rfl rfl rfl ?_
      refine y_getF 32 1 (c := 15) (z := 19) dX16_branch_213 i65 rfl in_X16 q1100 rfl rfl rfl fn_65_1 (Nat.le_trans (Nat.le_of_ble_eq_true rfl) hn) rfl ?_
      refine y_getF 166 1 (c := 6) (z := 21) dX16_branch_216 i19 rfl in_X7 q761 rfl rfl rfl fn_19_1 (Nat.le_trans (Nat.le_of_ble_eq_true rfl) hn) rfl ?_
      refine x_iload 4 dX16_branch_219 rfl rfl ?_
      obtain ⟨e12, h⟩ := h
      refine y_iald (z := w8 21 a4) dX16_branch_221 ⟨60000, i21, e12⟩ rfl rfl ?_
      refine y_Vi 278 (M := mX16_become) (As := [(0, 0), (0, w8 21 a4)]) (st := []) dX16_branch_222 i65 rfl q2143 q2145 qs49 q383 q2146 rfl hmX16_become rfl rfl rfl rfl rfl rfl rfl rfl (k_mono h (fun r13 w14 h => ?_))
      refine x_pop dX16_branch_225 rfl rfl ?_
      refine x_goto 25 (q := 251) dX16_branch_226 rfl ?_
      exact x_fg (fgk (fgk (fgk (fgk (fgd (fgk (fgd (fgk (fgk (fgk (fgk (fgk (fgk (fgk (fg0))))))))))))))) h
  · refine x_iconst 0 (z := 0) dX16_branch_180 rfl (by decide) rfl ?_
    exact y_iret dX16_branch_181 rfl h
theorem sX16_branch_251 {d n : Nat} {w : bW} {Q : Int → bW → Prop} {X : String → bW → Prop} (hn : 143 ≤ n) (a1 : Int) (a2 : Int) (a5 : Int) (a8 : Int) (a9 : Int) (a10 : Int) (h : b_K d mX16_argument [(2, 65), (0, a1), (0, 1)] n w (fun r1 w2 => b_K d mX16_code [(2, 65), (0, r1)] n w2 (fun r3 w4 => if w4 65 15 < 0 then (if w4 65 11 = 0 then (if a9 ≠ 0 then (LX16_branch_318 d n Q X a2 a5 a8 a9 r3 (w4 65 11) 1 w4) else (if w4 65 11 ≠ 0 then (LX16_branch_318 d n Q X a2 a5 a8 a9 r3 (w4 65 11) 1 w4) else (b_K d mX16_isSaved [(2, 65), (0, a10)] n w4 (fun r5 w6 => if r5 = 0 then (LX16_branch_318 d n Q X a2 a5 a8 a9 r3 (w4 65 11) 0 w6) else (LX16_branch_318 d n Q X a2 a5 a8 a9 r3 (w4 65 11) 1 w6)) X))) else (if a9 ≠ 0 then (if a9 ≠ 0 then (LX16_branch_318 d n Q X a2 a5 a8 a9 r3 (w4 65 11) 1 w4) else (if w4 65 11 ≠ 0 then (LX16_branch_318 d n Q X a2 a5 a8 a9 r3 (w4 65 11) 1 w4) else (b_K d mX16_isSaved [(2, 65), (0, a10)] n w4 (fun r7 w8 => if r7 = 0 then (LX16_branch_318 d n Q X a2 a5 a8 a9 r3 (w4 65 11) 0 w8) else (LX16_branch_318 d n Q X a2 a5 a8 a9 r3 (w4 65 11) 1 w8)) X))) else (b_K d mX16_load [(2, 65), (0, a10)] n w4 (fun r9 w10 => if a9 ≠ 0 then (LX16_branch_318 d n Q X a2 a5 a8 a9 r3 (w4 65 11) 1 w10) else (if w4 65 11 ≠ 0 then (LX16_branch_318 d n Q X a2 a5 a8 a9 r3 (w4 65 11) 1 w10) else (b_K d mX16_isSaved [(2, 65), (0, a10)] n w10 (fun r11 w12 => if r11 = 0 then (LX16_branch_318 d n Q X a2 a5 a8 a9 r3 (w4 65 11) 0 w12) else (LX16_branch_318 d n Q X a2 a5 a8 a9 r3 (w4 65 11) 1 w12)) X))) X))) else (Q 0 w4)) X) X) : LX16_branch_251 d n Q X a1 a2 a5 a8 a9 a10 w := by
  have i65 := iz65 (Nat.le_trans (Nat.le_of_ble_eq_true rfl) hn)
  refine x_aload_n 0 dX16_branch_251 rfl rfl rfl rfl rfl ?_
  refine x_aload_n 0 dX16_branch_252 rfl rfl rfl rfl rfl ?_
  refine x_iload_n 1 dX16_branch_253 rfl rfl rfl ?_
  refine x_iconst 1 (z := 1) dX16_branch_254 rfl (by decide) rfl ?_
  refine y_Vi 226 (M := mX16_argument) (As := [(0, a1), (0, 1)]) (st := [(2, 65)]) dX16_branch_255 i65 rfl q1932 q1934 qs35 q383 q1935 rfl hmX16_argument rfl rfl rfl rfl rfl rfl rfl rfl (k_mono h (fun r1 w2 h => ?_))
  refine y_Vi 206 (M := mX16_code) (As := [(0, r1)]) (st := []) dX16_branch_258 i65 rfl q1912 q1914 qs30 q383 q1915 rfl hmX16_code rfl rfl rfl rfl rfl rfl rfl rfl (k_mono h (fun r3 w4 h => ?_))
  refine x_istore 11 (ls' := [(2, 65), (0, a1), (0, a2), (9, 0), (9, 0), (0, a5), (9, 0), (9, 0), (0, a8), (0, a9), (0, a10), (0, r3), (9, 0), (9, 0)]) dX16_branch_261 rfl rfl rfl ?_
  refine x_aload_n 0 dX16_branch_263 rfl rfl rfl rfl rfl ?_
  refine y_get 52 15 (c := 15) (z := w4 65 15) dX16_branch_264 i65 rfl in_X16 q1114 rfl rfl rfl rfl rfl ?_
  refine x_if_lt (t := 272) 5 dX16_branch_267 rfl rfl (b_ite h (fun hc h => ?_) (fun hc h => ?_))
  · refine x_aload_n 0 dX16_branch_272 rfl rfl rfl rfl rfl ?_
    refine y_get 199 11 (c := 15) (z := w4 65 11) dX16_branch_273 i65 rfl in_X16 q1110 rfl rfl rfl rfl rfl ?_
    refine x_istore 12 (ls' := [(2, 65), (0, a1), (0, a2), (9, 0), (9, 0), (0, a5), (9, 0), (9, 0), (0, a8), (0, a9), (0, a10), (0, r3), (0, w4 65 11), (9, 0)]) dX16_branch_276 rfl rfl rfl ?_
    refine x_iload 12 dX16_branch_278 rfl rfl ?_
    refine x_if_eq (t := 294) 14 dX16_branch_280 rfl rfl (b_ite h (fun hc h => ?_) (fun hc h => ?_))
    · refine x_iload 9 dX16_branch_294 rfl rfl ?_
      refine x_if_ne (t := 313) 17 dX16_branch_296 rfl rfl (b_ite h (fun hc h => ?_) (fun hc h => ?_))
      · refine x_iconst 1 (z := 1) dX16_branch_313 rfl (by decide) rfl ?_
        refine x_goto 4 (q := 318) dX16_branch_314 rfl ?_
        exact x_fg (fgk (fgd (fgk (fgk (fgk (fgk (fgk (fgk (fgk (fgk (fgd (fgk (fgk (fgk (fg0))))))))))))))) h
      · refine x_iload 12 dX16_branch_299 rfl rfl ?_
        refine x_if_ne (t := 313) 12 dX16_branch_301 rfl rfl (b_ite h (fun hc h => ?_) (fun hc h => ?_))
        · refine x_iconst 1 (z := 1) dX16_branch_313 rfl (by decide) rfl ?_
          refine x_goto 4 (q := 318) dX16_branch_314 rfl ?_
          exact x_fg (fgk (fgd (fgk (fgk (fgk (fgk (fgk (fgk (fgk (fgk (fgd (fgk (fgk (fgk (fg0))))))))))))))) h
        · refine x_aload_n 0 dX16_branch_304 rfl rfl rfl rfl rfl ?_
          refine x_iload 10 dX16_branch_305 rfl rfl ?_
          refine y_Vi 336 (M := mX16_isSaved) (As := [(0, a10)]) (st := []) dX16_branch_307 i65 rfl q2223 q2225 qs66 q383 q2226 rfl hmX16_isSaved rfl rfl rfl rfl rfl rfl rfl rfl (k_mono h (fun r5 w6 h => ?_))
          refine x_if_eq (t := 317) 7 dX16_branch_310 rfl rfl (b_ite h (fun hc h => ?_) (fun hc h => ?_))
          · refine x_iconst 0 (z := 0) dX16_branch_317 rfl (by decide) rfl ?_
            exact x_fg (fgk (fgd (fgk (fgk (fgk (fgk (fgk (fgk (fgk (fgk (fgd (fgk (fgk (fgk (fg0))))))))))))))) h
          · refine x_iconst 1 (z := 1) dX16_branch_313 rfl (by decide) rfl ?_
            refine x_goto 4 (q := 318) dX16_branch_314 rfl ?_
            exact x_fg (fgk (fgd (fgk (fgk (fgk (fgk (fgk (fgk (fgk (fgk (fgd (fgk (fgk (fgk (fg0))))))))))))))) h
    · refine x_iload 9 dX16_branch_283 rfl rfl ?_
      refine x_if_ne (t := 294) 9 dX16_branch_285 rfl rfl (b_ite h (fun hc h => ?_) (fun hc h => ?_))
      · refine x_iload 9 dX16_branch_294 rfl rfl ?_
        refine x_if_ne (t := 313) 17 dX16_branch_296 rfl rfl (b_ite h (fun hc h => ?_) (fun hc h => ?_))
        · refine x_iconst 1 (z := 1) dX16_branch_313 rfl (by decide) rfl ?_
          refine x_goto 4 (q := 318) dX16_branch_314 rfl ?_
          exact x_fg (fgk (fgd (fgk (fgk (fgk (fgk (fgk (fgk (fgk (fgk (fgd (fgk (fgk (fgk (fg0))))))))))))))) h
        · refine x_iload 12 dX16_branch_299 rfl rfl ?_
          refine x_if_ne (t := 313) 12 dX16_branch_301 rfl rfl (b_ite h (fun hc h => ?_) (fun hc h => ?_))
          · refine x_iconst 1 (z := 1) dX16_branch_313 rfl (by decide) rfl ?_
            refine x_goto 4 (q := 318) dX16_branch_314 rfl ?_
            exact x_fg (fgk (fgd (fgk (fgk (fgk (fgk (fgk (fgk (fgk (fgk (fgd (fgk (fgk (fgk (fg0))))))))))))))) h
          · refine x_aload_n 0 dX16_branch_304 rfl rfl rfl rfl rfl ?_
            refine x_iload 10 dX16_branch_305 rfl rfl ?_
            refine y_Vi 336 (M := mX16_isSaved) (As := [(0, a10)]) (st := []) dX16_branch_307 i65 rfl q2223 q2225 qs66 q383 q2226 rfl hmX16_isSaved rfl rfl rfl rfl rfl rfl rfl rfl (k_mono h (fun r7 w8 h => ?_))
            refine x_if_eq (t := 317) 7 dX16_branch_310 rfl rfl (b_ite h (fun hc h => ?_) (fun hc h => ?_))
            · refine x_iconst 0 (z := 0) dX16_branch_317 rfl (by decide) rfl ?_
              exact x_fg (fgk (fgd (fgk (fgk (fgk (fgk (fgk (fgk (fgk (fgk (fgd (fgk (fgk (fgk (fg0))))))))))))))) h
            · refine x_iconst 1 (z := 1) dX16_branch_313 rfl (by decide) rfl ?_
              refine x_goto 4 (q := 318) dX16_branch_314 rfl ?_
              exact x_fg (fgk (fgd (fgk (fgk (fgk (fgk (fgk (fgk (fgk (fgk (fgd (fgk (fgk (fgk (fg0))))))))))))))) h
      · refine x_aload_n 0 dX16_branch_288 rfl rfl rfl rfl rfl ?_
        refine x_iload 10 dX16_branch_289 rfl rfl ?_
        refine y_Vv 333 (M := mX16_load) (As := [(0, a10)]) (st := []) dX16_branch_291 i65 rfl q2219 q2221 qs65 q383 q2222 rfl hmX16_load rfl rfl rfl rfl rfl rfl rfl (k_mono h (fun r9 w10 h => ?_))
        refine x_iload 9 dX16_branch_294 rfl rfl ?_
        refine x_if_ne (t := 313) 17 dX16_branch_296 rfl rfl (b_ite h (fun hc h => ?_) (fun hc h => ?_))
        · refine x_iconst 1 (z := 1) dX16_branch_313 rfl (by decide) rfl ?_
          refine x_goto 4 (q := 318) dX16_branch_314 rfl ?_
          exact x_fg (fgk (fgd (fgk (fgk (fgk (fgk (fgk (fgk (fgk (fgk (fgd (fgk (fgk (fgk (fg0))))))))))))))) h
        · refine x_iload 12 dX16_branch_299 rfl rfl ?_
          refine x_if_ne (t := 313) 12 dX16_branch_301 rfl rfl (b_ite h (fun hc h => ?_) (fun hc h => ?_))
          · refine x_iconst 1 (z := 1) dX16_branch_313 rfl (by decide) rfl ?_
            refine x_goto 4 (q := 318) dX16_branch_314 rfl ?_
            exact x_fg (fgk (fgd (fgk (fgk (fgk (fgk (fgk (fgk (fgk (fgk (fgd (fgk (fgk (fgk (fg0))))))))))))))) h
          · refine x_aload_n 0 dX16_branch_304 rfl rfl rfl rfl rfl ?_
            refine x_iload 10 dX16_branch_305 rfl rfl ?_
            refine y_Vi 336 (M := mX16_isSaved) (As := [(0, a10)]) (st := []) dX16_branch_307 i65 rfl q2223 q2225 qs66 q383 q2226 rfl hmX16_isSaved rfl rfl rfl rfl rfl rfl rfl rfl (k_mono h (fun r11 w12 h => ?_))
            refine x_if_eq (t := 317) 7 dX16_branch_310 rfl rfl (b_ite h (fun hc h => ?_) (fun hc h => ?_))
            · refine x_iconst 0 (z := 0) dX16_branch_317 rfl (by decide) rfl ?_
              exact x_fg (fgk (fgd (fgk (fgk (fgk (fgk (fgk (fgk (fgk (fgk (fgd (fgk (fgk (fgk (fg0))))))))))))))) h
            · refine x_iconst 1 (z := 1) dX16_branch_313 rfl (by decide) rfl ?_
              refine x_goto 4 (q := 318) dX16_branch_314 rfl ?_
              exact x_fg (fgk (fgd (fgk (fgk (fgk (fgk (fgk (fgk (fgk (fgk (fgd (fgk (fgk (fgk (fg0))))))))))))))) h
  · refine x_iconst 0 (z := 0) dX16_branch_270 rfl (by decide) rfl ?_
    exact y_iret dX16_branch_271 rfl h
theorem sX16_branch_318 {d n : Nat} {w : bW} {Q : Int → bW → Prop} {X : String → bW → Prop} (hn : 143 ≤ n) (a2 : Int) (a5 : Int) (a8 : Int) (a9 : Int) (a11 : Int) (a12 : Int) (s0 : Int) (h : if a9 = 0 then (b_K d mX16_done [(2, 65), (0, s0), (0, a2), (0, a8), (0, a11), (0, 0)] n (b_up (b_up w 65 11 0) 65 10 a5) (fun r1 w2 => Q r1 w2) X) else (if a12 = 0 then (b_K d mX16_done [(2, 65), (0, s0), (0, a2), (0, a8), (0, a11), (0, 0)] n (b_up (b_up w 65 11 0) 65 10 a5) (fun r3 w4 => Q r3 w4) X) else (b_K d mX16_done [(2, 65), (0, s0), (0, a2), (0, a8), (0, a11), (0, 0)] n (b_up (b_up w 65 11 1) 65 10 a5) (fun r5 w6 => Q r5 w6) X))) : LX16_branch_318 d n Q X a2 a5 a8 a9 a11 a12 s0 w := by
  have i65 := iz65 (Nat.le_trans (Nat.le_of_ble_eq_true rfl) hn)
  refine x_istore 13 (ls' := [(2, 65), (9, 0), (0, a2), (9, 0), (9, 0), (0, a5), (9, 0), (9, 0), (0, a8), (0, a9), (9, 0), (0, a11), (0, a12), (0, s0)]) dX16_branch_318 rfl rfl rfl ?_
  refine x_aload_n 0 dX16_branch_320 rfl rfl rfl rfl rfl ?_
  refine x_iload 9 dX16_branch_321 rfl rfl ?_
  refine x_if_eq (t := 335) 12 dX16_branch_323 rfl rfl (b_ite h (fun hc h => ?_) (fun hc h => ?_))
  · refine x_iconst 0 (z := 0) dX16_branch_335 rfl (by decide) rfl ?_
    refine x_put 199 11 (c := 15) dX16_branch_336 i65 rfl in_X16 tyX16_ok nmX16 q1110 rfl rfl rfl (Or.inl rfl) (Or.inr (Or.inl ⟨rfl, rfl, by decide⟩)) rfl ?_
    refine x_aload_n 0 dX16_branch_339 rfl rfl rfl rfl rfl ?_
    refine x_iload 5 dX16_branch_340 rfl rfl ?_
    refine x_put 59 10 (c := 15) dX16_branch_342 i65 rfl in_X16 tyX16_ok nmX16 q1109 rfl rfl rfl (Or.inl rfl) (Or.inl ⟨rfl, rfl⟩) rfl ?_
    refine x_aload_n 0 dX16_branch_345 rfl rfl rfl rfl rfl ?_
    refine x_iload 13 dX16_branch_346 rfl rfl ?_
    refine x_iload_n 2 dX16_branch_348 rfl rfl rfl ?_
    refine x_iload 8 dX16_branch_349 rfl rfl ?_
    refine x_iload 11 dX16_branch_351 rfl rfl ?_
    refine x_iconst 0 (z := 0) dX16_branch_353 rfl (by decide) rfl ?_
    refine y_Vi 274 (M := mX16_done) (As := [(0, s0), (0, a2), (0, a8), (0, a11), (0, 0)]) (st := []) dX16_branch_354 i65 rfl q2147 q2149 qs50 q383 q2150 rfl hmX16_done rfl rfl rfl rfl rfl rfl rfl rfl (k_mono h (fun r1 w2 h => ?_))
    exact y_iret dX16_branch_357 rfl h
  · refine x_iload 12 dX16_branch_326 rfl rfl ?_
    refine x_if_eq (t := 335) 7 dX16_branch_328 rfl rfl (b_ite h (fun hc h => ?_) (fun hc h => ?_))
    · refine x_iconst 0 (z := 0) dX16_branch_335 rfl (by decide) rfl ?_
      refine x_put 199 11 (c := 15) dX16_branch_336 i65 rfl in_X16 tyX16_ok nmX16 q1110 rfl rfl rfl (Or.inl rfl) (Or.inr (Or.inl ⟨rfl, rfl, by decide⟩)) rfl ?_
      refine x_aload_n 0 dX16_branch_339 rfl rfl rfl rfl rfl ?_
      refine x_iload 5 dX16_branch_340 rfl rfl ?_
      refine x_put 59 10 (c := 15) dX16_branch_342 i65 rfl in_X16 tyX16_ok nmX16 q1109 rfl rfl rfl (Or.inl rfl) (Or.inl ⟨rfl, rfl⟩) rfl ?_
      refine x_aload_n 0 dX16_branch_345 rfl rfl rfl rfl rfl ?_
      refine x_iload 13 dX16_branch_346 rfl rfl ?_
      refine x_iload_n 2 dX16_branch_348 rfl rfl rfl ?_
      refine x_iload 8 dX16_branch_349 rfl rfl ?_
      refine x_iload 11 dX16_branch_351 rfl rfl ?_
      refine x_iconst 0 (z := 0) dX16_branch_353 rfl (by decide) rfl ?_
      refine y_Vi 274 (M := mX16_done) (As := [(0, s0), (0, a2), (0, a8), (0, a11), (0, 0)]) (st := []) dX16_branch_354 i65 rfl q2147 q2149 qs50 q383 q2150 rfl hmX16_done rfl rfl rfl rfl rfl rfl rfl rfl (k_mono h (fun r3 w4 h => ?_))
      exact y_iret dX16_branch_357 rfl h
    · refine x_iconst 1 (z := 1) dX16_branch_331 rfl (by decide) rfl ?_
      refine x_goto 4 (q := 336) dX16_branch_332 rfl ?_
      refine x_put 199 11 (c := 15) dX16_branch_336 i65 rfl in_X16 tyX16_ok nmX16 q1110 rfl rfl rfl (Or.inl rfl) (Or.inr (Or.inl ⟨rfl, rfl, by decide⟩)) rfl ?_
      refine x_aload_n 0 dX16_branch_339 rfl rfl rfl rfl rfl ?_
      refine x_iload 5 dX16_branch_340 rfl rfl ?_
      refine x_put 59 10 (c := 15) dX16_branch_342 i65 rfl in_X16 tyX16_ok nmX16 q1109 rfl rfl rfl (Or.inl rfl) (Or.inl ⟨rfl, rfl⟩) rfl ?_
      refine x_aload_n 0 dX16_branch_345 rfl rfl rfl rfl rfl ?_
      refine x_iload 13 dX16_branch_346 rfl rfl ?_
      refine x_iload_n 2 dX16_branch_348 rfl rfl rfl ?_
      refine x_iload 8 dX16_branch_349 rfl rfl ?_
      refine x_iload 11 dX16_branch_351 rfl rfl ?_
      refine x_iconst 0 (z := 0) dX16_branch_353 rfl (by decide) rfl ?_
      refine y_Vi 274 (M := mX16_done) (As := [(0, s0), (0, a2), (0, a8), (0, a11), (0, 0)]) (st := []) dX16_branch_354 i65 rfl q2147 q2149 qs50 q383 q2150 rfl hmX16_done rfl rfl rfl rfl rfl rfl rfl rfl (k_mono h (fun r5 w6 h => ?_))
      exact y_iret dX16_branch_357 rfl h
theorem rX16_save {d n : Nat} {w : bW} {Q : Int → bW → Prop} {X : String → bW → Prop} (hn : 143 ≤ n) (h : ((0 : Int) ≤ 0 ∧ (0 : Int) ≤ w 65 10 ∧ (0 : Int) ≤ w 65 8 ∧ (0 : Int) + w 65 8 ≤ 310 ∧ (w 65 10 : Int) + w 65 8 ≤ 48000) ∧ ((0 ≤ b_i ((w 65 10) + (w 65 8)) ∧ b_i ((w 65 10) + (w 65 8)) < 48000) ∧ (Q 0 (b_up (b_up (b_up (b_cp w 68 0 69 (w 65 10) (w 65 8)) 65 10 (b_i ((w 65 10) + (w 65 8)))) 65 10 (b_i ((b_i ((w 65 10) + (w 65 8))) + 1))) 69 (b_i ((w 65 10) + (w 65 8))) (w 65 8))))) : b_K (d + 1) mX16_save [(2, 65)] n w Q X := by
  have i65 := iz65 (Nat.le_trans (Nat.le_of_ble_eq_true rfl) hn)
  have i68 := iz68 (Nat.le_trans (Nat.le_of_ble_eq_true rfl) hn)
  have i69 := iz69 (Nat.le_trans (Nat.le_of_ble_eq_true rfl) hn)
  refine k_of (by decide) rfl rfl rfl (ls := [(2, 65)]) rfl ?_
  refine x_aload_n 0 dX16_save_0 rfl rfl rfl rfl rfl ?_
  refine y_getF 20 7 (c := 15) (z := 68) dX16_save_1 i65 rfl in_X16 q1106 rfl rfl rfl fn_65_7 (Nat.le_trans (Nat.le_of_ble_eq_true rfl) hn) rfl ?_
  refine x_iconst 0 (z := 0) dX16_save_4 rfl (by decide) rfl ?_
  refine x_aload_n 0 dX16_save_5 rfl rfl rfl rfl rfl ?_
  refine y_getF 25 9 (c := 15) (z := 69) dX16_save_6 i65 rfl in_X16 q1108 rfl rfl rfl fn_65_9 (Nat.le_trans (Nat.le_of_ble_eq_true rfl) hn) rfl ?_
  refine x_aload_n 0 dX16_save_9 rfl rfl rfl rfl rfl ?_
  refine y_get 59 10 (c := 15) (z := w 65 10) dX16_save_10 i65 rfl in_X16 q1109 rfl rfl rfl rfl rfl ?_
  refine x_aload_n 0 dX16_save_13 rfl rfl rfl rfl rfl ?_
  refine y_get 56 8 (c := 15) (z := w 65 8) dX16_save_14 i65 rfl in_X16 q1107 rfl rfl rfl rfl rfl ?_
  obtain ⟨e1, h⟩ := h
  refine x_copyi 212 dX16_save_17 q2170 q1893 q1892 q400 i68 i69 (by decide) (by decide) e1.1 e1.2.1 e1.2.2.1 e1.2.2.2.1 e1.2.2.2.2 (Nat.le_add_left 1 d) rfl rfl ?_
  refine x_aload_n 0 dX16_save_20 rfl rfl rfl rfl rfl ?_
  refine x_dup dX16_save_21 rfl rfl ?_
  refine y_get 59 10 (c := 15) (z := w 65 10) dX16_save_22 i65 rfl in_X16 q1109 rfl rfl rfl rfl rfl ?_
  refine x_aload_n 0 dX16_save_25 rfl rfl rfl rfl rfl ?_
  refine y_get 56 8 (c := 15) (z := w 65 8) dX16_save_26 i65 rfl in_X16 q1107 rfl rfl rfl rfl rfl ?_
  refine x_iadd dX16_save_29 rfl ?_
  refine x_put 59 10 (c := 15) dX16_save_30 i65 rfl in_X16 tyX16_ok nmX16 q1109 rfl rfl rfl (Or.inl rfl) (Or.inl ⟨rfl, rfl⟩) rfl ?_
  refine x_aload_n 0 dX16_save_33 rfl rfl rfl rfl rfl ?_
  refine y_getF 25 9 (c := 15) (z := 69) dX16_save_34 i65 rfl in_X16 q1108 rfl rfl rfl fn_65_9 (Nat.le_trans (Nat.le_of_ble_eq_true rfl) hn) rfl ?_
  refine x_aload_n 0 dX16_save_37 rfl rfl rfl rfl rfl ?_
  refine x_dup dX16_save_38 rfl rfl ?_
  refine y_get 59 10 (c := 15) (z := b_i ((w 65 10) + (w 65 8))) dX16_save_39 i65 rfl in_X16 q1109 rfl rfl rfl rfl rfl ?_
  refine x_dup_x1 dX16_save_42 rfl rfl rfl ?_
  refine x_iconst 1 (z := 1) dX16_save_43 rfl (by decide) rfl ?_
  refine x_iadd dX16_save_44 rfl ?_
  refine x_put 59 10 (c := 15) dX16_save_45 i65 rfl in_X16 tyX16_ok nmX16 q1109 rfl rfl rfl (Or.inl rfl) (Or.inl ⟨rfl, rfl⟩) rfl ?_
  refine x_aload_n 0 dX16_save_48 rfl rfl rfl rfl rfl ?_
  refine y_get 56 8 (c := 15) (z := w 65 8) dX16_save_49 i65 rfl in_X16 q1107 rfl rfl rfl rfl rfl ?_
  obtain ⟨e2, h⟩ := h
  refine y_iast (x' := w 65 8) dX16_save_52 ⟨48000, i69, e2⟩ rfl rfl ?_
  exact y_vret dX16_save_53 rfl h
theorem rX16_load {d n : Nat} {w : bW} {Q : Int → bW → Prop} {X : String → bW → Prop} (hn : 143 ≤ n) (a1 : Int) (h : (0 ≤ b_i (a1 - 1) ∧ b_i (a1 - 1) < 48000) ∧ (((0 : Int) ≤ b_i ((b_i (a1 - 1)) - (w 69 (b_i (a1 - 1)))) ∧ (0 : Int) ≤ 0 ∧ (0 : Int) ≤ w 69 (b_i (a1 - 1)) ∧ (b_i ((b_i (a1 - 1)) - (w 69 (b_i (a1 - 1)))) : Int) + w 69 (b_i (a1 - 1)) ≤ 48000 ∧ (0 : Int) + w 69 (b_i (a1 - 1)) ≤ 310) ∧ (Q 0 (b_cp (b_up w 65 8 (w 69 (b_i (a1 - 1)))) 69 (b_i ((b_i (a1 - 1)) - (w 69 (b_i (a1 - 1))))) 68 0 (w 69 (b_i (a1 - 1))))))) : b_K (d + 1) mX16_load [(2, 65), (0, a1)] n w Q X := by
  have i65 := iz65 (Nat.le_trans (Nat.le_of_ble_eq_true rfl) hn)
  have i68 := iz68 (Nat.le_trans (Nat.le_of_ble_eq_true rfl) hn)
  have i69 := iz69 (Nat.le_trans (Nat.le_of_ble_eq_true rfl) hn)
  refine k_of (by decide) rfl rfl rfl (ls := [(2, 65), (0, a1)]) rfl ?_
  refine x_aload_n 0 dX16_load_0 rfl rfl rfl rfl rfl ?_
  refine x_aload_n 0 dX16_load_1 rfl rfl rfl rfl rfl ?_
  refine y_getF 25 9 (c := 15) (z := 69) dX16_load_2 i65 rfl in_X16 q1108 rfl rfl rfl fn_65_9 (Nat.le_trans (Nat.le_of_ble_eq_true rfl) hn) rfl ?_
  refine x_iload_n 1 dX16_load_5 rfl rfl rfl ?_
  refine x_iconst 1 (z := 1) dX16_load_6 rfl (by decide) rfl ?_
  refine x_isub dX16_load_7 rfl ?_
  obtain ⟨e1, h⟩ := h
  refine y_iald (z := w 69 (b_i (a1 - 1))) dX16_load_8 ⟨48000, i69, e1⟩ rfl rfl ?_
  refine x_put 56 8 (c := 15) dX16_load_9 i65 rfl in_X16 tyX16_ok nmX16 q1107 rfl rfl rfl (Or.inl rfl) (Or.inl ⟨rfl, rfl⟩) rfl ?_
  refine x_aload_n 0 dX16_load_12 rfl rfl rfl rfl rfl ?_
  refine y_getF 25 9 (c := 15) (z := 69) dX16_load_13 i65 rfl in_X16 q1108 rfl rfl rfl fn_65_9 (Nat.le_trans (Nat.le_of_ble_eq_true rfl) hn) rfl ?_
  refine x_iload_n 1 dX16_load_16 rfl rfl rfl ?_
  refine x_iconst 1 (z := 1) dX16_load_17 rfl (by decide) rfl ?_
  refine x_isub dX16_load_18 rfl ?_
  refine x_aload_n 0 dX16_load_19 rfl rfl rfl rfl rfl ?_
  refine y_get 56 8 (c := 15) (z := w 69 (b_i (a1 - 1))) dX16_load_20 i65 rfl in_X16 q1107 rfl rfl rfl rfl rfl ?_
  refine x_isub dX16_load_23 rfl ?_
  refine x_aload_n 0 dX16_load_24 rfl rfl rfl rfl rfl ?_
  refine y_getF 20 7 (c := 15) (z := 68) dX16_load_25 i65 rfl in_X16 q1106 rfl rfl rfl fn_65_7 (Nat.le_trans (Nat.le_of_ble_eq_true rfl) hn) rfl ?_
  refine x_iconst 0 (z := 0) dX16_load_28 rfl (by decide) rfl ?_
  refine x_aload_n 0 dX16_load_29 rfl rfl rfl rfl rfl ?_
  refine y_get 56 8 (c := 15) (z := w 69 (b_i (a1 - 1))) dX16_load_30 i65 rfl in_X16 q1107 rfl rfl rfl rfl rfl ?_
  obtain ⟨e2, h⟩ := h
  refine x_copyi 212 dX16_load_33 q2170 q1893 q1892 q400 i69 i68 (by decide) (by decide) e2.1 e2.2.1 e2.2.2.1 e2.2.2.2.1 e2.2.2.2.2 (Nat.le_add_left 1 d) rfl rfl ?_
  exact y_vret dX16_load_36 rfl h
abbrev LX16_isSaved_25 (d n : Nat) (Q : Int → bW → Prop) (X : String → bW → Prop) (a1 : Int) (a2 : Int) (a3 : Int) (w : bW) : Prop := b_Y (d + 1) mX16_isSaved n Q X 25 [(2, 65), (0, a1), (0, a2), (0, a3)] [] w
theorem rX16_isSaved {d n : Nat} {w : bW} {Q : Int → bW → Prop} {X : String → bW → Prop} (hn : 143 ≤ n) (a1 : Int) (h : (0 ≤ b_i (a1 - 1) ∧ b_i (a1 - 1) < 48000) ∧ (if w 69 (b_i (a1 - 1)) ≠ w 65 8 then (LX16_isSaved_25 d n Q X a1 (w 69 (b_i (a1 - 1))) (b_i ((w 69 (b_i (a1 - 1))) + 1)) w) else (LX16_isSaved_25 d n Q X a1 (w 69 (b_i (a1 - 1))) 0 w))) : b_K (d + 1) mX16_isSaved [(2, 65), (0, a1)] n w Q X := by
  have i65 := iz65 (Nat.le_trans (Nat.le_of_ble_eq_true rfl) hn)
  have i69 := iz69 (Nat.le_trans (Nat.le_of_ble_eq_true rfl) hn)
  refine k_of (by decide) rfl rfl rfl (ls := [(2, 65), (0, a1), (9, 0), (9, 0)]) rfl ?_
  refine x_aload_n 0 dX16_isSaved_0 rfl rfl rfl rfl rfl ?_
  refine y_getF 25 9 (c := 15) (z := 69) dX16_isSaved_1 i65 rfl in_X16 q1108 rfl rfl rfl fn_65_9 (Nat.le_trans (Nat.le_of_ble_eq_true rfl) hn) rfl ?_
  refine x_iload_n 1 dX16_isSaved_4 rfl rfl rfl ?_
  refine x_iconst 1 (z := 1) dX16_isSaved_5 rfl (by decide) rfl ?_
  refine x_isub dX16_isSaved_6 rfl ?_
  obtain ⟨e1, h⟩ := h
  refine y_iald (z := w 69 (b_i (a1 - 1))) dX16_isSaved_7 ⟨48000, i69, e1⟩ rfl rfl ?_
  refine x_istore_n 2 (ls' := [(2, 65), (0, a1), (0, w 69 (b_i (a1 - 1))), (9, 0)]) dX16_isSaved_8 rfl rfl rfl rfl ?_
  refine x_iload_n 2 dX16_isSaved_9 rfl rfl rfl ?_
  refine x_aload_n 0 dX16_isSaved_10 rfl rfl rfl rfl rfl ?_
  refine y_get 56 8 (c := 15) (z := w 65 8) dX16_isSaved_11 i65 rfl in_X16 q1107 rfl rfl rfl rfl rfl ?_
  refine x_icmp_ne (t := 21) 7 dX16_isSaved_14 rfl rfl (b_ite h (fun hc h => ?_) (fun hc h => ?_))
  · refine x_iload_n 2 dX16_isSaved_21 rfl rfl rfl ?_
    refine x_iconst 1 (z := 1) dX16_isSaved_22 rfl (by decide) rfl ?_
    refine x_iadd dX16_isSaved_23 rfl ?_
    refine x_istore_n 3 (ls' := [(2, 65), (0, a1), (0, w 69 (b_i (a1 - 1))), (0, b_i ((w 69 (b_i (a1 - 1))) + 1))]) dX16_isSaved_24 rfl rfl rfl rfl ?_
    exact x_fg (fgk (fgk (fgk (fgk (fg0))))) h
  · refine x_iconst 0 (z := 0) dX16_isSaved_17 rfl (by decide) rfl ?_
    refine x_goto 6 (q := 24) dX16_isSaved_18 rfl ?_
    refine x_istore_n 3 (ls' := [(2, 65), (0, a1), (0, w 69 (b_i (a1 - 1))), (0, 0)]) dX16_isSaved_24 rfl rfl rfl rfl ?_
    exact x_fg (fgk (fgk (fgk (fgk (fg0))))) h
theorem sX16_isSaved_25 {d n : Nat} {w : bW} {Q : Int → bW → Prop} {X : String → bW → Prop} (hn : 143 ≤ n) (a1 : Int) (a2 : Int) (a3 : Int) (h : if a2 ≤ a3 then (if a3 ≠ a2 then (Q 0 w) else (Q 1 w)) else ((0 ≤ a3 ∧ a3 < 310) ∧ ((0 ≤ b_i ((b_i ((b_i (a1 - 1)) - a2)) + a3) ∧ b_i ((b_i ((b_i (a1 - 1)) - a2)) + a3) < 48000) ∧ (if w 68 a3 ≠ w 69 (b_i ((b_i ((b_i (a1 - 1)) - a2)) + a3)) then (if a3 ≠ a2 then (Q 0 w) else (Q 1 w)) else (LX16_isSaved_25 d n Q X a1 a2 (b_i (a3 + 1)) w))))) : LX16_isSaved_25 d n Q X a1 a2 a3 w := by
  have i65 := iz65 (Nat.le_trans (Nat.le_of_ble_eq_true rfl) hn)
  have i68 := iz68 (Nat.le_trans (Nat.le_of_ble_eq_true rfl) hn)
  have i69 := iz69 (Nat.le_trans (Nat.le_of_ble_eq_true rfl) hn)
  refine x_iload_n 3 dX16_isSaved_25 rfl rfl rfl ?_
  refine x_iload_n 2 dX16_isSaved_26 rfl rfl rfl ?_
  refine x_icmp_ge (t := 57) 30 dX16_isSaved_27 rfl rfl (b_ite h (fun hc h => ?_) (fun hc h => ?_))
  · refine x_iload_n 3 dX16_isSaved_57 rfl rfl rfl ?_
    refine x_iload_n 2 dX16_isSaved_58 rfl rfl rfl ?_
    refine x_icmp_ne (t := 66) 7 dX16_isSaved_59 rfl rfl (b_ite h (fun hc h => ?_) (fun hc h => ?_))
    · refine x_iconst 0 (z := 0) dX16_isSaved_66 rfl (by decide) rfl ?_
      exact y_zret dX16_isSaved_67 rfl (by decide) h
    · refine x_iconst 1 (z := 1) dX16_isSaved_62 rfl (by decide) rfl ?_
      refine x_goto 4 (q := 67) dX16_isSaved_63 rfl ?_
      exact y_zret dX16_isSaved_67 rfl (by decide) h
  · refine x_aload_n 0 dX16_isSaved_30 rfl rfl rfl rfl rfl ?_
    refine y_getF 20 7 (c := 15) (z := 68) dX16_isSaved_31 i65 rfl in_X16 q1106 rfl rfl rfl fn_65_7 (Nat.le_trans (Nat.le_of_ble_eq_true rfl) hn) rfl ?_
    refine x_iload_n 3 dX16_isSaved_34 rfl rfl rfl ?_
    obtain ⟨e1, h⟩ := h
    refine y_iald (z := w 68 a3) dX16_isSaved_35 ⟨310, i68, e1⟩ rfl rfl ?_
    refine x_aload_n 0 dX16_isSaved_36 rfl rfl rfl rfl rfl ?_
    refine y_getF 25 9 (c := 15) (z := 69) dX16_isSaved_37 i65 rfl in_X16 q1108 rfl rfl rfl fn_65_9 (Nat.le_trans (Nat.le_of_ble_eq_true rfl) hn) rfl ?_
    refine x_iload_n 1 dX16_isSaved_40 rfl rfl rfl ?_
    refine x_iconst 1 (z := 1) dX16_isSaved_41 rfl (by decide) rfl ?_
    refine x_isub dX16_isSaved_42 rfl ?_
    refine x_iload_n 2 dX16_isSaved_43 rfl rfl rfl ?_
    refine x_isub dX16_isSaved_44 rfl ?_
    refine x_iload_n 3 dX16_isSaved_45 rfl rfl rfl ?_
    refine x_iadd dX16_isSaved_46 rfl ?_
    obtain ⟨e2, h⟩ := h
    refine y_iald (z := w 69 (b_i ((b_i ((b_i (a1 - 1)) - a2)) + a3))) dX16_isSaved_47 ⟨48000, i69, e2⟩ rfl rfl ?_
    refine x_icmp_ne (t := 57) 9 dX16_isSaved_48 rfl rfl (b_ite h (fun hc h => ?_) (fun hc h => ?_))
    · refine x_iload_n 3 dX16_isSaved_57 rfl rfl rfl ?_
      refine x_iload_n 2 dX16_isSaved_58 rfl rfl rfl ?_
      refine x_icmp_ne (t := 66) 7 dX16_isSaved_59 rfl rfl (b_ite h (fun hc h => ?_) (fun hc h => ?_))
      · refine x_iconst 0 (z := 0) dX16_isSaved_66 rfl (by decide) rfl ?_
        exact y_zret dX16_isSaved_67 rfl (by decide) h
      · refine x_iconst 1 (z := 1) dX16_isSaved_62 rfl (by decide) rfl ?_
        refine x_goto 4 (q := 67) dX16_isSaved_63 rfl ?_
        exact y_zret dX16_isSaved_67 rfl (by decide) h
    · refine x_iinc 3 1 (ls' := [(2, 65), (0, a1), (0, a2), (0, b_i (a3 + 1))]) dX16_isSaved_51 rfl rfl rfl rfl ?_
      refine x_goto (-29) (q := 25) dX16_isSaved_54 rfl ?_
      exact x_fg (fgk (fgk (fgk (fgk (fg0))))) h
abbrev LX16_loop_11 (d n : Nat) (Q : Int → bW → Prop) (X : String → bW → Prop) (a1 : Int) (a2 : Int) (s0 : Int) (w : bW) : Prop := b_Y (d + 1) mX16_loop n Q X 11 [(2, 65), (0, a1), (0, a2), (9, 0), (9, 0), (9, 0), (9, 0), (9, 0)] [(0, s0)] w
abbrev LX16_loop_85 (d n : Nat) (Q : Int → bW → Prop) (X : String → bW → Prop) (a1 : Int) (a2 : Int) (a3 : Int) (a4 : Int) (a5 : Int) (a6 : Int) (w : bW) : Prop := b_Y (d + 1) mX16_loop n Q X 85 [(2, 65), (0, a1), (0, a2), (0, a3), (0, a4), (0, a5), (0, a6), (9, 0)] [] w
theorem rX16_loop {d n : Nat} {w : bW} {Q : Int → bW → Prop} {X : String → bW → Prop} (hn : 143 ≤ n) (a1 : Int) (a2 : Int) (h : if a2 ≠ 57 then (LX16_loop_11 d n Q X a1 a2 0 w) else (LX16_loop_11 d n Q X a1 a2 1 w)) : b_K (d + 1) mX16_loop [(2, 65), (0, a1), (0, a2)] n w Q X := by
  refine k_of (by decide) rfl rfl rfl (ls := [(2, 65), (0, a1), (0, a2), (9, 0), (9, 0), (9, 0), (9, 0), (9, 0)]) rfl ?_
  refine x_iload_n 2 dX16_loop_0 rfl rfl rfl ?_
  refine x_bipush 57 (z := 57) dX16_loop_1 rfl (by decide) rfl ?_
  refine x_icmp_ne (t := 10) 7 dX16_loop_3 rfl rfl (b_ite h (fun hc h => ?_) (fun hc h => ?_))
  · refine x_iconst 0 (z := 0) dX16_loop_10 rfl (by decide) rfl ?_
    exact x_fg (fgk (fgk (fgk (fgk (fgk (fgk (fgk (fgk (fg0))))))))) h
  · refine x_iconst 1 (z := 1) dX16_loop_6 rfl (by decide) rfl ?_
    refine x_goto 4 (q := 11) dX16_loop_7 rfl ?_
    exact x_fg (fgk (fgk (fgk (fgk (fgk (fgk (fgk (fgk (fg0))))))))) h
theorem sX16_loop_11 {d n : Nat} {w : bW} {Q : Int → bW → Prop} {X : String → bW → Prop} (hn : 143 ≤ n) (a1 : Int) (a2 : Int) (s0 : Int) (h : b_K d mX16_word [(2, 65), (0, 0)] n w (fun r1 w2 => if s0 = 0 then (if r1 = 1 then (b_K d mX16_at [(2, 65), (0, 0)] n w2 (fun r3 w4 => b_K d mX16_save [(2, 65)] n w4 (fun r5 w6 => if s0 = 0 then (LX16_loop_85 d n Q X a1 a2 s0 (w2 65 10) r3 (w6 65 10) (b_up w6 65 8 (b_i ((w6 65 8) - 1)))) else ((0 ≤ r3 ∧ r3 < 60000) ∧ (b_K d mX16_become [(2, 65), (0, 0), (0, w6 21 r3)] n (b_up w6 65 8 (b_i ((w6 65 8) - 1))) (fun r8 w9 => LX16_loop_85 d n Q X a1 a2 s0 (w2 65 10) r3 (w6 65 10) w9) X))) X) X) else (Q 0 w2)) else (if r1 = 14 then (b_K d mX16_at [(2, 65), (0, 0)] n w2 (fun r10 w11 => b_K d mX16_save [(2, 65)] n w11 (fun r12 w13 => if s0 = 0 then (LX16_loop_85 d n Q X a1 a2 s0 (w2 65 10) r10 (w13 65 10) (b_up w13 65 8 (b_i ((w13 65 8) - 1)))) else ((0 ≤ r10 ∧ r10 < 60000) ∧ (b_K d mX16_become [(2, 65), (0, 0), (0, w13 21 r10)] n (b_up w13 65 8 (b_i ((w13 65 8) - 1))) (fun r15 w16 => LX16_loop_85 d n Q X a1 a2 s0 (w2 65 10) r10 (w13 65 10) w16) X))) X) X) else (Q 0 w2))) X) : LX16_loop_11 d n Q X a1 a2 s0 w := by
  have i19 := iz19 (Nat.le_trans (Nat.le_of_ble_eq_true rfl) hn)
  have i21 := iz21 (Nat.le_trans (Nat.le_of_ble_eq_true rfl) hn)
  have i65 := iz65 (Nat.le_trans (Nat.le_of_ble_eq_true rfl) hn)
  refine x_istore_n 3 (ls' := [(2, 65), (0, a1), (0, a2), (0, s0), (9, 0), (9, 0), (9, 0), (9, 0)]) dX16_loop_11 rfl rfl rfl rfl ?_
  refine x_aload_n 0 dX16_loop_12 rfl rfl rfl rfl rfl ?_
  refine x_iconst 0 (z := 0) dX16_loop_13 rfl (by decide) rfl ?_
  refine y_Vi 304 (M := mX16_word) (As := [(0, 0)]) (st := []) dX16_loop_14 i65 rfl q2187 q2189 qs58 q383 q2190 rfl hmX16_word rfl rfl rfl rfl rfl rfl rfl rfl (k_mono h (fun r1 w2 h => ?_))
  refine x_iload_n 3 dX16_loop_17 rfl rfl rfl ?_
  refine x_if_eq (t := 26) 8 dX16_loop_18 rfl rfl (b_ite h (fun hc h => ?_) (fun hc h => ?_))
  · refine x_iconst 1 (z := 1) dX16_loop_26 rfl (by decide) rfl ?_
    refine x_icmp_eq (t := 32) 5 dX16_loop_27 rfl rfl (b_ite h (fun hc h => ?_) (fun hc h => ?_))
    · refine x_aload_n 0 dX16_loop_32 rfl rfl rfl rfl rfl ?_
      refine y_get 59 10 (c := 15) (z := w2 65 10) dX16_loop_33 i65 rfl in_X16 q1109 rfl rfl rfl rfl rfl ?_
      refine x_istore 4 (ls' := [(2, 65), (0, a1), (0, a2), (0, s0), (0, w2 65 10), (9, 0), (9, 0), (9, 0)]) dX16_loop_36 rfl rfl rfl ?_
      refine x_aload_n 0 dX16_loop_38 rfl rfl rfl rfl rfl ?_
      refine x_iconst 0 (z := 0) dX16_loop_39 rfl (by decide) rfl ?_
      refine y_Vi 209 (M := mX16_at) (As := [(0, 0)]) (st := []) dX16_loop_40 i65 rfl q2171 q2173 qs54 q383 q2174 rfl hmX16_at rfl rfl rfl rfl rfl rfl rfl rfl (k_mono h (fun r3 w4 h => ?_))
      refine x_istore 5 (ls' := [(2, 65), (0, a1), (0, a2), (0, s0), (0, w2 65 10), (0, r3), (9, 0), (9, 0)]) dX16_loop_43 rfl rfl rfl ?_
      refine x_aload_n 0 dX16_loop_45 rfl rfl rfl rfl rfl ?_
      refine y_Vv 330 (M := mX16_save) (As := []) (st := []) dX16_loop_46 i65 rfl q2215 q2217 qs64 q383 q2218 rfl hmX16_save rfl rfl rfl rfl rfl rfl rfl (k_mono h (fun r5 w6 h => ?_))
      refine x_aload_n 0 dX16_loop_49 rfl rfl rfl rfl rfl ?_
      refine y_get 59 10 (c := 15) (z := w6 65 10) dX16_loop_50 i65 rfl in_X16 q1109 rfl rfl rfl rfl rfl ?_
      refine x_istore 6 (ls' := [(2, 65), (0, a1), (0, a2), (0, s0), (0, w2 65 10), (0, r3), (0, w6 65 10), (9, 0)]) dX16_loop_53 rfl rfl rfl ?_
      refine x_aload_n 0 dX16_loop_55 rfl rfl rfl rfl rfl ?_
      refine x_dup dX16_loop_56 rfl rfl ?_
      refine y_get 56 8 (c := 15) (z := w6 65 8) dX16_loop_57 i65 rfl in_X16 q1107 rfl rfl rfl rfl rfl ?_
      refine x_iconst 1 (z := 1) dX16_loop_60 rfl (by decide) rfl ?_
      refine x_isub dX16_loop_61 rfl ?_
      refine x_put 56 8 (c := 15) dX16_loop_62 i65 rfl in_X16 tyX16_ok nmX16 q1107 rfl rfl rfl (Or.inl rfl) (Or.inl ⟨rfl, rfl⟩) rfl ?_
      refine x_iload_n 3 dX16_loop_65 rfl rfl rfl ?_
      refine x_if_eq (t := 85) 19 dX16_loop_66 rfl rfl (b_ite h (fun hc h => ?_) (fun hc h => ?_))
      · exact x_fg (fgk (fgk (fgk (fgk (fgk (fgk (fgk (fgk (fg0))))))))) h
      · refine x_aload_n 0 dX16_loop_69 rfl rfl rfl rfl rfl ?_
        refine x_iconst 0 (z := 0) dX16_loop_70 rfl (by decide) rfl ?_
        refine x_aload_n 0 dX16_loop_71 rfl rfl rfl rfl rfl ?_
        refine y_getF 32 1 (c := 15) (z := 19) dX16_loop_72 i65 rfl in_X16 q1100 rfl rfl rfl fn_65_1 (Nat.le_trans (Nat.le_of_ble_eq_true rfl) hn) rfl ?_
        refine y_getF 166 1 (c := 6) (z := 21) dX16_loop_75 i19 rfl in_X7 q761 rfl rfl rfl fn_19_1 (Nat.le_trans (Nat.le_of_ble_eq_true rfl) hn) rfl ?_
        refine x_iload 5 dX16_loop_78 rfl rfl ?_
        obtain ⟨e7, h⟩ := h
        refine y_iald (z := w6 21 r3) dX16_loop_80 ⟨60000, i21, e7⟩ rfl rfl ?_
        refine y_Vi 278 (M := mX16_become) (As := [(0, 0), (0, w6 21 r3)]) (st := []) dX16_loop_81 i65 rfl q2143 q2145 qs49 q383 q2146 rfl hmX16_become rfl rfl rfl rfl rfl rfl rfl rfl (k_mono h (fun r8 w9 h => ?_))
        refine x_pop dX16_loop_84 rfl rfl ?_
        exact x_fg (fgk (fgk (fgk (fgk (fgk (fgk (fgk (fgk (fg0))))))))) h
    · refine x_iconst 0 (z := 0) dX16_loop_30 rfl (by decide) rfl ?_
      exact y_iret dX16_loop_31 rfl h
  · refine x_bipush 14 (z := 14) dX16_loop_21 rfl (by decide) rfl ?_
    refine x_goto 4 (q := 27) dX16_loop_23 rfl ?_
    refine x_icmp_eq (t := 32) 5 dX16_loop_27 rfl rfl (b_ite h (fun hc h => ?_) (fun hc h => ?_))
    · refine x_aload_n 0 dX16_loop_32 rfl rfl rfl rfl rfl ?_
      refine y_get 59 10 (c := 15) (z := w2 65 10) dX16_loop_33 i65 rfl in_X16 q1109 rfl rfl rfl rfl rfl ?_
      refine x_istore 4 (ls' := [(2, 65), (0, a1), (0, a2), (0, s0), (0, w2 65 10), (9, 0), (9, 0), (9, 0)]) dX16_loop_36 rfl rfl rfl ?_
      refine x_aload_n 0 dX16_loop_38 rfl rfl rfl rfl rfl ?_
      refine x_iconst 0 (z := 0) dX16_loop_39 rfl (by decide) rfl ?_
      refine y_Vi 209 (M := mX16_at) (As := [(0, 0)]) (st := []) dX16_loop_40 i65 rfl q2171 q2173 qs54 q383 q2174 rfl hmX16_at rfl rfl rfl rfl rfl rfl rfl rfl (k_mono h (fun r10 w11 h => ?_))
      refine x_istore 5 (ls' := [(2, 65), (0, a1), (0, a2), (0, s0), (0, w2 65 10), (0, r10), (9, 0), (9, 0)]) dX16_loop_43 rfl rfl rfl ?_
      refine x_aload_n 0 dX16_loop_45 rfl rfl rfl rfl rfl ?_
      refine y_Vv 330 (M := mX16_save) (As := []) (st := []) dX16_loop_46 i65 rfl q2215 q2217 qs64 q383 q2218 rfl hmX16_save rfl rfl rfl rfl rfl rfl rfl (k_mono h (fun r12 w13 h => ?_))
      refine x_aload_n 0 dX16_loop_49 rfl rfl rfl rfl rfl ?_
      refine y_get 59 10 (c := 15) (z := w13 65 10) dX16_loop_50 i65 rfl in_X16 q1109 rfl rfl rfl rfl rfl ?_
      refine x_istore 6 (ls' := [(2, 65), (0, a1), (0, a2), (0, s0), (0, w2 65 10), (0, r10), (0, w13 65 10), (9, 0)]) dX16_loop_53 rfl rfl rfl ?_
      refine x_aload_n 0 dX16_loop_55 rfl rfl rfl rfl rfl ?_
      refine x_dup dX16_loop_56 rfl rfl ?_
      refine y_get 56 8 (c := 15) (z := w13 65 8) dX16_loop_57 i65 rfl in_X16 q1107 rfl rfl rfl rfl rfl ?_
      refine x_iconst 1 (z := 1) dX16_loop_60 rfl (by decide) rfl ?_
      refine x_isub dX16_loop_61 rfl ?_
      refine x_put 56 8 (c := 15) dX16_loop_62 i65 rfl in_X16 tyX16_ok nmX16 q1107 rfl rfl rfl (Or.inl rfl) (Or.inl ⟨rfl, rfl⟩) rfl ?_
      refine x_iload_n 3 dX16_loop_65 rfl rfl rfl ?_
      refine x_if_eq (t := 85) 19 dX16_loop_66 rfl rfl (b_ite h (fun hc h => ?_) (fun hc h => ?_))
      · exact x_fg (fgk (fgk (fgk (fgk (fgk (fgk (fgk (fgk (fg0))))))))) h
      · refine x_aload_n 0 dX16_loop_69 rfl rfl rfl rfl rfl ?_
        refine x_iconst 0 (z := 0) dX16_loop_70 rfl (by decide) rfl ?_
        refine x_aload_n 0 dX16_loop_71 rfl rfl rfl rfl rfl ?_
        refine y_getF 32 1 (c := 15) (z := 19) dX16_loop_72 i65 rfl in_X16 q1100 rfl rfl rfl fn_65_1 (Nat.le_trans (Nat.le_of_ble_eq_true rfl) hn) rfl ?_
        refine y_getF 166 1 (c := 6) (z := 21) dX16_loop_75 i19 rfl in_X7 q761 rfl rfl rfl fn_19_1 (Nat.le_trans (Nat.le_of_ble_eq_true rfl) hn) rfl ?_
        refine x_iload 5 dX16_loop_78 rfl rfl ?_
        obtain ⟨e14, h⟩ := h
        refine y_iald (z := w13 21 r10) dX16_loop_80 ⟨60000, i21, e14⟩ rfl rfl ?_
        refine y_Vi 278 (M := mX16_become) (As := [(0, 0), (0, w13 21 r10)]) (st := []) dX16_loop_81 i65 rfl q2143 q2145 qs49 q383 q2146 rfl hmX16_become rfl rfl rfl rfl rfl rfl rfl rfl (k_mono h (fun r15 w16 h => ?_))
        refine x_pop dX16_loop_84 rfl rfl ?_
        exact x_fg (fgk (fgk (fgk (fgk (fgk (fgk (fgk (fgk (fg0))))))))) h
    · refine x_iconst 0 (z := 0) dX16_loop_30 rfl (by decide) rfl ?_
      exact y_iret dX16_loop_31 rfl h
theorem sX16_loop_85 {d n : Nat} {w : bW} {Q : Int → bW → Prop} {X : String → bW → Prop} (hn : 143 ≤ n) (a1 : Int) (a2 : Int) (a3 : Int) (a4 : Int) (a5 : Int) (a6 : Int) (h : b_K d mX16_argument [(2, 65), (0, a1), (0, 0)] n w (fun r1 w2 => b_K d mX16_code [(2, 65), (0, r1)] n w2 (fun r3 w4 => if w4 65 15 < 0 then (if w4 65 11 ≠ 0 then (Q 0 w4) else (b_K d mX16_isSaved [(2, 65), (0, a6)] n w4 (fun r5 w6 => if r5 ≠ 0 then (if a3 = 0 then (b_K d mX16_done [(2, 65), (0, 1), (0, a2), (0, r3), (0, 0), (0, 0)] n (b_up (b_up w6 65 10 a4) 65 8 (b_i ((w6 65 8) - 1))) (fun r7 w8 => Q r7 w8) X) else ((0 ≤ a5 ∧ a5 < 60000) ∧ (b_K d mX16_become [(2, 65), (0, 0), (0, w6 22 a5)] n (b_up (b_up w6 65 10 a4) 65 8 (b_i ((w6 65 8) - 1))) (fun r10 w11 => if r10 = 0 then (b_K d mX16_done [(2, 65), (0, 0), (0, a2), (0, r3), (0, 0), (0, 0)] n w11 (fun r12 w13 => Q r12 w13) X) else (b_K d mX16_done [(2, 65), (0, 1), (0, a2), (0, r3), (0, 0), (0, 0)] n w11 (fun r14 w15 => Q r14 w15) X)) X))) else (Q 0 w6)) X)) else (Q 0 w4)) X) X) : LX16_loop_85 d n Q X a1 a2 a3 a4 a5 a6 w := by
  have i19 := iz19 (Nat.le_trans (Nat.le_of_ble_eq_true rfl) hn)
  have i22 := iz22 (Nat.le_trans (Nat.le_of_ble_eq_true rfl) hn)
  have i65 := iz65 (Nat.le_trans (Nat.le_of_ble_eq_true rfl) hn)
  refine x_aload_n 0 dX16_loop_85 rfl rfl rfl rfl rfl ?_
  refine x_aload_n 0 dX16_loop_86 rfl rfl rfl rfl rfl ?_
  refine x_iload_n 1 dX16_loop_87 rfl rfl rfl ?_
  refine x_iconst 0 (z := 0) dX16_loop_88 rfl (by decide) rfl ?_
  refine y_Vi 226 (M := mX16_argument) (As := [(0, a1), (0, 0)]) (st := [(2, 65)]) dX16_loop_89 i65 rfl q1932 q1934 qs35 q383 q1935 rfl hmX16_argument rfl rfl rfl rfl rfl rfl rfl rfl (k_mono h (fun r1 w2 h => ?_))
  refine y_Vi 206 (M := mX16_code) (As := [(0, r1)]) (st := []) dX16_loop_92 i65 rfl q1912 q1914 qs30 q383 q1915 rfl hmX16_code rfl rfl rfl rfl rfl rfl rfl rfl (k_mono h (fun r3 w4 h => ?_))
  refine x_istore 7 (ls' := [(2, 65), (0, a1), (0, a2), (0, a3), (0, a4), (0, a5), (0, a6), (0, r3)]) dX16_loop_95 rfl rfl rfl ?_
  refine x_aload_n 0 dX16_loop_97 rfl rfl rfl rfl rfl ?_
  refine y_get 52 15 (c := 15) (z := w4 65 15) dX16_loop_98 i65 rfl in_X16 q1114 rfl rfl rfl rfl rfl ?_
  refine x_if_lt (t := 106) 5 dX16_loop_101 rfl rfl (b_ite h (fun hc h => ?_) (fun hc h => ?_))
  · refine x_aload_n 0 dX16_loop_106 rfl rfl rfl rfl rfl ?_
    refine y_get 199 11 (c := 15) (z := w4 65 11) dX16_loop_107 i65 rfl in_X16 q1110 rfl rfl rfl rfl rfl ?_
    refine x_if_ne (t := 122) 12 dX16_loop_110 rfl rfl (b_ite h (fun hc h => ?_) (fun hc h => ?_))
    · refine x_iconst 0 (z := 0) dX16_loop_122 rfl (by decide) rfl ?_
      exact y_iret dX16_loop_123 rfl h
    · refine x_aload_n 0 dX16_loop_113 rfl rfl rfl rfl rfl ?_
      refine x_iload 6 dX16_loop_114 rfl rfl ?_
      refine y_Vi 336 (M := mX16_isSaved) (As := [(0, a6)]) (st := []) dX16_loop_116 i65 rfl q2223 q2225 qs66 q383 q2226 rfl hmX16_isSaved rfl rfl rfl rfl rfl rfl rfl rfl (k_mono h (fun r5 w6 h => ?_))
      refine x_if_ne (t := 124) 5 dX16_loop_119 rfl rfl (b_ite h (fun hc h => ?_) (fun hc h => ?_))
      · refine x_aload_n 0 dX16_loop_124 rfl rfl rfl rfl rfl ?_
        refine x_iload 4 dX16_loop_125 rfl rfl ?_
        refine x_put 59 10 (c := 15) dX16_loop_127 i65 rfl in_X16 tyX16_ok nmX16 q1109 rfl rfl rfl (Or.inl rfl) (Or.inl ⟨rfl, rfl⟩) rfl ?_
        refine x_aload_n 0 dX16_loop_130 rfl rfl rfl rfl rfl ?_
        refine x_dup dX16_loop_131 rfl rfl ?_
        refine y_get 56 8 (c := 15) (z := w6 65 8) dX16_loop_132 i65 rfl in_X16 q1107 rfl rfl rfl rfl rfl ?_
        refine x_iconst 1 (z := 1) dX16_loop_135 rfl (by decide) rfl ?_
        refine x_isub dX16_loop_136 rfl ?_
        refine x_put 56 8 (c := 15) dX16_loop_137 i65 rfl in_X16 tyX16_ok nmX16 q1107 rfl rfl rfl (Or.inl rfl) (Or.inl ⟨rfl, rfl⟩) rfl ?_
        refine x_aload_n 0 dX16_loop_140 rfl rfl rfl rfl rfl ?_
        refine x_iload_n 3 dX16_loop_141 rfl rfl rfl ?_
        refine x_if_eq (t := 163) 21 dX16_loop_142 rfl rfl (b_ite h (fun hc h => ?_) (fun hc h => ?_))
        · refine x_iconst 1 (z := 1) dX16_loop_163 rfl (by decide) rfl ?_
          refine x_goto 4 (q := 168) dX16_loop_164 rfl ?_
          refine x_iload_n 2 dX16_loop_168 rfl rfl rfl ?_
          refine x_iload 7 dX16_loop_169 rfl rfl ?_
          refine x_iconst 0 (z := 0) dX16_loop_171 rfl (by decide) rfl ?_
          refine x_iconst 0 (z := 0) dX16_loop_172 rfl (by decide) rfl ?_
          refine y_Vi 274 (M := mX16_done) (As := [(0, 1), (0, a2), (0, r3), (0, 0), (0, 0)]) (st := []) dX16_loop_173 i65 rfl q2147 q2149 qs50 q383 q2150 rfl hmX16_done rfl rfl rfl rfl rfl rfl rfl rfl (k_mono h (fun r7 w8 h => ?_))
          exact y_iret dX16_loop_176 rfl h
        · refine x_aload_n 0 dX16_loop_145 rfl rfl rfl rfl rfl ?_
          refine x_iconst 0 (z := 0) dX16_loop_146 rfl (by decide) rfl ?_
          refine x_aload_n 0 dX16_loop_147 rfl rfl rfl rfl rfl ?_
          refine y_getF 32 1 (c := 15) (z := 19) dX16_loop_148 i65 rfl in_X16 q1100 rfl rfl rfl fn_65_1 (Nat.le_trans (Nat.le_of_ble_eq_true rfl) hn) rfl ?_
          refine y_getF 169 2 (c := 6) (z := 22) dX16_loop_151 i19 rfl in_X7 q767 rfl rfl rfl fn_19_2 (Nat.le_trans (Nat.le_of_ble_eq_true rfl) hn) rfl ?_
          refine x_iload 5 dX16_loop_154 rfl rfl ?_
          obtain ⟨e9, h⟩ := h
          refine y_iald (z := w6 22 a5) dX16_loop_156 ⟨60000, i22, e9⟩ rfl rfl ?_
          refine y_Vi 278 (M := mX16_become) (As := [(0, 0), (0, w6 22 a5)]) (st := [(2, 65)]) dX16_loop_157 i65 rfl q2143 q2145 qs49 q383 q2146 rfl hmX16_become rfl rfl rfl rfl rfl rfl rfl rfl (k_mono h (fun r10 w11 h => ?_))
          refine x_if_eq (t := 167) 7 dX16_loop_160 rfl rfl (b_ite h (fun hc h => ?_) (fun hc h => ?_))
          · refine x_iconst 0 (z := 0) dX16_loop_167 rfl (by decide) rfl ?_
            refine x_iload_n 2 dX16_loop_168 rfl rfl rfl ?_
            refine x_iload 7 dX16_loop_169 rfl rfl ?_
            refine x_iconst 0 (z := 0) dX16_loop_171 rfl (by decide) rfl ?_
            refine x_iconst 0 (z := 0) dX16_loop_172 rfl (by decide) rfl ?_
            refine y_Vi 274 (M := mX16_done) (As := [(0, 0), (0, a2), (0, r3), (0, 0), (0, 0)]) (st := []) dX16_loop_173 i65 rfl q2147 q2149 qs50 q383 q2150 rfl hmX16_done rfl rfl rfl rfl rfl rfl rfl rfl (k_mono h (fun r12 w13 h => ?_))
            exact y_iret dX16_loop_176 rfl h
          · refine x_iconst 1 (z := 1) dX16_loop_163 rfl (by decide) rfl ?_
            refine x_goto 4 (q := 168) dX16_loop_164 rfl ?_
            refine x_iload_n 2 dX16_loop_168 rfl rfl rfl ?_
            refine x_iload 7 dX16_loop_169 rfl rfl ?_
            refine x_iconst 0 (z := 0) dX16_loop_171 rfl (by decide) rfl ?_
            refine x_iconst 0 (z := 0) dX16_loop_172 rfl (by decide) rfl ?_
            refine y_Vi 274 (M := mX16_done) (As := [(0, 1), (0, a2), (0, r3), (0, 0), (0, 0)]) (st := []) dX16_loop_173 i65 rfl q2147 q2149 qs50 q383 q2150 rfl hmX16_done rfl rfl rfl rfl rfl rfl rfl rfl (k_mono h (fun r14 w15 h => ?_))
            exact y_iret dX16_loop_176 rfl h
      · refine x_iconst 0 (z := 0) dX16_loop_122 rfl (by decide) rfl ?_
        exact y_iret dX16_loop_123 rfl h
  · refine x_iconst 0 (z := 0) dX16_loop_104 rfl (by decide) rfl ?_
    exact y_iret dX16_loop_105 rfl h
abbrev LX16_each_31 (d n : Nat) (Q : Int → bW → Prop) (X : String → bW → Prop) (a1 : Int) (a2 : Int) (a3 : Int) (s0 : Int) (w : bW) : Prop := b_Y (d + 1) mX16_each n Q X 31 [(2, 65), (0, a1), (0, a2), (0, a3), (9, 0), (9, 0), (9, 0), (9, 0), (9, 0), (9, 0), (9, 0)] [(0, s0)] w
abbrev LX16_each_146 (d n : Nat) (Q : Int → bW → Prop) (X : String → bW → Prop) (a2 : Int) (a3 : Int) (a5 : Int) (a6 : Int) (a7 : Int) (a8 : Int) (a9 : Int) (w : bW) : Prop := b_Y (d + 1) mX16_each n Q X 146 [(2, 65), (9, 0), (0, a2), (0, a3), (9, 0), (0, a5), (0, a6), (0, a7), (0, a8), (0, a9), (9, 0)] [] w
theorem rX16_each {d n : Nat} {w : bW} {Q : Int → bW → Prop} {X : String → bW → Prop} (hn : 143 ≤ n) (a1 : Int) (a2 : Int) (h : if w 65 8 ≤ 0 then (LX16_each_31 d n Q X a1 a2 (-1) (-1) w) else (b_K d mX16_at [(2, 65), (0, 0)] n w (fun r1 w2 => if 0 ≤ r1 then (b_K d mX16_element [(2, 65), (0, r1), (0, a2)] n w2 (fun r3 w4 => LX16_each_31 d n Q X a1 a2 r1 r3 w4) X) else (LX16_each_31 d n Q X a1 a2 r1 (-1) w2)) X)) : b_K (d + 1) mX16_each [(2, 65), (0, a1), (0, a2)] n w Q X := by
  have i65 := iz65 (Nat.le_trans (Nat.le_of_ble_eq_true rfl) hn)
  refine k_of (by decide) rfl rfl rfl (ls := [(2, 65), (0, a1), (0, a2), (9, 0), (9, 0), (9, 0), (9, 0), (9, 0), (9, 0), (9, 0), (9, 0)]) rfl ?_
  refine x_aload_n 0 dX16_each_0 rfl rfl rfl rfl rfl ?_
  refine y_get 56 8 (c := 15) (z := w 65 8) dX16_each_1 i65 rfl in_X16 q1107 rfl rfl rfl rfl rfl ?_
  refine x_if_le (t := 15) 11 dX16_each_4 rfl rfl (b_ite h (fun hc h => ?_) (fun hc h => ?_))
  · refine x_iconst (-1) (z := (-1)) dX16_each_15 rfl (by decide) rfl ?_
    refine x_istore_n 3 (ls' := [(2, 65), (0, a1), (0, a2), (0, (-1)), (9, 0), (9, 0), (9, 0), (9, 0), (9, 0), (9, 0), (9, 0)]) dX16_each_16 rfl rfl rfl rfl ?_
    refine x_iload_n 3 dX16_each_17 rfl rfl rfl ?_
    refine x_if_ge (t := 25) 7 dX16_each_18 rfl rfl (b_ifF (by decide) ?_)
    refine x_iconst (-1) (z := (-1)) dX16_each_21 rfl (by decide) rfl ?_
    refine x_goto 9 (q := 31) dX16_each_22 rfl ?_
    exact x_fg (fgk (fgk (fgk (fgk (fgk (fgk (fgk (fgk (fgk (fgk (fgk (fg0)))))))))))) h
  · refine x_aload_n 0 dX16_each_7 rfl rfl rfl rfl rfl ?_
    refine x_iconst 0 (z := 0) dX16_each_8 rfl (by decide) rfl ?_
    refine y_Vi 209 (M := mX16_at) (As := [(0, 0)]) (st := []) dX16_each_9 i65 rfl q2171 q2173 qs54 q383 q2174 rfl hmX16_at rfl rfl rfl rfl rfl rfl rfl rfl (k_mono h (fun r1 w2 h => ?_))
    refine x_goto 4 (q := 16) dX16_each_12 rfl ?_
    refine x_istore_n 3 (ls' := [(2, 65), (0, a1), (0, a2), (0, r1), (9, 0), (9, 0), (9, 0), (9, 0), (9, 0), (9, 0), (9, 0)]) dX16_each_16 rfl rfl rfl rfl ?_
    refine x_iload_n 3 dX16_each_17 rfl rfl rfl ?_
    refine x_if_ge (t := 25) 7 dX16_each_18 rfl rfl (b_ite h (fun hc h => ?_) (fun hc h => ?_))
    · refine x_aload_n 0 dX16_each_25 rfl rfl rfl rfl rfl ?_
      refine x_iload_n 3 dX16_each_26 rfl rfl rfl ?_
      refine x_iload_n 2 dX16_each_27 rfl rfl rfl ?_
      refine y_Vi 342 (M := mX16_element) (As := [(0, r1), (0, a2)]) (st := []) dX16_each_28 i65 rfl q2235 q2237 qs69 q383 q2238 rfl hmX16_element rfl rfl rfl rfl rfl rfl rfl rfl (k_mono h (fun r3 w4 h => ?_))
      exact x_fg (fgk (fgk (fgk (fgk (fgk (fgk (fgk (fgk (fgk (fgk (fgk (fg0)))))))))))) h
    · refine x_iconst (-1) (z := (-1)) dX16_each_21 rfl (by decide) rfl ?_
      refine x_goto 9 (q := 31) dX16_each_22 rfl ?_
      exact x_fg (fgk (fgk (fgk (fgk (fgk (fgk (fgk (fgk (fgk (fgk (fgk (fg0)))))))))))) h
theorem sX16_each_31 {d n : Nat} {w : bW} {Q : Int → bW → Prop} {X : String → bW → Prop} (hn : 143 ≤ n) (a1 : Int) (a2 : Int) (a3 : Int) (s0 : Int) (h : if 0 ≤ s0 then (b_K d mX16_save [(2, 65)] n (b_up w 65 8 (b_i ((w 65 8) - 1))) (fun r1 w2 => b_K d mX16_become [(2, 65), (0, 0), (0, s0)] n w2 (fun r3 w4 => b_K d mX16_argument [(2, 65), (0, a1), (0, 0)] n w4 (fun r5 w6 => b_K d mX16_code [(2, 65), (0, r5)] n w6 (fun r7 w8 => if w8 65 15 < 0 then (if w8 65 11 = 0 then (if a2 ≠ 59 then (LX16_each_146 d n Q X a2 a3 (w 65 16) (w 65 10) (w2 65 10) r7 (-1) w8) else (if w8 65 8 ≠ 0 then ((0 ≤ b_i ((w8 65 8) - 1) ∧ b_i ((w8 65 8) - 1) < 310) ∧ (LX16_each_146 d n Q X a2 a3 (w 65 16) (w 65 10) (w2 65 10) r7 (w8 68 (b_i ((w8 65 8) - 1))) (b_up w8 65 8 (b_i ((w8 65 8) - 1))))) else (Q 0 w8))) else (Q 0 w8)) else (Q 0 w8)) X) X) X) X) else (Q 0 w)) : LX16_each_31 d n Q X a1 a2 a3 s0 w := by
  have i65 := iz65 (Nat.le_trans (Nat.le_of_ble_eq_true rfl) hn)
  have i68 := iz68 (Nat.le_trans (Nat.le_of_ble_eq_true rfl) hn)
  refine x_istore 4 (ls' := [(2, 65), (0, a1), (0, a2), (0, a3), (0, s0), (9, 0), (9, 0), (9, 0), (9, 0), (9, 0), (9, 0)]) dX16_each_31 rfl rfl rfl ?_
  refine x_iload 4 dX16_each_33 rfl rfl ?_
  refine x_if_ge (t := 40) 5 dX16_each_35 rfl rfl (b_ite h (fun hc h => ?_) (fun hc h => ?_))
  · refine x_aload_n 0 dX16_each_40 rfl rfl rfl rfl rfl ?_
    refine y_get 339 16 (c := 15) (z := w 65 16) dX16_each_41 i65 rfl in_X16 q1117 rfl rfl rfl rfl rfl ?_
    refine x_istore 5 (ls' := [(2, 65), (0, a1), (0, a2), (0, a3), (0, s0), (0, w 65 16), (9, 0), (9, 0), (9, 0), (9, 0), (9, 0)]) dX16_each_44 rfl rfl rfl ?_
    refine x_aload_n 0 dX16_each_46 rfl rfl rfl rfl rfl ?_
    refine y_get 59 10 (c := 15) (z := w 65 10) dX16_each_47 i65 rfl in_X16 q1109 rfl rfl rfl rfl rfl ?_
    refine x_istore 6 (ls' := [(2, 65), (0, a1), (0, a2), (0, a3), (0, s0), (0, w 65 16), (0, w 65 10), (9, 0), (9, 0), (9, 0), (9, 0)]) dX16_each_50 rfl rfl rfl ?_
    refine x_aload_n 0 dX16_each_52 rfl rfl rfl rfl rfl ?_
    refine x_dup dX16_each_53 rfl rfl ?_
    refine y_get 56 8 (c := 15) (z := w 65 8) dX16_each_54 i65 rfl in_X16 q1107 rfl rfl rfl rfl rfl ?_
    refine x_iconst 1 (z := 1) dX16_each_57 rfl (by decide) rfl ?_
    refine x_isub dX16_each_58 rfl ?_
    refine x_put 56 8 (c := 15) dX16_each_59 i65 rfl in_X16 tyX16_ok nmX16 q1107 rfl rfl rfl (Or.inl rfl) (Or.inl ⟨rfl, rfl⟩) rfl ?_
    refine x_aload_n 0 dX16_each_62 rfl rfl rfl rfl rfl ?_
    refine y_Vv 330 (M := mX16_save) (As := []) (st := []) dX16_each_63 i65 rfl q2215 q2217 qs64 q383 q2218 rfl hmX16_save rfl rfl rfl rfl rfl rfl rfl (k_mono h (fun r1 w2 h => ?_))
    refine x_aload_n 0 dX16_each_66 rfl rfl rfl rfl rfl ?_
    refine y_get 59 10 (c := 15) (z := w2 65 10) dX16_each_67 i65 rfl in_X16 q1109 rfl rfl rfl rfl rfl ?_
    refine x_istore 7 (ls' := [(2, 65), (0, a1), (0, a2), (0, a3), (0, s0), (0, w 65 16), (0, w 65 10), (0, w2 65 10), (9, 0), (9, 0), (9, 0)]) dX16_each_70 rfl rfl rfl ?_
    refine x_aload_n 0 dX16_each_72 rfl rfl rfl rfl rfl ?_
    refine x_iconst 0 (z := 0) dX16_each_73 rfl (by decide) rfl ?_
    refine x_iload 4 dX16_each_74 rfl rfl ?_
    refine y_Vi 278 (M := mX16_become) (As := [(0, 0), (0, s0)]) (st := []) dX16_each_76 i65 rfl q2143 q2145 qs49 q383 q2146 rfl hmX16_become rfl rfl rfl rfl rfl rfl rfl rfl (k_mono h (fun r3 w4 h => ?_))
    refine x_pop dX16_each_79 rfl rfl ?_
    refine x_aload_n 0 dX16_each_80 rfl rfl rfl rfl rfl ?_
    refine x_aload_n 0 dX16_each_81 rfl rfl rfl rfl rfl ?_
    refine x_iload_n 1 dX16_each_82 rfl rfl rfl ?_
    refine x_iconst 0 (z := 0) dX16_each_83 rfl (by decide) rfl ?_
    refine y_Vi 226 (M := mX16_argument) (As := [(0, a1), (0, 0)]) (st := [(2, 65)]) dX16_each_84 i65 rfl q1932 q1934 qs35 q383 q1935 rfl hmX16_argument rfl rfl rfl rfl rfl rfl rfl rfl (k_mono h (fun r5 w6 h => ?_))
    refine y_Vi 206 (M := mX16_code) (As := [(0, r5)]) (st := []) dX16_each_87 i65 rfl q1912 q1914 qs30 q383 q1915 rfl hmX16_code rfl rfl rfl rfl rfl rfl rfl rfl (k_mono h (fun r7 w8 h => ?_))
    refine x_istore 8 (ls' := [(2, 65), (0, a1), (0, a2), (0, a3), (0, s0), (0, w 65 16), (0, w 65 10), (0, w2 65 10), (0, r7), (9, 0), (9, 0)]) dX16_each_90 rfl rfl rfl ?_
    refine x_aload_n 0 dX16_each_92 rfl rfl rfl rfl rfl ?_
    refine y_get 52 15 (c := 15) (z := w8 65 15) dX16_each_93 i65 rfl in_X16 q1114 rfl rfl rfl rfl rfl ?_
    refine x_if_lt (t := 101) 5 dX16_each_96 rfl rfl (b_ite h (fun hc h => ?_) (fun hc h => ?_))
    · refine x_aload_n 0 dX16_each_101 rfl rfl rfl rfl rfl ?_
      refine y_get 199 11 (c := 15) (z := w8 65 11) dX16_each_102 i65 rfl in_X16 q1110 rfl rfl rfl rfl rfl ?_
      refine x_if_eq (t := 110) 5 dX16_each_105 rfl rfl (b_ite h (fun hc h => ?_) (fun hc h => ?_))
      · refine x_iconst (-1) (z := (-1)) dX16_each_110 rfl (by decide) rfl ?_
        refine x_istore 9 (ls' := [(2, 65), (0, a1), (0, a2), (0, a3), (0, s0), (0, w 65 16), (0, w 65 10), (0, w2 65 10), (0, r7), (0, (-1)), (9, 0)]) dX16_each_111 rfl rfl rfl ?_
        refine x_iload_n 2 dX16_each_113 rfl rfl rfl ?_
        refine x_bipush 59 (z := 59) dX16_each_114 rfl (by decide) rfl ?_
        refine x_icmp_ne (t := 146) 30 dX16_each_116 rfl rfl (b_ite h (fun hc h => ?_) (fun hc h => ?_))
        · exact x_fg (fgk (fgd (fgk (fgk (fgd (fgk (fgk (fgk (fgk (fgk (fgk (fg0)))))))))))) h
        · refine x_aload_n 0 dX16_each_119 rfl rfl rfl rfl rfl ?_
          refine y_get 56 8 (c := 15) (z := w8 65 8) dX16_each_120 i65 rfl in_X16 q1107 rfl rfl rfl rfl rfl ?_
          refine x_if_ne (t := 128) 5 dX16_each_123 rfl rfl (b_ite h (fun hc h => ?_) (fun hc h => ?_))
          · refine x_aload_n 0 dX16_each_128 rfl rfl rfl rfl rfl ?_
            refine y_getF 20 7 (c := 15) (z := 68) dX16_each_129 i65 rfl in_X16 q1106 rfl rfl rfl fn_65_7 (Nat.le_trans (Nat.le_of_ble_eq_true rfl) hn) rfl ?_
            refine x_aload_n 0 dX16_each_132 rfl rfl rfl rfl rfl ?_
            refine x_dup dX16_each_133 rfl rfl ?_
            refine y_get 56 8 (c := 15) (z := w8 65 8) dX16_each_134 i65 rfl in_X16 q1107 rfl rfl rfl rfl rfl ?_
            refine x_iconst 1 (z := 1) dX16_each_137 rfl (by decide) rfl ?_
            refine x_isub dX16_each_138 rfl ?_
            refine x_dup_x1 dX16_each_139 rfl rfl rfl ?_
            refine x_put 56 8 (c := 15) dX16_each_140 i65 rfl in_X16 tyX16_ok nmX16 q1107 rfl rfl rfl (Or.inl rfl) (Or.inl ⟨rfl, rfl⟩) rfl ?_
            obtain ⟨e9, h⟩ := h
            refine y_iald (z := w8 68 (b_i ((w8 65 8) - 1))) dX16_each_143 ⟨310, i68, e9⟩ rfl rfl ?_
            refine x_istore 9 (ls' := [(2, 65), (0, a1), (0, a2), (0, a3), (0, s0), (0, w 65 16), (0, w 65 10), (0, w2 65 10), (0, r7), (0, w8 68 (b_i ((w8 65 8) - 1))), (9, 0)]) dX16_each_144 rfl rfl rfl ?_
            exact x_fg (fgk (fgd (fgk (fgk (fgd (fgk (fgk (fgk (fgk (fgk (fgk (fg0)))))))))))) h
          · refine x_iconst 0 (z := 0) dX16_each_126 rfl (by decide) rfl ?_
            exact y_iret dX16_each_127 rfl h
      · refine x_iconst 0 (z := 0) dX16_each_108 rfl (by decide) rfl ?_
        exact y_iret dX16_each_109 rfl h
    · refine x_iconst 0 (z := 0) dX16_each_99 rfl (by decide) rfl ?_
      exact y_iret dX16_each_100 rfl h
  · refine x_iconst 0 (z := 0) dX16_each_38 rfl (by decide) rfl ?_
    exact y_iret dX16_each_39 rfl h
theorem sX16_each_146 {d n : Nat} {w : bW} {Q : Int → bW → Prop} {X : String → bW → Prop} (hn : 143 ≤ n) (a2 : Int) (a3 : Int) (a5 : Int) (a6 : Int) (a7 : Int) (a8 : Int) (a9 : Int) (h : b_K d mX16_isSaved [(2, 65), (0, a7)] n w (fun r1 w2 => if r1 ≠ 0 then (if a2 ≠ 58 then (if a5 ≠ 0 then (if a5 ≠ 3 then ((0 ≤ a3 ∧ a3 < 60000) ∧ (b_K d mX7_make [(2, 19), (0, 15), (0, w2 21 a3), (0, a9)] n (b_up w2 65 10 a6) (fun r4 w5 => b_K d mX16_become [(2, 65), (0, 0), (0, r4)] n w5 (fun r6 w7 => b_K d mX16_done [(2, 65), (0, r6), (0, a2), (0, a8), (0, a5), (0, 0)] n w7 (fun r8 w9 => Q r8 w9) X) X) X)) else (b_K d mX7_option [(2, 19), (0, a9)] n (b_up w2 65 10 a6) (fun r10 w11 => b_K d mX16_become [(2, 65), (0, 0), (0, r10)] n w11 (fun r12 w13 => b_K d mX16_done [(2, 65), (0, r12), (0, a2), (0, a8), (0, a5), (0, 0)] n w13 (fun r14 w15 => Q r14 w15) X) X) X)) else (b_K d mX7_make [(2, 19), (0, 11), (0, a9), (0, (-1))] n (b_up w2 65 10 a6) (fun r16 w17 => b_K d mX16_become [(2, 65), (0, 0), (0, r16)] n w17 (fun r18 w19 => b_K d mX16_done [(2, 65), (0, r18), (0, a2), (0, a8), (0, a5), (0, 0)] n w19 (fun r20 w21 => Q r20 w21) X) X) X)) else (b_K d mX16_done [(2, 65), (0, 1), (0, a2), (0, a8), (0, a5), (0, 0)] n (b_up w2 65 10 a6) (fun r22 w23 => Q r22 w23) X)) else (Q 0 w2)) X) : LX16_each_146 d n Q X a2 a3 a5 a6 a7 a8 a9 w := by
  have i19 := iz19 (Nat.le_trans (Nat.le_of_ble_eq_true rfl) hn)
  have i21 := iz21 (Nat.le_trans (Nat.le_of_ble_eq_true rfl) hn)
  have i65 := iz65 (Nat.le_trans (Nat.le_of_ble_eq_true rfl) hn)
  refine x_aload_n 0 dX16_each_146 rfl rfl rfl rfl rfl ?_
  refine x_iload 7 dX16_each_147 rfl rfl ?_
  refine y_Vi 336 (M := mX16_isSaved) (As := [(0, a7)]) (st := []) dX16_each_149 i65 rfl q2223 q2225 qs66 q383 q2226 rfl hmX16_isSaved rfl rfl rfl rfl rfl rfl rfl rfl (k_mono h (fun r1 w2 h => ?_))
  refine x_if_ne (t := 157) 5 dX16_each_152 rfl rfl (b_ite h (fun hc h => ?_) (fun hc h => ?_))
  · refine x_aload_n 0 dX16_each_157 rfl rfl rfl rfl rfl ?_
    refine x_iload 6 dX16_each_158 rfl rfl ?_
    refine x_put 59 10 (c := 15) dX16_each_160 i65 rfl in_X16 tyX16_ok nmX16 q1109 rfl rfl rfl (Or.inl rfl) (Or.inl ⟨rfl, rfl⟩) rfl ?_
    refine x_iload_n 2 dX16_each_163 rfl rfl rfl ?_
    refine x_bipush 58 (z := 58) dX16_each_164 rfl (by decide) rfl ?_
    refine x_icmp_ne (t := 181) 15 dX16_each_166 rfl rfl (b_ite h (fun hc h => ?_) (fun hc h => ?_))
    · refine x_iload 5 dX16_each_181 rfl rfl ?_
      refine x_if_ne (t := 201) 18 dX16_each_183 rfl rfl (b_ite h (fun hc h => ?_) (fun hc h => ?_))
      · refine x_iload 5 dX16_each_201 rfl rfl ?_
        refine x_iconst 3 (z := 3) dX16_each_203 rfl (by decide) rfl ?_
        refine x_icmp_ne (t := 219) 15 dX16_each_204 rfl rfl (b_ite h (fun hc h => ?_) (fun hc h => ?_))
        · refine x_aload_n 0 dX16_each_219 rfl rfl rfl rfl rfl ?_
          refine y_getF 32 1 (c := 15) (z := 19) dX16_each_220 i65 rfl in_X16 q1100 rfl rfl rfl fn_65_1 (Nat.le_trans (Nat.le_of_ble_eq_true rfl) hn) rfl ?_
          refine x_bipush 15 (z := 15) dX16_each_223 rfl (by decide) rfl ?_
          refine x_aload_n 0 dX16_each_225 rfl rfl rfl rfl rfl ?_
          refine y_getF 32 1 (c := 15) (z := 19) dX16_each_226 i65 rfl in_X16 q1100 rfl rfl rfl fn_65_1 (Nat.le_trans (Nat.le_of_ble_eq_true rfl) hn) rfl ?_
          refine y_getF 166 1 (c := 6) (z := 21) dX16_each_229 i19 rfl in_X7 q761 rfl rfl rfl fn_19_1 (Nat.le_trans (Nat.le_of_ble_eq_true rfl) hn) rfl ?_
          refine x_iload_n 3 dX16_each_232 rfl rfl rfl ?_
          obtain ⟨e3, h⟩ := h
          refine y_iald (z := w2 21 a3) dX16_each_233 ⟨60000, i21, e3⟩ rfl rfl ?_
          refine x_iload 9 dX16_each_234 rfl rfl ?_
          refine y_Vi 195 (M := mX7_make) (As := [(0, 15), (0, w2 21 a3), (0, a9)]) (st := []) dX16_each_236 i19 rfl q1911 q728 q729 q374 q730 rfl hmX7_make rfl rfl rfl rfl rfl rfl rfl rfl (k_mono h (fun r4 w5 h => ?_))
          refine x_istore 10 (ls' := [(2, 65), (9, 0), (0, a2), (0, a3), (9, 0), (0, a5), (0, a6), (0, a7), (0, a8), (0, a9), (0, r4)]) dX16_each_239 rfl rfl rfl ?_
          refine x_aload_n 0 dX16_each_241 rfl rfl rfl rfl rfl ?_
          refine x_aload_n 0 dX16_each_242 rfl rfl rfl rfl rfl ?_
          refine x_iconst 0 (z := 0) dX16_each_243 rfl (by decide) rfl ?_
          refine x_iload 10 dX16_each_244 rfl rfl ?_
          refine y_Vi 278 (M := mX16_become) (As := [(0, 0), (0, r4)]) (st := [(2, 65)]) dX16_each_246 i65 rfl q2143 q2145 qs49 q383 q2146 rfl hmX16_become rfl rfl rfl rfl rfl rfl rfl rfl (k_mono h (fun r6 w7 h => ?_))
          refine x_iload_n 2 dX16_each_249 rfl rfl rfl ?_
          refine x_iload 8 dX16_each_250 rfl rfl ?_
          refine x_iload 5 dX16_each_252 rfl rfl ?_
          refine x_iconst 0 (z := 0) dX16_each_254 rfl (by decide) rfl ?_
          refine y_Vi 274 (M := mX16_done) (As := [(0, r6), (0, a2), (0, a8), (0, a5), (0, 0)]) (st := []) dX16_each_255 i65 rfl q2147 q2149 qs50 q383 q2150 rfl hmX16_done rfl rfl rfl rfl rfl rfl rfl rfl (k_mono h (fun r8 w9 h => ?_))
          exact y_iret dX16_each_258 rfl h
        · refine x_aload_n 0 dX16_each_207 rfl rfl rfl rfl rfl ?_
          refine y_getF 32 1 (c := 15) (z := 19) dX16_each_208 i65 rfl in_X16 q1100 rfl rfl rfl fn_65_1 (Nat.le_trans (Nat.le_of_ble_eq_true rfl) hn) rfl ?_
          refine x_iload 9 dX16_each_211 rfl rfl ?_
          refine y_Vi 313 (M := mX7_option) (As := [(0, a9)]) (st := []) dX16_each_213 i19 rfl q2199 q2200 q2201 q374 q2202 rfl hmX7_option rfl rfl rfl rfl rfl rfl rfl rfl (k_mono h (fun r10 w11 h => ?_))
          refine x_goto 23 (q := 239) dX16_each_216 rfl ?_
          refine x_istore 10 (ls' := [(2, 65), (9, 0), (0, a2), (0, a3), (9, 0), (0, a5), (0, a6), (0, a7), (0, a8), (0, a9), (0, r10)]) dX16_each_239 rfl rfl rfl ?_
          refine x_aload_n 0 dX16_each_241 rfl rfl rfl rfl rfl ?_
          refine x_aload_n 0 dX16_each_242 rfl rfl rfl rfl rfl ?_
          refine x_iconst 0 (z := 0) dX16_each_243 rfl (by decide) rfl ?_
          refine x_iload 10 dX16_each_244 rfl rfl ?_
          refine y_Vi 278 (M := mX16_become) (As := [(0, 0), (0, r10)]) (st := [(2, 65)]) dX16_each_246 i65 rfl q2143 q2145 qs49 q383 q2146 rfl hmX16_become rfl rfl rfl rfl rfl rfl rfl rfl (k_mono h (fun r12 w13 h => ?_))
          refine x_iload_n 2 dX16_each_249 rfl rfl rfl ?_
          refine x_iload 8 dX16_each_250 rfl rfl ?_
          refine x_iload 5 dX16_each_252 rfl rfl ?_
          refine x_iconst 0 (z := 0) dX16_each_254 rfl (by decide) rfl ?_
          refine y_Vi 274 (M := mX16_done) (As := [(0, r12), (0, a2), (0, a8), (0, a5), (0, 0)]) (st := []) dX16_each_255 i65 rfl q2147 q2149 qs50 q383 q2150 rfl hmX16_done rfl rfl rfl rfl rfl rfl rfl rfl (k_mono h (fun r14 w15 h => ?_))
          exact y_iret dX16_each_258 rfl h
      · refine x_aload_n 0 dX16_each_186 rfl rfl rfl rfl rfl ?_
        refine y_getF 32 1 (c := 15) (z := 19) dX16_each_187 i65 rfl in_X16 q1100 rfl rfl rfl fn_65_1 (Nat.le_trans (Nat.le_of_ble_eq_true rfl) hn) rfl ?_
        refine x_bipush 11 (z := 11) dX16_each_190 rfl (by decide) rfl ?_
        refine x_iload 9 dX16_each_192 rfl rfl ?_
        refine x_iconst (-1) (z := (-1)) dX16_each_194 rfl (by decide) rfl ?_
        refine y_Vi 195 (M := mX7_make) (As := [(0, 11), (0, a9), (0, (-1))]) (st := []) dX16_each_195 i19 rfl q1911 q728 q729 q374 q730 rfl hmX7_make rfl rfl rfl rfl rfl rfl rfl rfl (k_mono h (fun r16 w17 h => ?_))
        refine x_goto 41 (q := 239) dX16_each_198 rfl ?_
        refine x_istore 10 (ls' := [(2, 65), (9, 0), (0, a2), (0, a3), (9, 0), (0, a5), (0, a6), (0, a7), (0, a8), (0, a9), (0, r16)]) dX16_each_239 rfl rfl rfl ?_
        refine x_aload_n 0 dX16_each_241 rfl rfl rfl rfl rfl ?_
        refine x_aload_n 0 dX16_each_242 rfl rfl rfl rfl rfl ?_
        refine x_iconst 0 (z := 0) dX16_each_243 rfl (by decide) rfl ?_
        refine x_iload 10 dX16_each_244 rfl rfl ?_
        refine y_Vi 278 (M := mX16_become) (As := [(0, 0), (0, r16)]) (st := [(2, 65)]) dX16_each_246 i65 rfl q2143 q2145 qs49 q383 q2146 rfl hmX16_become rfl rfl rfl rfl rfl rfl rfl rfl (k_mono h (fun r18 w19 h => ?_))
        refine x_iload_n 2 dX16_each_249 rfl rfl rfl ?_
        refine x_iload 8 dX16_each_250 rfl rfl ?_
        refine x_iload 5 dX16_each_252 rfl rfl ?_
        refine x_iconst 0 (z := 0) dX16_each_254 rfl (by decide) rfl ?_
        refine y_Vi 274 (M := mX16_done) (As := [(0, r18), (0, a2), (0, a8), (0, a5), (0, 0)]) (st := []) dX16_each_255 i65 rfl q2147 q2149 qs50 q383 q2150 rfl hmX16_done rfl rfl rfl rfl rfl rfl rfl rfl (k_mono h (fun r20 w21 h => ?_))
        exact y_iret dX16_each_258 rfl h
    · refine x_aload_n 0 dX16_each_169 rfl rfl rfl rfl rfl ?_
      refine x_iconst 1 (z := 1) dX16_each_170 rfl (by decide) rfl ?_
      refine x_iload_n 2 dX16_each_171 rfl rfl rfl ?_
      refine x_iload 8 dX16_each_172 rfl rfl ?_
      refine x_iload 5 dX16_each_174 rfl rfl ?_
      refine x_iconst 0 (z := 0) dX16_each_176 rfl (by decide) rfl ?_
      refine y_Vi 274 (M := mX16_done) (As := [(0, 1), (0, a2), (0, a8), (0, a5), (0, 0)]) (st := []) dX16_each_177 i65 rfl q2147 q2149 qs50 q383 q2150 rfl hmX16_done rfl rfl rfl rfl rfl rfl rfl rfl (k_mono h (fun r22 w23 h => ?_))
      exact y_iret dX16_each_180 rfl h
  · refine x_iconst 0 (z := 0) dX16_each_155 rfl (by decide) rfl ?_
    exact y_iret dX16_each_156 rfl h
theorem rX16_element {d n : Nat} {w : bW} {Q : Int → bW → Prop} {X : String → bW → Prop} (hn : 143 ≤ n) (a1 : Int) (a2 : Int) (h : (0 ≤ a1 ∧ a1 < 60000) ∧ (if w 20 a1 = 10 then (if a2 ≠ 59 then (Q (-1) (b_up w 65 16 3)) else ((0 ≤ a1 ∧ a1 < 60000) ∧ (Q (w 21 a1) (b_up w 65 16 3)))) else (if w 20 a1 = 11 then ((0 ≤ a1 ∧ a1 < 60000) ∧ (Q (w 21 a1) (b_up w 65 16 0))) else (if w 20 a1 = 12 then (if a2 ≠ 58 then (Q (-1) (b_up w 65 16 1)) else ((0 ≤ a1 ∧ a1 < 60000) ∧ (Q (w 21 a1) (b_up w 65 16 1)))) else (if w 20 a1 = 15 then ((0 ≤ a1 ∧ a1 < 60000) ∧ ((0 ≤ a1 ∧ a1 < 60000) ∧ (b_K d mX7_pair [(2, 19), (0, w 21 a1), (0, w 22 a1)] n (b_up w 65 16 2) (fun r7 w8 => Q r7 w8) X))) else ((Q (-1) w))))))) : b_K (d + 1) mX16_element [(2, 65), (0, a1), (0, a2)] n w Q X := by
  have i19 := iz19 (Nat.le_trans (Nat.le_of_ble_eq_true rfl) hn)
  have i20 := iz20 (Nat.le_trans (Nat.le_of_ble_eq_true rfl) hn)
  have i21 := iz21 (Nat.le_trans (Nat.le_of_ble_eq_true rfl) hn)
  have i22 := iz22 (Nat.le_trans (Nat.le_of_ble_eq_true rfl) hn)
  have i65 := iz65 (Nat.le_trans (Nat.le_of_ble_eq_true rfl) hn)
  refine k_of (by decide) rfl rfl rfl (ls := [(2, 65), (0, a1), (0, a2)]) rfl ?_
  refine x_aload_n 0 dX16_element_0 rfl rfl rfl rfl rfl ?_
  refine y_getF 32 1 (c := 15) (z := 19) dX16_element_1 i65 rfl in_X16 q1100 rfl rfl rfl fn_65_1 (Nat.le_trans (Nat.le_of_ble_eq_true rfl) hn) rfl ?_
  refine y_getF 163 0 (c := 6) (z := 20) dX16_element_4 i19 rfl in_X7 q755 rfl rfl rfl fn_19_0 (Nat.le_trans (Nat.le_of_ble_eq_true rfl) hn) rfl ?_
  refine x_iload_n 1 dX16_element_7 rfl rfl rfl ?_
  obtain ⟨e1, h⟩ := h
  refine y_bald (z := w 20 a1) dX16_element_8 ⟨60000, i20, e1⟩ rfl rfl ?_
  refine b_itc h (fun hc h => ?_) (fun hn0 h => ?_)
  · have key : b_Y (d + 1) mX16_element n Q X 119 [(2, 65), (0, a1), (0, a2)] [] w := by
      refine x_aload_n 0 dX16_element_119 rfl rfl rfl rfl rfl ?_
      refine x_iconst 3 (z := 3) dX16_element_120 rfl (by decide) rfl ?_
      refine x_put 339 16 (c := 15) dX16_element_121 i65 rfl in_X16 tyX16_ok nmX16 q1117 rfl rfl rfl (Or.inl rfl) (Or.inl ⟨rfl, rfl⟩) rfl ?_
      refine x_iload_n 2 dX16_element_124 rfl rfl rfl ?_
      refine x_bipush 59 (z := 59) dX16_element_125 rfl (by decide) rfl ?_
      refine x_icmp_ne (t := 142) 15 dX16_element_127 rfl rfl (b_ite h (fun hc h => ?_) (fun hc h => ?_))
      · refine x_iconst (-1) (z := (-1)) dX16_element_142 rfl (by decide) rfl ?_
        exact y_iret dX16_element_143 rfl h
      · refine x_aload_n 0 dX16_element_130 rfl rfl rfl rfl rfl ?_
        refine y_getF 32 1 (c := 15) (z := 19) dX16_element_131 i65 rfl in_X16 q1100 rfl rfl rfl fn_65_1 (Nat.le_trans (Nat.le_of_ble_eq_true rfl) hn) rfl ?_
        refine y_getF 166 1 (c := 6) (z := 21) dX16_element_134 i19 rfl in_X7 q761 rfl rfl rfl fn_19_1 (Nat.le_trans (Nat.le_of_ble_eq_true rfl) hn) rfl ?_
        refine x_iload_n 1 dX16_element_137 rfl rfl rfl ?_
        obtain ⟨e2, h⟩ := h
        refine y_iald (z := w 21 a1) dX16_element_138 ⟨60000, i21, e2⟩ rfl rfl ?_
        refine x_goto 4 (q := 143) dX16_element_139 rfl ?_
        exact y_iret dX16_element_143 rfl h
    have e := hc
    exact x_tsI (off := 110) (t := 119) dX16_element_9 (by rw [e]; decide) (by rw [e]; decide) (by rw [e]; rfl) rfl key
  · refine b_itc h (fun hc h => ?_) (fun hn1 h => ?_)
    · have key : b_Y (d + 1) mX16_element n Q X 48 [(2, 65), (0, a1), (0, a2)] [] w := by
        refine x_aload_n 0 dX16_element_48 rfl rfl rfl rfl rfl ?_
        refine x_iconst 0 (z := 0) dX16_element_49 rfl (by decide) rfl ?_
        refine x_put 339 16 (c := 15) dX16_element_50 i65 rfl in_X16 tyX16_ok nmX16 q1117 rfl rfl rfl (Or.inl rfl) (Or.inl ⟨rfl, rfl⟩) rfl ?_
        refine x_aload_n 0 dX16_element_53 rfl rfl rfl rfl rfl ?_
        refine y_getF 32 1 (c := 15) (z := 19) dX16_element_54 i65 rfl in_X16 q1100 rfl rfl rfl fn_65_1 (Nat.le_trans (Nat.le_of_ble_eq_true rfl) hn) rfl ?_
        refine y_getF 166 1 (c := 6) (z := 21) dX16_element_57 i19 rfl in_X7 q761 rfl rfl rfl fn_19_1 (Nat.le_trans (Nat.le_of_ble_eq_true rfl) hn) rfl ?_
        refine x_iload_n 1 dX16_element_60 rfl rfl rfl ?_
        obtain ⟨e3, h⟩ := h
        refine y_iald (z := w 21 a1) dX16_element_61 ⟨60000, i21, e3⟩ rfl rfl ?_
        exact y_iret dX16_element_62 rfl h
      have e := hc
      exact x_tsI (off := 39) (t := 48) dX16_element_9 (by rw [e]; decide) (by rw [e]; decide) (by rw [e]; rfl) rfl key
    · refine b_itc h (fun hc h => ?_) (fun hn2 h => ?_)
      · have key : b_Y (d + 1) mX16_element n Q X 63 [(2, 65), (0, a1), (0, a2)] [] w := by
          refine x_aload_n 0 dX16_element_63 rfl rfl rfl rfl rfl ?_
          refine x_iconst 1 (z := 1) dX16_element_64 rfl (by decide) rfl ?_
          refine x_put 339 16 (c := 15) dX16_element_65 i65 rfl in_X16 tyX16_ok nmX16 q1117 rfl rfl rfl (Or.inl rfl) (Or.inl ⟨rfl, rfl⟩) rfl ?_
          refine x_iload_n 2 dX16_element_68 rfl rfl rfl ?_
          refine x_bipush 58 (z := 58) dX16_element_69 rfl (by decide) rfl ?_
          refine x_icmp_ne (t := 86) 15 dX16_element_71 rfl rfl (b_ite h (fun hc h => ?_) (fun hc h => ?_))
          · refine x_iconst (-1) (z := (-1)) dX16_element_86 rfl (by decide) rfl ?_
            exact y_iret dX16_element_87 rfl h
          · refine x_aload_n 0 dX16_element_74 rfl rfl rfl rfl rfl ?_
            refine y_getF 32 1 (c := 15) (z := 19) dX16_element_75 i65 rfl in_X16 q1100 rfl rfl rfl fn_65_1 (Nat.le_trans (Nat.le_of_ble_eq_true rfl) hn) rfl ?_
            refine y_getF 166 1 (c := 6) (z := 21) dX16_element_78 i19 rfl in_X7 q761 rfl rfl rfl fn_19_1 (Nat.le_trans (Nat.le_of_ble_eq_true rfl) hn) rfl ?_
            refine x_iload_n 1 dX16_element_81 rfl rfl rfl ?_
            obtain ⟨e4, h⟩ := h
            refine y_iald (z := w 21 a1) dX16_element_82 ⟨60000, i21, e4⟩ rfl rfl ?_
            refine x_goto 4 (q := 87) dX16_element_83 rfl ?_
            exact y_iret dX16_element_87 rfl h
        have e := hc
        exact x_tsI (off := 54) (t := 63) dX16_element_9 (by rw [e]; decide) (by rw [e]; decide) (by rw [e]; rfl) rfl key
      · refine b_itc h (fun hc h => ?_) (fun hn3 h => ?_)
        · have key : b_Y (d + 1) mX16_element n Q X 88 [(2, 65), (0, a1), (0, a2)] [] w := by
            refine x_aload_n 0 dX16_element_88 rfl rfl rfl rfl rfl ?_
            refine x_iconst 2 (z := 2) dX16_element_89 rfl (by decide) rfl ?_
            refine x_put 339 16 (c := 15) dX16_element_90 i65 rfl in_X16 tyX16_ok nmX16 q1117 rfl rfl rfl (Or.inl rfl) (Or.inl ⟨rfl, rfl⟩) rfl ?_
            refine x_aload_n 0 dX16_element_93 rfl rfl rfl rfl rfl ?_
            refine y_getF 32 1 (c := 15) (z := 19) dX16_element_94 i65 rfl in_X16 q1100 rfl rfl rfl fn_65_1 (Nat.le_trans (Nat.le_of_ble_eq_true rfl) hn) rfl ?_
            refine x_aload_n 0 dX16_element_97 rfl rfl rfl rfl rfl ?_
            refine y_getF 32 1 (c := 15) (z := 19) dX16_element_98 i65 rfl in_X16 q1100 rfl rfl rfl fn_65_1 (Nat.le_trans (Nat.le_of_ble_eq_true rfl) hn) rfl ?_
            refine y_getF 166 1 (c := 6) (z := 21) dX16_element_101 i19 rfl in_X7 q761 rfl rfl rfl fn_19_1 (Nat.le_trans (Nat.le_of_ble_eq_true rfl) hn) rfl ?_
            refine x_iload_n 1 dX16_element_104 rfl rfl rfl ?_
            obtain ⟨e5, h⟩ := h
            refine y_iald (z := w 21 a1) dX16_element_105 ⟨60000, i21, e5⟩ rfl rfl ?_
            refine x_aload_n 0 dX16_element_106 rfl rfl rfl rfl rfl ?_
            refine y_getF 32 1 (c := 15) (z := 19) dX16_element_107 i65 rfl in_X16 q1100 rfl rfl rfl fn_65_1 (Nat.le_trans (Nat.le_of_ble_eq_true rfl) hn) rfl ?_
            refine y_getF 169 2 (c := 6) (z := 22) dX16_element_110 i19 rfl in_X7 q767 rfl rfl rfl fn_19_2 (Nat.le_trans (Nat.le_of_ble_eq_true rfl) hn) rfl ?_
            refine x_iload_n 1 dX16_element_113 rfl rfl rfl ?_
            obtain ⟨e6, h⟩ := h
            refine y_iald (z := w 22 a1) dX16_element_114 ⟨60000, i22, e6⟩ rfl rfl ?_
            refine y_Vi 192 (M := mX7_pair) (As := [(0, w 21 a1), (0, w 22 a1)]) (st := []) dX16_element_115 i19 rfl q1910 q1863 q1864 q374 q1865 rfl hmX7_pair rfl rfl rfl rfl rfl rfl rfl rfl (k_mono h (fun r7 w8 h => ?_))
            exact y_iret dX16_element_118 rfl h
          have e := hc
          exact x_tsI (off := 79) (t := 88) dX16_element_9 (by rw [e]; decide) (by rw [e]; decide) (by rw [e]; rfl) rfl key
        · have key : b_Y (d + 1) mX16_element n Q X 144 [(2, 65), (0, a1), (0, a2)] [] w := by
            refine x_iconst (-1) (z := (-1)) dX16_element_144 rfl (by decide) rfl ?_
            exact y_iret dX16_element_145 rfl h
          by_cases e : w 20 a1 = 13
          · exact x_tsI (off := 135) (t := 144) dX16_element_9 (by rw [e]; decide) (by rw [e]; decide) (by rw [e]; rfl) rfl key
          have hx13 := e
          by_cases e : w 20 a1 = 14
          · exact x_tsI (off := 135) (t := 144) dX16_element_9 (by rw [e]; decide) (by rw [e]; decide) (by rw [e]; rfl) rfl key
          have hx14 := e
          exact x_tsO (t := 144) dX16_element_9 (by omega) rfl key
theorem rX16_lambda {d n : Nat} {w : bW} {Q : Int → bW → Prop} {X : String → bW → Prop} (hn : 143 ≤ n) (a1 : Int) (h : b_K d mX16_typeAt [(2, 65), (0, a1), (0, 0)] n w (fun r1 w2 => b_K d mX16_typeAt [(2, 65), (0, a1), (0, 1)] n w2 (fun r3 w4 => if r1 < 0 then (Q 0 w4) else (if 0 ≤ r3 then (b_K d mX7_make [(2, 19), (0, 17), (0, r1), (0, r3)] n w4 (fun r5 w6 => if r5 < 0 then (Q 0 w6) else (if w6 65 8 ≠ 300 then (b_K d mX16_save [(2, 65)] n w6 (fun r7 w8 => b_K d mX16_become [(2, 65), (0, 0), (0, r1)] n (b_up w8 65 8 0) (fun r9 w10 => b_K d mX16_argument [(2, 65), (0, a1), (0, 2)] n (b_up w10 65 14 (b_i ((w10 65 14) + 1))) (fun r11 w12 => b_K d mX16_code [(2, 65), (0, r11)] n w12 (fun r13 w14 => if 0 ≤ w14 65 15 then (Q 0 (b_up w14 65 14 (b_i ((w14 65 14) - 1)))) else (if w14 65 11 ≠ 0 then (b_K d mX16_load [(2, 65), (0, w8 65 10)] n (b_up (b_up w14 65 14 (b_i ((w14 65 14) - 1))) 65 11 0) (fun r15 w16 => b_K d mX16_become [(2, 65), (0, 0), (0, r5)] n (b_up w16 65 10 (w6 65 10)) (fun r17 w18 => b_K d mX16_done [(2, 65), (0, r17), (0, 61), (0, r13), (0, 0), (0, 0)] n w18 (fun r19 w20 => Q r19 w20) X) X) X) else (if w14 65 8 ≠ 1 then (Q 0 (b_up w14 65 14 (b_i ((w14 65 14) - 1)))) else (if w14 68 0 = r3 then (b_K d mX16_load [(2, 65), (0, w8 65 10)] n (b_up (b_up w14 65 14 (b_i ((w14 65 14) - 1))) 65 11 0) (fun r21 w22 => b_K d mX16_become [(2, 65), (0, 0), (0, r5)] n (b_up w22 65 10 (w6 65 10)) (fun r23 w24 => b_K d mX16_done [(2, 65), (0, r23), (0, 61), (0, r13), (0, 0), (0, 0)] n w24 (fun r25 w26 => Q r25 w26) X) X) X) else (Q 0 (b_up w14 65 14 (b_i ((w14 65 14) - 1)))))))) X) X) X) X) else (Q 0 w6))) X) else (Q 0 w4))) X) X) : b_K (d + 1) mX16_lambda [(2, 65), (0, a1)] n w Q X := by
  have i19 := iz19 (Nat.le_trans (Nat.le_of_ble_eq_true rfl) hn)
  have i65 := iz65 (Nat.le_trans (Nat.le_of_ble_eq_true rfl) hn)
  have i68 := iz68 (Nat.le_trans (Nat.le_of_ble_eq_true rfl) hn)
  refine k_of (by decide) rfl rfl rfl (ls := [(2, 65), (0, a1), (9, 0), (9, 0), (9, 0), (9, 0), (9, 0), (9, 0)]) rfl ?_
  refine x_aload_n 0 dX16_lambda_0 rfl rfl rfl rfl rfl ?_
  refine x_iload_n 1 dX16_lambda_1 rfl rfl rfl ?_
  refine x_iconst 0 (z := 0) dX16_lambda_2 rfl (by decide) rfl ?_
  refine y_Vi 285 (M := mX16_typeAt) (As := [(0, a1), (0, 0)]) (st := []) dX16_lambda_3 i65 rfl q1928 q1930 qs34 q383 q1931 rfl hmX16_typeAt rfl rfl rfl rfl rfl rfl rfl rfl (k_mono h (fun r1 w2 h => ?_))
  refine x_istore_n 2 (ls' := [(2, 65), (0, a1), (0, r1), (9, 0), (9, 0), (9, 0), (9, 0), (9, 0)]) dX16_lambda_6 rfl rfl rfl rfl ?_
  refine x_aload_n 0 dX16_lambda_7 rfl rfl rfl rfl rfl ?_
  refine x_iload_n 1 dX16_lambda_8 rfl rfl rfl ?_
  refine x_iconst 1 (z := 1) dX16_lambda_9 rfl (by decide) rfl ?_
  refine y_Vi 285 (M := mX16_typeAt) (As := [(0, a1), (0, 1)]) (st := []) dX16_lambda_10 i65 rfl q1928 q1930 qs34 q383 q1931 rfl hmX16_typeAt rfl rfl rfl rfl rfl rfl rfl rfl (k_mono h (fun r3 w4 h => ?_))
  refine x_istore_n 3 (ls' := [(2, 65), (0, a1), (0, r1), (0, r3), (9, 0), (9, 0), (9, 0), (9, 0)]) dX16_lambda_13 rfl rfl rfl rfl ?_
  refine x_iload_n 2 dX16_lambda_14 rfl rfl rfl ?_
  refine x_if_lt (t := 22) 7 dX16_lambda_15 rfl rfl (b_ite h (fun hc h => ?_) (fun hc h => ?_))
  · refine x_iconst 0 (z := 0) dX16_lambda_22 rfl (by decide) rfl ?_
    exact y_iret dX16_lambda_23 rfl h
  · refine x_iload_n 3 dX16_lambda_18 rfl rfl rfl ?_
    refine x_if_ge (t := 24) 5 dX16_lambda_19 rfl rfl (b_ite h (fun hc h => ?_) (fun hc h => ?_))
    · refine x_aload_n 0 dX16_lambda_24 rfl rfl rfl rfl rfl ?_
      refine y_getF 32 1 (c := 15) (z := 19) dX16_lambda_25 i65 rfl in_X16 q1100 rfl rfl rfl fn_65_1 (Nat.le_trans (Nat.le_of_ble_eq_true rfl) hn) rfl ?_
      refine x_bipush 17 (z := 17) dX16_lambda_28 rfl (by decide) rfl ?_
      refine x_iload_n 2 dX16_lambda_30 rfl rfl rfl ?_
      refine x_iload_n 3 dX16_lambda_31 rfl rfl rfl ?_
      refine y_Vi 195 (M := mX7_make) (As := [(0, 17), (0, r1), (0, r3)]) (st := []) dX16_lambda_32 i19 rfl q1911 q728 q729 q374 q730 rfl hmX7_make rfl rfl rfl rfl rfl rfl rfl rfl (k_mono h (fun r5 w6 h => ?_))
      refine x_istore 4 (ls' := [(2, 65), (0, a1), (0, r1), (0, r3), (0, r5), (9, 0), (9, 0), (9, 0)]) dX16_lambda_35 rfl rfl rfl ?_
      refine x_iload 4 dX16_lambda_37 rfl rfl ?_
      refine x_if_lt (t := 52) 13 dX16_lambda_39 rfl rfl (b_ite h (fun hc h => ?_) (fun hc h => ?_))
      · refine x_iconst 0 (z := 0) dX16_lambda_52 rfl (by decide) rfl ?_
        exact y_iret dX16_lambda_53 rfl h
      · refine x_aload_n 0 dX16_lambda_42 rfl rfl rfl rfl rfl ?_
        refine y_get 56 8 (c := 15) (z := w6 65 8) dX16_lambda_43 i65 rfl in_X16 q1107 rfl rfl rfl rfl rfl ?_
        refine x_sipush 300 (z := 300) dX16_lambda_46 rfl (by decide) rfl ?_
        refine x_icmp_ne (t := 54) 5 dX16_lambda_49 rfl rfl (b_ite h (fun hc h => ?_) (fun hc h => ?_))
        · refine x_aload_n 0 dX16_lambda_54 rfl rfl rfl rfl rfl ?_
          refine y_get 59 10 (c := 15) (z := w6 65 10) dX16_lambda_55 i65 rfl in_X16 q1109 rfl rfl rfl rfl rfl ?_
          refine x_istore 5 (ls' := [(2, 65), (0, a1), (0, r1), (0, r3), (0, r5), (0, w6 65 10), (9, 0), (9, 0)]) dX16_lambda_58 rfl rfl rfl ?_
          refine x_aload_n 0 dX16_lambda_60 rfl rfl rfl rfl rfl ?_
          refine y_Vv 330 (M := mX16_save) (As := []) (st := []) dX16_lambda_61 i65 rfl q2215 q2217 qs64 q383 q2218 rfl hmX16_save rfl rfl rfl rfl rfl rfl rfl (k_mono h (fun r7 w8 h => ?_))
          refine x_aload_n 0 dX16_lambda_64 rfl rfl rfl rfl rfl ?_
          refine y_get 59 10 (c := 15) (z := w8 65 10) dX16_lambda_65 i65 rfl in_X16 q1109 rfl rfl rfl rfl rfl ?_
          refine x_istore 6 (ls' := [(2, 65), (0, a1), (0, r1), (0, r3), (0, r5), (0, w6 65 10), (0, w8 65 10), (9, 0)]) dX16_lambda_68 rfl rfl rfl ?_
          refine x_aload_n 0 dX16_lambda_70 rfl rfl rfl rfl rfl ?_
          refine x_iconst 0 (z := 0) dX16_lambda_71 rfl (by decide) rfl ?_
          refine x_put 56 8 (c := 15) dX16_lambda_72 i65 rfl in_X16 tyX16_ok nmX16 q1107 rfl rfl rfl (Or.inl rfl) (Or.inl ⟨rfl, rfl⟩) rfl ?_
          refine x_aload_n 0 dX16_lambda_75 rfl rfl rfl rfl rfl ?_
          refine x_iconst 0 (z := 0) dX16_lambda_76 rfl (by decide) rfl ?_
          refine x_iload_n 2 dX16_lambda_77 rfl rfl rfl ?_
          refine y_Vi 278 (M := mX16_become) (As := [(0, 0), (0, r1)]) (st := []) dX16_lambda_78 i65 rfl q2143 q2145 qs49 q383 q2146 rfl hmX16_become rfl rfl rfl rfl rfl rfl rfl rfl (k_mono h (fun r9 w10 h => ?_))
          refine x_pop dX16_lambda_81 rfl rfl ?_
          refine x_aload_n 0 dX16_lambda_82 rfl rfl rfl rfl rfl ?_
          refine x_dup dX16_lambda_83 rfl rfl ?_
          refine y_get 62 14 (c := 15) (z := w10 65 14) dX16_lambda_84 i65 rfl in_X16 q1113 rfl rfl rfl rfl rfl ?_
          refine x_iconst 1 (z := 1) dX16_lambda_87 rfl (by decide) rfl ?_
          refine x_iadd dX16_lambda_88 rfl ?_
          refine x_put 62 14 (c := 15) dX16_lambda_89 i65 rfl in_X16 tyX16_ok nmX16 q1113 rfl rfl rfl (Or.inl rfl) (Or.inl ⟨rfl, rfl⟩) rfl ?_
          refine x_aload_n 0 dX16_lambda_92 rfl rfl rfl rfl rfl ?_
          refine x_aload_n 0 dX16_lambda_93 rfl rfl rfl rfl rfl ?_
          refine x_iload_n 1 dX16_lambda_94 rfl rfl rfl ?_
          refine x_iconst 2 (z := 2) dX16_lambda_95 rfl (by decide) rfl ?_
          refine y_Vi 226 (M := mX16_argument) (As := [(0, a1), (0, 2)]) (st := [(2, 65)]) dX16_lambda_96 i65 rfl q1932 q1934 qs35 q383 q1935 rfl hmX16_argument rfl rfl rfl rfl rfl rfl rfl rfl (k_mono h (fun r11 w12 h => ?_))
          refine y_Vi 206 (M := mX16_code) (As := [(0, r11)]) (st := []) dX16_lambda_99 i65 rfl q1912 q1914 qs30 q383 q1915 rfl hmX16_code rfl rfl rfl rfl rfl rfl rfl rfl (k_mono h (fun r13 w14 h => ?_))
          refine x_istore 7 (ls' := [(2, 65), (0, a1), (0, r1), (0, r3), (0, r5), (0, w6 65 10), (0, w8 65 10), (0, r13)]) dX16_lambda_102 rfl rfl rfl ?_
          refine x_aload_n 0 dX16_lambda_104 rfl rfl rfl rfl rfl ?_
          refine x_dup dX16_lambda_105 rfl rfl ?_
          refine y_get 62 14 (c := 15) (z := w14 65 14) dX16_lambda_106 i65 rfl in_X16 q1113 rfl rfl rfl rfl rfl ?_
          refine x_iconst 1 (z := 1) dX16_lambda_109 rfl (by decide) rfl ?_
          refine x_isub dX16_lambda_110 rfl ?_
          refine x_put 62 14 (c := 15) dX16_lambda_111 i65 rfl in_X16 tyX16_ok nmX16 q1113 rfl rfl rfl (Or.inl rfl) (Or.inl ⟨rfl, rfl⟩) rfl ?_
          refine x_aload_n 0 dX16_lambda_114 rfl rfl rfl rfl rfl ?_
          refine y_get 52 15 (c := 15) (z := w14 65 15) dX16_lambda_115 i65 rfl in_X16 q1114 rfl rfl rfl rfl rfl ?_
          refine x_if_ge (t := 146) 28 dX16_lambda_118 rfl rfl (b_ite h (fun hc h => ?_) (fun hc h => ?_))
          · refine x_iconst 0 (z := 0) dX16_lambda_146 rfl (by decide) rfl ?_
            exact y_iret dX16_lambda_147 rfl h
          · refine x_aload_n 0 dX16_lambda_121 rfl rfl rfl rfl rfl ?_
            refine y_get 199 11 (c := 15) (z := w14 65 11) dX16_lambda_122 i65 rfl in_X16 q1110 rfl rfl rfl rfl rfl ?_
            refine x_if_ne (t := 148) 23 dX16_lambda_125 rfl rfl (b_ite h (fun hc h => ?_) (fun hc h => ?_))
            · refine x_aload_n 0 dX16_lambda_148 rfl rfl rfl rfl rfl ?_
              refine x_iconst 0 (z := 0) dX16_lambda_149 rfl (by decide) rfl ?_
              refine x_put 199 11 (c := 15) dX16_lambda_150 i65 rfl in_X16 tyX16_ok nmX16 q1110 rfl rfl rfl (Or.inl rfl) (Or.inr (Or.inl ⟨rfl, rfl, by decide⟩)) rfl ?_
              refine x_aload_n 0 dX16_lambda_153 rfl rfl rfl rfl rfl ?_
              refine x_iload 6 dX16_lambda_154 rfl rfl ?_
              refine y_Vv 333 (M := mX16_load) (As := [(0, w8 65 10)]) (st := []) dX16_lambda_156 i65 rfl q2219 q2221 qs65 q383 q2222 rfl hmX16_load rfl rfl rfl rfl rfl rfl rfl (k_mono h (fun r15 w16 h => ?_))
              refine x_aload_n 0 dX16_lambda_159 rfl rfl rfl rfl rfl ?_
              refine x_iload 5 dX16_lambda_160 rfl rfl ?_
              refine x_put 59 10 (c := 15) dX16_lambda_162 i65 rfl in_X16 tyX16_ok nmX16 q1109 rfl rfl rfl (Or.inl rfl) (Or.inl ⟨rfl, rfl⟩) rfl ?_
              refine x_aload_n 0 dX16_lambda_165 rfl rfl rfl rfl rfl ?_
              refine x_aload_n 0 dX16_lambda_166 rfl rfl rfl rfl rfl ?_
              refine x_iconst 0 (z := 0) dX16_lambda_167 rfl (by decide) rfl ?_
              refine x_iload 4 dX16_lambda_168 rfl rfl ?_
              refine y_Vi 278 (M := mX16_become) (As := [(0, 0), (0, r5)]) (st := [(2, 65)]) dX16_lambda_170 i65 rfl q2143 q2145 qs49 q383 q2146 rfl hmX16_become rfl rfl rfl rfl rfl rfl rfl rfl (k_mono h (fun r17 w18 h => ?_))
              refine x_bipush 61 (z := 61) dX16_lambda_173 rfl (by decide) rfl ?_
              refine x_iload 7 dX16_lambda_175 rfl rfl ?_
              refine x_iconst 0 (z := 0) dX16_lambda_177 rfl (by decide) rfl ?_
              refine x_iconst 0 (z := 0) dX16_lambda_178 rfl (by decide) rfl ?_
              refine y_Vi 274 (M := mX16_done) (As := [(0, r17), (0, 61), (0, r13), (0, 0), (0, 0)]) (st := []) dX16_lambda_179 i65 rfl q2147 q2149 qs50 q383 q2150 rfl hmX16_done rfl rfl rfl rfl rfl rfl rfl rfl (k_mono h (fun r19 w20 h => ?_))
              exact y_iret dX16_lambda_182 rfl h
            · refine x_aload_n 0 dX16_lambda_128 rfl rfl rfl rfl rfl ?_
              refine y_get 56 8 (c := 15) (z := w14 65 8) dX16_lambda_129 i65 rfl in_X16 q1107 rfl rfl rfl rfl rfl ?_
              refine x_iconst 1 (z := 1) dX16_lambda_132 rfl (by decide) rfl ?_
              refine x_icmp_ne (t := 146) 13 dX16_lambda_133 rfl rfl (b_ite h (fun hc h => ?_) (fun hc h => ?_))
              · refine x_iconst 0 (z := 0) dX16_lambda_146 rfl (by decide) rfl ?_
                exact y_iret dX16_lambda_147 rfl h
              · refine x_aload_n 0 dX16_lambda_136 rfl rfl rfl rfl rfl ?_
                refine y_getF 20 7 (c := 15) (z := 68) dX16_lambda_137 i65 rfl in_X16 q1106 rfl rfl rfl fn_65_7 (Nat.le_trans (Nat.le_of_ble_eq_true rfl) hn) rfl ?_
                refine x_iconst 0 (z := 0) dX16_lambda_140 rfl (by decide) rfl ?_
                refine y_iald (z := w14 68 0) dX16_lambda_141 ⟨310, i68, by decide⟩ rfl rfl ?_
                refine x_iload_n 3 dX16_lambda_142 rfl rfl rfl ?_
                refine x_icmp_eq (t := 148) 5 dX16_lambda_143 rfl rfl (b_ite h (fun hc h => ?_) (fun hc h => ?_))
                · refine x_aload_n 0 dX16_lambda_148 rfl rfl rfl rfl rfl ?_
                  refine x_iconst 0 (z := 0) dX16_lambda_149 rfl (by decide) rfl ?_
                  refine x_put 199 11 (c := 15) dX16_lambda_150 i65 rfl in_X16 tyX16_ok nmX16 q1110 rfl rfl rfl (Or.inl rfl) (Or.inr (Or.inl ⟨rfl, rfl, by decide⟩)) rfl ?_
                  refine x_aload_n 0 dX16_lambda_153 rfl rfl rfl rfl rfl ?_
                  refine x_iload 6 dX16_lambda_154 rfl rfl ?_
                  refine y_Vv 333 (M := mX16_load) (As := [(0, w8 65 10)]) (st := []) dX16_lambda_156 i65 rfl q2219 q2221 qs65 q383 q2222 rfl hmX16_load rfl rfl rfl rfl rfl rfl rfl (k_mono h (fun r21 w22 h => ?_))
                  refine x_aload_n 0 dX16_lambda_159 rfl rfl rfl rfl rfl ?_
                  refine x_iload 5 dX16_lambda_160 rfl rfl ?_
                  refine x_put 59 10 (c := 15) dX16_lambda_162 i65 rfl in_X16 tyX16_ok nmX16 q1109 rfl rfl rfl (Or.inl rfl) (Or.inl ⟨rfl, rfl⟩) rfl ?_
                  refine x_aload_n 0 dX16_lambda_165 rfl rfl rfl rfl rfl ?_
                  refine x_aload_n 0 dX16_lambda_166 rfl rfl rfl rfl rfl ?_
                  refine x_iconst 0 (z := 0) dX16_lambda_167 rfl (by decide) rfl ?_
                  refine x_iload 4 dX16_lambda_168 rfl rfl ?_
                  refine y_Vi 278 (M := mX16_become) (As := [(0, 0), (0, r5)]) (st := [(2, 65)]) dX16_lambda_170 i65 rfl q2143 q2145 qs49 q383 q2146 rfl hmX16_become rfl rfl rfl rfl rfl rfl rfl rfl (k_mono h (fun r23 w24 h => ?_))
                  refine x_bipush 61 (z := 61) dX16_lambda_173 rfl (by decide) rfl ?_
                  refine x_iload 7 dX16_lambda_175 rfl rfl ?_
                  refine x_iconst 0 (z := 0) dX16_lambda_177 rfl (by decide) rfl ?_
                  refine x_iconst 0 (z := 0) dX16_lambda_178 rfl (by decide) rfl ?_
                  refine y_Vi 274 (M := mX16_done) (As := [(0, r23), (0, 61), (0, r13), (0, 0), (0, 0)]) (st := []) dX16_lambda_179 i65 rfl q2147 q2149 qs50 q383 q2150 rfl hmX16_done rfl rfl rfl rfl rfl rfl rfl rfl (k_mono h (fun r25 w26 h => ?_))
                  exact y_iret dX16_lambda_182 rfl h
                · refine x_iconst 0 (z := 0) dX16_lambda_146 rfl (by decide) rfl ?_
                  exact y_iret dX16_lambda_147 rfl h
        · refine x_iconst 0 (z := 0) dX16_lambda_52 rfl (by decide) rfl ?_
          exact y_iret dX16_lambda_53 rfl h
    · refine x_iconst 0 (z := 0) dX16_lambda_22 rfl (by decide) rfl ?_
      exact y_iret dX16_lambda_23 rfl h
abbrev LX16_plain_54 (d n : Nat) (Q : Int → bW → Prop) (X : String → bW → Prop) (a1 : Int) (s0 : Int) (w : bW) : Prop := b_Y (d + 1) mX16_plain n Q X 54 [(2, 65), (0, a1), (9, 0), (9, 0), (9, 0), (9, 0)] [(0, s0)] w
theorem rX16_plain {d n : Nat} {w : bW} {Q : Int → bW → Prop} {X : String → bW → Prop} (hn : 143 ≤ n) (a1 : Int) (a2 : Int) (h : if a2 = 0 then (if a1 ≠ 79 then (b_K d mX16_word [(2, 65), (0, 0)] n w (fun r1 w2 => b_K d mX16_isOne [(0, a1)] n w2 (fun r3 w4 => if r3 = 0 then (b_K d mX16_word [(2, 65), (0, 1)] n w4 (fun r5 w6 => b_K d mX16_two [(2, 65), (0, a1), (0, r1), (0, r5)] n w6 (fun r7 w8 => b_K d mX16_become2 [(2, 65), (0, 2), (0, r7)] n w8 (fun r9 w10 => b_K d mX16_done [(2, 65), (0, r9), (0, a1), (0, r7), (0, r1), (0, 0)] n w10 (fun r11 w12 => Q r11 w12) X) X) X) X) else (b_K d mX16_one [(2, 65), (0, a1), (0, r1)] n w4 (fun r13 w14 => b_K d mX16_become2 [(2, 65), (0, 1), (0, r13)] n w14 (fun r15 w16 => b_K d mX16_done [(2, 65), (0, r15), (0, a1), (0, r1), (0, 0), (0, 0)] n w16 (fun r17 w18 => Q r17 w18) X) X) X)) X) X) else (if w 65 8 ≤ 1 then (LX16_plain_54 d n Q X a1 0 w) else (b_K d mX16_at [(2, 65), (0, 0)] n w (fun r19 w20 => b_K d mX16_at [(2, 65), (0, 1)] n w20 (fun r21 w22 => if r19 ≠ r21 then (LX16_plain_54 d n Q X a1 0 w22) else (b_K d mX16_at [(2, 65), (0, 0)] n w22 (fun r23 w24 => b_K d mX7_is [(2, 19), (0, r23), (0, 1)] n w24 (fun r25 w26 => if r25 = 0 then (LX16_plain_54 d n Q X a1 0 w26) else (LX16_plain_54 d n Q X a1 1 w26)) X) X)) X) X))) else (Q 0 w)) : b_K (d + 1) mX16_plain [(2, 65), (0, a1), (0, a2)] n w Q X := by
  have i19 := iz19 (Nat.le_trans (Nat.le_of_ble_eq_true rfl) hn)
  have i65 := iz65 (Nat.le_trans (Nat.le_of_ble_eq_true rfl) hn)
  refine k_of (by decide) rfl rfl rfl (ls := [(2, 65), (0, a1), (0, a2), (9, 0), (9, 0), (9, 0)]) rfl ?_
  refine x_iload_n 2 dX16_plain_0 rfl rfl rfl ?_
  refine x_if_eq (t := 6) 5 dX16_plain_1 rfl rfl (b_ite h (fun hc h => ?_) (fun hc h => ?_))
  · refine x_iload_n 1 dX16_plain_6 rfl rfl rfl ?_
    refine x_bipush 79 (z := 79) dX16_plain_7 rfl (by decide) rfl ?_
    refine x_icmp_ne (t := 98) 89 dX16_plain_9 rfl rfl (b_ite h (fun hc h => ?_) (fun hc h => ?_))
    · refine x_aload_n 0 dX16_plain_98 rfl rfl rfl rfl rfl ?_
      refine x_iconst 0 (z := 0) dX16_plain_99 rfl (by decide) rfl ?_
      refine y_Vi 304 (M := mX16_word) (As := [(0, 0)]) (st := []) dX16_plain_100 i65 rfl q2187 q2189 qs58 q383 q2190 rfl hmX16_word rfl rfl rfl rfl rfl rfl rfl rfl (k_mono h (fun r1 w2 h => ?_))
      refine x_istore_n 3 (ls' := [(2, 65), (0, a1), (0, a2), (0, r1), (9, 0), (9, 0)]) dX16_plain_103 rfl rfl rfl rfl ?_
      refine x_iload_n 1 dX16_plain_104 rfl rfl rfl ?_
      refine y_Si 360 (M := mX16_isOne) (As := [(0, a1)]) (st := []) dX16_plain_105 q2247 q2248 q383 q2249 hmX16_isOne rfl rfl rfl rfl rfl rfl rfl rfl (k_mono h (fun r3 w4 h => ?_))
      refine x_if_eq (t := 131) 23 dX16_plain_108 rfl rfl (b_ite h (fun hc h => ?_) (fun hc h => ?_))
      · refine x_aload_n 0 dX16_plain_131 rfl rfl rfl rfl rfl ?_
        refine x_iconst 1 (z := 1) dX16_plain_132 rfl (by decide) rfl ?_
        refine y_Vi 304 (M := mX16_word) (As := [(0, 1)]) (st := []) dX16_plain_133 i65 rfl q2187 q2189 qs58 q383 q2190 rfl hmX16_word rfl rfl rfl rfl rfl rfl rfl rfl (k_mono h (fun r5 w6 h => ?_))
        refine x_istore 4 (ls' := [(2, 65), (0, a1), (0, a2), (0, r1), (0, r5), (9, 0)]) dX16_plain_136 rfl rfl rfl ?_
        refine x_aload_n 0 dX16_plain_138 rfl rfl rfl rfl rfl ?_
        refine x_iload_n 1 dX16_plain_139 rfl rfl rfl ?_
        refine x_iload_n 3 dX16_plain_140 rfl rfl rfl ?_
        refine x_iload 4 dX16_plain_141 rfl rfl ?_
        refine y_Vi 369 (M := mX16_two) (As := [(0, a1), (0, r1), (0, r5)]) (st := []) dX16_plain_143 i65 rfl q2261 q2263 qs74 q383 q2264 rfl hmX16_two rfl rfl rfl rfl rfl rfl rfl rfl (k_mono h (fun r7 w8 h => ?_))
        refine x_istore 5 (ls' := [(2, 65), (0, a1), (0, a2), (0, r1), (0, r5), (0, r7)]) dX16_plain_146 rfl rfl rfl ?_
        refine x_aload_n 0 dX16_plain_148 rfl rfl rfl rfl rfl ?_
        refine x_aload_n 0 dX16_plain_149 rfl rfl rfl rfl rfl ?_
        refine x_iconst 2 (z := 2) dX16_plain_150 rfl (by decide) rfl ?_
        refine x_iload 5 dX16_plain_151 rfl rfl ?_
        refine y_Vi 366 (M := mX16_become2) (As := [(0, 2), (0, r7)]) (st := [(2, 65)]) dX16_plain_153 i65 rfl q2257 q2259 qs73 q383 q2260 rfl hmX16_become2 rfl rfl rfl rfl rfl rfl rfl rfl (k_mono h (fun r9 w10 h => ?_))
        refine x_iload_n 1 dX16_plain_156 rfl rfl rfl ?_
        refine x_iload 5 dX16_plain_157 rfl rfl ?_
        refine x_iload_n 3 dX16_plain_159 rfl rfl rfl ?_
        refine x_iconst 0 (z := 0) dX16_plain_160 rfl (by decide) rfl ?_
        refine y_Vi 274 (M := mX16_done) (As := [(0, r9), (0, a1), (0, r7), (0, r1), (0, 0)]) (st := []) dX16_plain_161 i65 rfl q2147 q2149 qs50 q383 q2150 rfl hmX16_done rfl rfl rfl rfl rfl rfl rfl rfl (k_mono h (fun r11 w12 h => ?_))
        exact y_iret dX16_plain_164 rfl h
      · refine x_aload_n 0 dX16_plain_111 rfl rfl rfl rfl rfl ?_
        refine x_aload_n 0 dX16_plain_112 rfl rfl rfl rfl rfl ?_
        refine x_iconst 1 (z := 1) dX16_plain_113 rfl (by decide) rfl ?_
        refine x_aload_n 0 dX16_plain_114 rfl rfl rfl rfl rfl ?_
        refine x_iload_n 1 dX16_plain_115 rfl rfl rfl ?_
        refine x_iload_n 3 dX16_plain_116 rfl rfl rfl ?_
        refine y_Vi 363 (M := mX16_one) (As := [(0, a1), (0, r1)]) (st := [(0, 1), (2, 65), (2, 65)]) dX16_plain_117 i65 rfl q2250 q2252 qs72 q383 q2253 rfl hmX16_one rfl rfl rfl rfl rfl rfl rfl rfl (k_mono h (fun r13 w14 h => ?_))
        refine y_Vi 366 (M := mX16_become2) (As := [(0, 1), (0, r13)]) (st := [(2, 65)]) dX16_plain_120 i65 rfl q2257 q2259 qs73 q383 q2260 rfl hmX16_become2 rfl rfl rfl rfl rfl rfl rfl rfl (k_mono h (fun r15 w16 h => ?_))
        refine x_iload_n 1 dX16_plain_123 rfl rfl rfl ?_
        refine x_iload_n 3 dX16_plain_124 rfl rfl rfl ?_
        refine x_iconst 0 (z := 0) dX16_plain_125 rfl (by decide) rfl ?_
        refine x_iconst 0 (z := 0) dX16_plain_126 rfl (by decide) rfl ?_
        refine y_Vi 274 (M := mX16_done) (As := [(0, r15), (0, a1), (0, r1), (0, 0), (0, 0)]) (st := []) dX16_plain_127 i65 rfl q2147 q2149 qs50 q383 q2150 rfl hmX16_done rfl rfl rfl rfl rfl rfl rfl rfl (k_mono h (fun r17 w18 h => ?_))
        exact y_iret dX16_plain_130 rfl h
    · refine x_aload_n 0 dX16_plain_12 rfl rfl rfl rfl rfl ?_
      refine y_get 56 8 (c := 15) (z := w 65 8) dX16_plain_13 i65 rfl in_X16 q1107 rfl rfl rfl rfl rfl ?_
      refine x_iconst 1 (z := 1) dX16_plain_16 rfl (by decide) rfl ?_
      refine x_icmp_le (t := 53) 36 dX16_plain_17 rfl rfl (b_ite h (fun hc h => ?_) (fun hc h => ?_))
      · refine x_iconst 0 (z := 0) dX16_plain_53 rfl (by decide) rfl ?_
        exact x_fg (fgk (fgk (fgd (fgk (fgk (fgk (fg0))))))) h
      · refine x_aload_n 0 dX16_plain_20 rfl rfl rfl rfl rfl ?_
        refine x_iconst 0 (z := 0) dX16_plain_21 rfl (by decide) rfl ?_
        refine y_Vi 209 (M := mX16_at) (As := [(0, 0)]) (st := []) dX16_plain_22 i65 rfl q2171 q2173 qs54 q383 q2174 rfl hmX16_at rfl rfl rfl rfl rfl rfl rfl rfl (k_mono h (fun r19 w20 h => ?_))
        refine x_aload_n 0 dX16_plain_25 rfl rfl rfl rfl rfl ?_
        refine x_iconst 1 (z := 1) dX16_plain_26 rfl (by decide) rfl ?_
        refine y_Vi 209 (M := mX16_at) (As := [(0, 1)]) (st := [(0, r19)]) dX16_plain_27 i65 rfl q2171 q2173 qs54 q383 q2174 rfl hmX16_at rfl rfl rfl rfl rfl rfl rfl rfl (k_mono h (fun r21 w22 h => ?_))
        refine x_icmp_ne (t := 53) 23 dX16_plain_30 rfl rfl (b_ite h (fun hc h => ?_) (fun hc h => ?_))
        · refine x_iconst 0 (z := 0) dX16_plain_53 rfl (by decide) rfl ?_
          exact x_fg (fgk (fgk (fgd (fgk (fgk (fgk (fg0))))))) h
        · refine x_aload_n 0 dX16_plain_33 rfl rfl rfl rfl rfl ?_
          refine y_getF 32 1 (c := 15) (z := 19) dX16_plain_34 i65 rfl in_X16 q1100 rfl rfl rfl fn_65_1 (Nat.le_trans (Nat.le_of_ble_eq_true rfl) hn) rfl ?_
          refine x_aload_n 0 dX16_plain_37 rfl rfl rfl rfl rfl ?_
          refine x_iconst 0 (z := 0) dX16_plain_38 rfl (by decide) rfl ?_
          refine y_Vi 209 (M := mX16_at) (As := [(0, 0)]) (st := [(2, 19)]) dX16_plain_39 i65 rfl q2171 q2173 qs54 q383 q2174 rfl hmX16_at rfl rfl rfl rfl rfl rfl rfl rfl (k_mono h (fun r23 w24 h => ?_))
          refine x_iconst 1 (z := 1) dX16_plain_42 rfl (by decide) rfl ?_
          refine y_Vi 120 (M := mX7_is) (As := [(0, r23), (0, 1)]) (st := []) dX16_plain_43 i19 rfl q1866 q744 q745 q374 q746 rfl hmX7_is rfl rfl rfl rfl rfl rfl rfl rfl (k_mono h (fun r25 w26 h => ?_))
          refine x_if_eq (t := 53) 7 dX16_plain_46 rfl rfl (b_ite h (fun hc h => ?_) (fun hc h => ?_))
          · refine x_iconst 0 (z := 0) dX16_plain_53 rfl (by decide) rfl ?_
            exact x_fg (fgk (fgk (fgd (fgk (fgk (fgk (fg0))))))) h
          · refine x_iconst 1 (z := 1) dX16_plain_49 rfl (by decide) rfl ?_
            refine x_goto 4 (q := 54) dX16_plain_50 rfl ?_
            exact x_fg (fgk (fgk (fgd (fgk (fgk (fgk (fg0))))))) h
  · refine x_iconst 0 (z := 0) dX16_plain_4 rfl (by decide) rfl ?_
    exact y_iret dX16_plain_5 rfl h
theorem sX16_plain_54 {d n : Nat} {w : bW} {Q : Int → bW → Prop} {X : String → bW → Prop} (hn : 143 ≤ n) (a1 : Int) (s0 : Int) (h : if s0 = 0 then (if s0 = 0 then (b_K d mX16_done [(2, 65), (0, 0), (0, a1), (0, 0), (0, 0), (0, 0)] n w (fun r1 w2 => Q r1 w2) X) else (b_K d mX16_become [(2, 65), (0, 2), (0, 2)] n w (fun r3 w4 => if r3 = 0 then (b_K d mX16_done [(2, 65), (0, 0), (0, a1), (0, 0), (0, 0), (0, 0)] n w4 (fun r5 w6 => Q r5 w6) X) else (b_K d mX16_done [(2, 65), (0, 1), (0, a1), (0, 0), (0, 0), (0, 0)] n w4 (fun r7 w8 => Q r7 w8) X)) X)) else (b_K d mX16_at [(2, 65), (0, 0)] n w (fun r9 w10 => if s0 = 0 then (b_K d mX16_done [(2, 65), (0, 0), (0, a1), (0, r9), (0, 0), (0, 0)] n w10 (fun r11 w12 => Q r11 w12) X) else (b_K d mX16_become [(2, 65), (0, 2), (0, 2)] n w10 (fun r13 w14 => if r13 = 0 then (b_K d mX16_done [(2, 65), (0, 0), (0, a1), (0, r9), (0, 0), (0, 0)] n w14 (fun r15 w16 => Q r15 w16) X) else (b_K d mX16_done [(2, 65), (0, 1), (0, a1), (0, r9), (0, 0), (0, 0)] n w14 (fun r17 w18 => Q r17 w18) X)) X)) X)) : LX16_plain_54 d n Q X a1 s0 w := by
  have i65 := iz65 (Nat.le_trans (Nat.le_of_ble_eq_true rfl) hn)
  refine x_istore_n 3 (ls' := [(2, 65), (0, a1), (9, 0), (0, s0), (9, 0), (9, 0)]) dX16_plain_54 rfl rfl rfl rfl ?_
  refine x_iload_n 3 dX16_plain_55 rfl rfl rfl ?_
  refine x_if_eq (t := 67) 11 dX16_plain_56 rfl rfl (b_ite h (fun hc h => ?_) (fun hc h => ?_))
  · refine x_iconst 0 (z := 0) dX16_plain_67 rfl (by decide) rfl ?_
    refine x_istore 4 (ls' := [(2, 65), (0, a1), (9, 0), (0, s0), (0, 0), (9, 0)]) dX16_plain_68 rfl rfl rfl ?_
    refine x_aload_n 0 dX16_plain_70 rfl rfl rfl rfl rfl ?_
    refine x_iload_n 3 dX16_plain_71 rfl rfl rfl ?_
    refine x_if_eq (t := 88) 16 dX16_plain_72 rfl rfl (b_ite h (fun hc h => ?_) (fun hc h => ?_))
    · refine x_iconst 0 (z := 0) dX16_plain_88 rfl (by decide) rfl ?_
      refine x_iload_n 1 dX16_plain_89 rfl rfl rfl ?_
      refine x_iload 4 dX16_plain_90 rfl rfl ?_
      refine x_iconst 0 (z := 0) dX16_plain_92 rfl (by decide) rfl ?_
      refine x_iconst 0 (z := 0) dX16_plain_93 rfl (by decide) rfl ?_
      refine y_Vi 274 (M := mX16_done) (As := [(0, 0), (0, a1), (0, 0), (0, 0), (0, 0)]) (st := []) dX16_plain_94 i65 rfl q2147 q2149 qs50 q383 q2150 rfl hmX16_done rfl rfl rfl rfl rfl rfl rfl rfl (k_mono h (fun r1 w2 h => ?_))
      exact y_iret dX16_plain_97 rfl h
    · refine x_aload_n 0 dX16_plain_75 rfl rfl rfl rfl rfl ?_
      refine x_iconst 2 (z := 2) dX16_plain_76 rfl (by decide) rfl ?_
      refine x_iconst 2 (z := 2) dX16_plain_77 rfl (by decide) rfl ?_
      refine y_Vi 278 (M := mX16_become) (As := [(0, 2), (0, 2)]) (st := [(2, 65)]) dX16_plain_78 i65 rfl q2143 q2145 qs49 q383 q2146 rfl hmX16_become rfl rfl rfl rfl rfl rfl rfl rfl (k_mono h (fun r3 w4 h => ?_))
      refine x_if_eq (t := 88) 7 dX16_plain_81 rfl rfl (b_ite h (fun hc h => ?_) (fun hc h => ?_))
      · refine x_iconst 0 (z := 0) dX16_plain_88 rfl (by decide) rfl ?_
        refine x_iload_n 1 dX16_plain_89 rfl rfl rfl ?_
        refine x_iload 4 dX16_plain_90 rfl rfl ?_
        refine x_iconst 0 (z := 0) dX16_plain_92 rfl (by decide) rfl ?_
        refine x_iconst 0 (z := 0) dX16_plain_93 rfl (by decide) rfl ?_
        refine y_Vi 274 (M := mX16_done) (As := [(0, 0), (0, a1), (0, 0), (0, 0), (0, 0)]) (st := []) dX16_plain_94 i65 rfl q2147 q2149 qs50 q383 q2150 rfl hmX16_done rfl rfl rfl rfl rfl rfl rfl rfl (k_mono h (fun r5 w6 h => ?_))
        exact y_iret dX16_plain_97 rfl h
      · refine x_iconst 1 (z := 1) dX16_plain_84 rfl (by decide) rfl ?_
        refine x_goto 4 (q := 89) dX16_plain_85 rfl ?_
        refine x_iload_n 1 dX16_plain_89 rfl rfl rfl ?_
        refine x_iload 4 dX16_plain_90 rfl rfl ?_
        refine x_iconst 0 (z := 0) dX16_plain_92 rfl (by decide) rfl ?_
        refine x_iconst 0 (z := 0) dX16_plain_93 rfl (by decide) rfl ?_
        refine y_Vi 274 (M := mX16_done) (As := [(0, 1), (0, a1), (0, 0), (0, 0), (0, 0)]) (st := []) dX16_plain_94 i65 rfl q2147 q2149 qs50 q383 q2150 rfl hmX16_done rfl rfl rfl rfl rfl rfl rfl rfl (k_mono h (fun r7 w8 h => ?_))
        exact y_iret dX16_plain_97 rfl h
  · refine x_aload_n 0 dX16_plain_59 rfl rfl rfl rfl rfl ?_
    refine x_iconst 0 (z := 0) dX16_plain_60 rfl (by decide) rfl ?_
    refine y_Vi 209 (M := mX16_at) (As := [(0, 0)]) (st := []) dX16_plain_61 i65 rfl q2171 q2173 qs54 q383 q2174 rfl hmX16_at rfl rfl rfl rfl rfl rfl rfl rfl (k_mono h (fun r9 w10 h => ?_))
    refine x_goto 4 (q := 68) dX16_plain_64 rfl ?_
    refine x_istore 4 (ls' := [(2, 65), (0, a1), (9, 0), (0, s0), (0, r9), (9, 0)]) dX16_plain_68 rfl rfl rfl ?_
    refine x_aload_n 0 dX16_plain_70 rfl rfl rfl rfl rfl ?_
    refine x_iload_n 3 dX16_plain_71 rfl rfl rfl ?_
    refine x_if_eq (t := 88) 16 dX16_plain_72 rfl rfl (b_ite h (fun hc h => ?_) (fun hc h => ?_))
    · refine x_iconst 0 (z := 0) dX16_plain_88 rfl (by decide) rfl ?_
      refine x_iload_n 1 dX16_plain_89 rfl rfl rfl ?_
      refine x_iload 4 dX16_plain_90 rfl rfl ?_
      refine x_iconst 0 (z := 0) dX16_plain_92 rfl (by decide) rfl ?_
      refine x_iconst 0 (z := 0) dX16_plain_93 rfl (by decide) rfl ?_
      refine y_Vi 274 (M := mX16_done) (As := [(0, 0), (0, a1), (0, r9), (0, 0), (0, 0)]) (st := []) dX16_plain_94 i65 rfl q2147 q2149 qs50 q383 q2150 rfl hmX16_done rfl rfl rfl rfl rfl rfl rfl rfl (k_mono h (fun r11 w12 h => ?_))
      exact y_iret dX16_plain_97 rfl h
    · refine x_aload_n 0 dX16_plain_75 rfl rfl rfl rfl rfl ?_
      refine x_iconst 2 (z := 2) dX16_plain_76 rfl (by decide) rfl ?_
      refine x_iconst 2 (z := 2) dX16_plain_77 rfl (by decide) rfl ?_
      refine y_Vi 278 (M := mX16_become) (As := [(0, 2), (0, 2)]) (st := [(2, 65)]) dX16_plain_78 i65 rfl q2143 q2145 qs49 q383 q2146 rfl hmX16_become rfl rfl rfl rfl rfl rfl rfl rfl (k_mono h (fun r13 w14 h => ?_))
      refine x_if_eq (t := 88) 7 dX16_plain_81 rfl rfl (b_ite h (fun hc h => ?_) (fun hc h => ?_))
      · refine x_iconst 0 (z := 0) dX16_plain_88 rfl (by decide) rfl ?_
        refine x_iload_n 1 dX16_plain_89 rfl rfl rfl ?_
        refine x_iload 4 dX16_plain_90 rfl rfl ?_
        refine x_iconst 0 (z := 0) dX16_plain_92 rfl (by decide) rfl ?_
        refine x_iconst 0 (z := 0) dX16_plain_93 rfl (by decide) rfl ?_
        refine y_Vi 274 (M := mX16_done) (As := [(0, 0), (0, a1), (0, r9), (0, 0), (0, 0)]) (st := []) dX16_plain_94 i65 rfl q2147 q2149 qs50 q383 q2150 rfl hmX16_done rfl rfl rfl rfl rfl rfl rfl rfl (k_mono h (fun r15 w16 h => ?_))
        exact y_iret dX16_plain_97 rfl h
      · refine x_iconst 1 (z := 1) dX16_plain_84 rfl (by decide) rfl ?_
        refine x_goto 4 (q := 89) dX16_plain_85 rfl ?_
        refine x_iload_n 1 dX16_plain_89 rfl rfl rfl ?_
        refine x_iload 4 dX16_plain_90 rfl rfl ?_
        refine x_iconst 0 (z := 0) dX16_plain_92 rfl (by decide) rfl ?_
        refine x_iconst 0 (z := 0) dX16_plain_93 rfl (by decide) rfl ?_
        refine y_Vi 274 (M := mX16_done) (As := [(0, 1), (0, a1), (0, r9), (0, 0), (0, 0)]) (st := []) dX16_plain_94 i65 rfl q2147 q2149 qs50 q383 q2150 rfl hmX16_done rfl rfl rfl rfl rfl rfl rfl rfl (k_mono h (fun r17 w18 h => ?_))
        exact y_iret dX16_plain_97 rfl h
theorem rX16_isOne {d n : Nat} {w : bW} {Q : Int → bW → Prop} {X : String → bW → Prop} (a0 : Int) (h : if a0 < 69 then (if a0 = 76 then (Q 1 w) else (if a0 < 80 then (Q 0 w) else (if 85 < a0 then (Q 0 w) else (Q 1 w)))) else (if a0 ≤ 72 then (Q 1 w) else (if a0 = 76 then (Q 1 w) else (if a0 < 80 then (Q 0 w) else (if 85 < a0 then (Q 0 w) else (Q 1 w)))))) : b_K (d + 1) mX16_isOne [(0, a0)] n w Q X := by
  refine k_of (by decide) rfl rfl rfl (ls := [(0, a0)]) rfl ?_
  refine x_iload_n 0 dX16_isOne_0 rfl rfl rfl ?_
  refine x_bipush 69 (z := 69) dX16_isOne_1 rfl (by decide) rfl ?_
  refine x_icmp_lt (t := 12) 9 dX16_isOne_3 rfl rfl (b_ite h (fun hc h => ?_) (fun hc h => ?_))
  · refine x_iload_n 0 dX16_isOne_12 rfl rfl rfl ?_
    refine x_bipush 76 (z := 76) dX16_isOne_13 rfl (by decide) rfl ?_
    refine x_icmp_eq (t := 30) 15 dX16_isOne_15 rfl rfl (b_ite h (fun hc h => ?_) (fun hc h => ?_))
    · refine x_iconst 1 (z := 1) dX16_isOne_30 rfl (by decide) rfl ?_
      refine x_goto 4 (q := 35) dX16_isOne_31 rfl ?_
      exact y_zret dX16_isOne_35 rfl (by decide) h
    · refine x_iload_n 0 dX16_isOne_18 rfl rfl rfl ?_
      refine x_bipush 80 (z := 80) dX16_isOne_19 rfl (by decide) rfl ?_
      refine x_icmp_lt (t := 34) 13 dX16_isOne_21 rfl rfl (b_ite h (fun hc h => ?_) (fun hc h => ?_))
      · refine x_iconst 0 (z := 0) dX16_isOne_34 rfl (by decide) rfl ?_
        exact y_zret dX16_isOne_35 rfl (by decide) h
      · refine x_iload_n 0 dX16_isOne_24 rfl rfl rfl ?_
        refine x_bipush 85 (z := 85) dX16_isOne_25 rfl (by decide) rfl ?_
        refine x_icmp_gt (t := 34) 7 dX16_isOne_27 rfl rfl (b_ite h (fun hc h => ?_) (fun hc h => ?_))
        · refine x_iconst 0 (z := 0) dX16_isOne_34 rfl (by decide) rfl ?_
          exact y_zret dX16_isOne_35 rfl (by decide) h
        · refine x_iconst 1 (z := 1) dX16_isOne_30 rfl (by decide) rfl ?_
          refine x_goto 4 (q := 35) dX16_isOne_31 rfl ?_
          exact y_zret dX16_isOne_35 rfl (by decide) h
  · refine x_iload_n 0 dX16_isOne_6 rfl rfl rfl ?_
    refine x_bipush 72 (z := 72) dX16_isOne_7 rfl (by decide) rfl ?_
    refine x_icmp_le (t := 30) 21 dX16_isOne_9 rfl rfl (b_ite h (fun hc h => ?_) (fun hc h => ?_))
    · refine x_iconst 1 (z := 1) dX16_isOne_30 rfl (by decide) rfl ?_
      refine x_goto 4 (q := 35) dX16_isOne_31 rfl ?_
      exact y_zret dX16_isOne_35 rfl (by decide) h
    · refine x_iload_n 0 dX16_isOne_12 rfl rfl rfl ?_
      refine x_bipush 76 (z := 76) dX16_isOne_13 rfl (by decide) rfl ?_
      refine x_icmp_eq (t := 30) 15 dX16_isOne_15 rfl rfl (b_ite h (fun hc h => ?_) (fun hc h => ?_))
      · refine x_iconst 1 (z := 1) dX16_isOne_30 rfl (by decide) rfl ?_
        refine x_goto 4 (q := 35) dX16_isOne_31 rfl ?_
        exact y_zret dX16_isOne_35 rfl (by decide) h
      · refine x_iload_n 0 dX16_isOne_18 rfl rfl rfl ?_
        refine x_bipush 80 (z := 80) dX16_isOne_19 rfl (by decide) rfl ?_
        refine x_icmp_lt (t := 34) 13 dX16_isOne_21 rfl rfl (b_ite h (fun hc h => ?_) (fun hc h => ?_))
        · refine x_iconst 0 (z := 0) dX16_isOne_34 rfl (by decide) rfl ?_
          exact y_zret dX16_isOne_35 rfl (by decide) h
        · refine x_iload_n 0 dX16_isOne_24 rfl rfl rfl ?_
          refine x_bipush 85 (z := 85) dX16_isOne_25 rfl (by decide) rfl ?_
          refine x_icmp_gt (t := 34) 7 dX16_isOne_27 rfl rfl (b_ite h (fun hc h => ?_) (fun hc h => ?_))
          · refine x_iconst 0 (z := 0) dX16_isOne_34 rfl (by decide) rfl ?_
            exact y_zret dX16_isOne_35 rfl (by decide) h
          · refine x_iconst 1 (z := 1) dX16_isOne_30 rfl (by decide) rfl ?_
            refine x_goto 4 (q := 35) dX16_isOne_31 rfl ?_
            exact y_zret dX16_isOne_35 rfl (by decide) h
theorem rX16_one {d n : Nat} {w : bW} {Q : Int → bW → Prop} {X : String → bW → Prop} (hn : 143 ≤ n) (a1 : Int) (a2 : Int) (h : if a1 = 69 then (b_K d mX16_isWhole [(0, a2)] n w (fun r1 w2 => if r1 = 0 then (Q (-1) w2) else (Q 2 w2)) X) else (if a1 = 70 then (if a2 ≠ 2 then (Q (-1) w) else (Q 3 w)) else (if a1 = 71 then (if a2 ≠ 3 then (Q (-1) w) else (Q 2 w)) else (if a1 = 72 then (if a2 ≠ 2 then (Q (-1) w) else (b_K d mX7_option [(2, 19), (0, 3)] n w (fun r3 w4 => Q r3 w4) X)) else (if a1 = 76 then (if a2 ≠ 1 then (b_K d mX16_isWhole [(0, a2)] n w (fun r5 w6 => if r5 = 0 then (Q (-1) w6) else (Q 2 w6)) X) else (Q 1 w)) else ((if a2 ≠ 2 then (Q (-1) w) else (Q 1 w)))))))) : b_K (d + 1) mX16_one [(2, 65), (0, a1), (0, a2)] n w Q X := by
  have i19 := iz19 (Nat.le_trans (Nat.le_of_ble_eq_true rfl) hn)
  have i65 := iz65 (Nat.le_trans (Nat.le_of_ble_eq_true rfl) hn)
  refine k_of (by decide) rfl rfl rfl (ls := [(2, 65), (0, a1), (0, a2)]) rfl ?_
  refine x_iload_n 1 dX16_one_0 rfl rfl rfl ?_
  refine b_itc h (fun hc h => ?_) (fun hn0 h => ?_)
  · have key : b_Y (d + 1) mX16_one n Q X 48 [(2, 65), (0, a1), (0, a2)] [] w := by
      refine x_iload_n 2 dX16_one_48 rfl rfl rfl ?_
      refine y_Si 345 (M := mX16_isWhole) (As := [(0, a2)]) (st := []) dX16_one_49 q2254 q2255 q383 q2256 hmX16_isWhole rfl rfl rfl rfl rfl rfl rfl rfl (k_mono h (fun r1 w2 h => ?_))
      refine x_if_eq (t := 59) 7 dX16_one_52 rfl rfl (b_ite h (fun hc h => ?_) (fun hc h => ?_))
      · refine x_iconst (-1) (z := (-1)) dX16_one_59 rfl (by decide) rfl ?_
        exact y_iret dX16_one_60 rfl h
      · refine x_iconst 2 (z := 2) dX16_one_55 rfl (by decide) rfl ?_
        refine x_goto 4 (q := 60) dX16_one_56 rfl ?_
        exact y_iret dX16_one_60 rfl h
    have e := hc
    exact x_tsI (off := 47) (t := 48) dX16_one_1 (by rw [e]; decide) (by rw [e]; decide) (by rw [e]; rfl) rfl key
  · refine b_itc h (fun hc h => ?_) (fun hn1 h => ?_)
    · have key : b_Y (d + 1) mX16_one n Q X 61 [(2, 65), (0, a1), (0, a2)] [] w := by
        refine x_iload_n 2 dX16_one_61 rfl rfl rfl ?_
        refine x_iconst 2 (z := 2) dX16_one_62 rfl (by decide) rfl ?_
        refine x_icmp_ne (t := 70) 7 dX16_one_63 rfl rfl (b_ite h (fun hc h => ?_) (fun hc h => ?_))
        · refine x_iconst (-1) (z := (-1)) dX16_one_70 rfl (by decide) rfl ?_
          exact y_iret dX16_one_71 rfl h
        · refine x_iconst 3 (z := 3) dX16_one_66 rfl (by decide) rfl ?_
          refine x_goto 4 (q := 71) dX16_one_67 rfl ?_
          exact y_iret dX16_one_71 rfl h
      have e := hc
      exact x_tsI (off := 60) (t := 61) dX16_one_1 (by rw [e]; decide) (by rw [e]; decide) (by rw [e]; rfl) rfl key
    · refine b_itc h (fun hc h => ?_) (fun hn2 h => ?_)
      · have key : b_Y (d + 1) mX16_one n Q X 72 [(2, 65), (0, a1), (0, a2)] [] w := by
          refine x_iload_n 2 dX16_one_72 rfl rfl rfl ?_
          refine x_iconst 3 (z := 3) dX16_one_73 rfl (by decide) rfl ?_
          refine x_icmp_ne (t := 81) 7 dX16_one_74 rfl rfl (b_ite h (fun hc h => ?_) (fun hc h => ?_))
          · refine x_iconst (-1) (z := (-1)) dX16_one_81 rfl (by decide) rfl ?_
            exact y_iret dX16_one_82 rfl h
          · refine x_iconst 2 (z := 2) dX16_one_77 rfl (by decide) rfl ?_
            refine x_goto 4 (q := 82) dX16_one_78 rfl ?_
            exact y_iret dX16_one_82 rfl h
        have e := hc
        exact x_tsI (off := 71) (t := 72) dX16_one_1 (by rw [e]; decide) (by rw [e]; decide) (by rw [e]; rfl) rfl key
      · refine b_itc h (fun hc h => ?_) (fun hn3 h => ?_)
        · have key : b_Y (d + 1) mX16_one n Q X 83 [(2, 65), (0, a1), (0, a2)] [] w := by
            refine x_iload_n 2 dX16_one_83 rfl rfl rfl ?_
            refine x_iconst 2 (z := 2) dX16_one_84 rfl (by decide) rfl ?_
            refine x_icmp_ne (t := 99) 14 dX16_one_85 rfl rfl (b_ite h (fun hc h => ?_) (fun hc h => ?_))
            · refine x_iconst (-1) (z := (-1)) dX16_one_99 rfl (by decide) rfl ?_
              exact y_iret dX16_one_100 rfl h
            · refine x_aload_n 0 dX16_one_88 rfl rfl rfl rfl rfl ?_
              refine y_getF 32 1 (c := 15) (z := 19) dX16_one_89 i65 rfl in_X16 q1100 rfl rfl rfl fn_65_1 (Nat.le_trans (Nat.le_of_ble_eq_true rfl) hn) rfl ?_
              refine x_iconst 3 (z := 3) dX16_one_92 rfl (by decide) rfl ?_
              refine y_Vi 313 (M := mX7_option) (As := [(0, 3)]) (st := []) dX16_one_93 i19 rfl q2199 q2200 q2201 q374 q2202 rfl hmX7_option rfl rfl rfl rfl rfl rfl rfl rfl (k_mono h (fun r3 w4 h => ?_))
              refine x_goto 4 (q := 100) dX16_one_96 rfl ?_
              exact y_iret dX16_one_100 rfl h
          have e := hc
          exact x_tsI (off := 82) (t := 83) dX16_one_1 (by rw [e]; decide) (by rw [e]; decide) (by rw [e]; rfl) rfl key
        · refine b_itc h (fun hc h => ?_) (fun hn4 h => ?_)
          · have key : b_Y (d + 1) mX16_one n Q X 101 [(2, 65), (0, a1), (0, a2)] [] w := by
              refine x_iload_n 2 dX16_one_101 rfl rfl rfl ?_
              refine x_iconst 1 (z := 1) dX16_one_102 rfl (by decide) rfl ?_
              refine x_icmp_ne (t := 110) 7 dX16_one_103 rfl rfl (b_ite h (fun hc h => ?_) (fun hc h => ?_))
              · refine x_iload_n 2 dX16_one_110 rfl rfl rfl ?_
                refine y_Si 345 (M := mX16_isWhole) (As := [(0, a2)]) (st := []) dX16_one_111 q2254 q2255 q383 q2256 hmX16_isWhole rfl rfl rfl rfl rfl rfl rfl rfl (k_mono h (fun r5 w6 h => ?_))
                refine x_if_eq (t := 121) 7 dX16_one_114 rfl rfl (b_ite h (fun hc h => ?_) (fun hc h => ?_))
                · refine x_iconst (-1) (z := (-1)) dX16_one_121 rfl (by decide) rfl ?_
                  exact y_iret dX16_one_122 rfl h
                · refine x_iconst 2 (z := 2) dX16_one_117 rfl (by decide) rfl ?_
                  refine x_goto 4 (q := 122) dX16_one_118 rfl ?_
                  exact y_iret dX16_one_122 rfl h
              · refine x_iconst 1 (z := 1) dX16_one_106 rfl (by decide) rfl ?_
                refine x_goto 15 (q := 122) dX16_one_107 rfl ?_
                exact y_iret dX16_one_122 rfl h
            have e := hc
            exact x_tsI (off := 100) (t := 101) dX16_one_1 (by rw [e]; decide) (by rw [e]; decide) (by rw [e]; rfl) rfl key
          · have key : b_Y (d + 1) mX16_one n Q X 123 [(2, 65), (0, a1), (0, a2)] [] w := by
              refine x_iload_n 2 dX16_one_123 rfl rfl rfl ?_
              refine x_iconst 2 (z := 2) dX16_one_124 rfl (by decide) rfl ?_
              refine x_icmp_ne (t := 132) 7 dX16_one_125 rfl rfl (b_ite h (fun hc h => ?_) (fun hc h => ?_))
              · refine x_iconst (-1) (z := (-1)) dX16_one_132 rfl (by decide) rfl ?_
                exact y_iret dX16_one_133 rfl h
              · refine x_iconst 1 (z := 1) dX16_one_128 rfl (by decide) rfl ?_
                refine x_goto 4 (q := 133) dX16_one_129 rfl ?_
                exact y_iret dX16_one_133 rfl h
            by_cases e : a1 = 73
            · exact x_tsI (off := 122) (t := 123) dX16_one_1 (by rw [e]; decide) (by rw [e]; decide) (by rw [e]; rfl) rfl key
            have hx73 := e
            by_cases e : a1 = 74
            · exact x_tsI (off := 122) (t := 123) dX16_one_1 (by rw [e]; decide) (by rw [e]; decide) (by rw [e]; rfl) rfl key
            have hx74 := e
            by_cases e : a1 = 75
            · exact x_tsI (off := 122) (t := 123) dX16_one_1 (by rw [e]; decide) (by rw [e]; decide) (by rw [e]; rfl) rfl key
            have hx75 := e
            exact x_tsO (t := 123) dX16_one_1 (by omega) rfl key
theorem rX16_isWhole {d n : Nat} {w : bW} {Q : Int → bW → Prop} {X : String → bW → Prop} (a0 : Int) (h : if a0 = 2 then (Q 1 w) else (if a0 ≠ 3 then (Q 0 w) else (Q 1 w))) : b_K (d + 1) mX16_isWhole [(0, a0)] n w Q X := by
  refine k_of (by decide) rfl rfl rfl (ls := [(0, a0)]) rfl ?_
  refine x_iload_n 0 dX16_isWhole_0 rfl rfl rfl ?_
  refine x_iconst 2 (z := 2) dX16_isWhole_1 rfl (by decide) rfl ?_
  refine x_icmp_eq (t := 10) 8 dX16_isWhole_2 rfl rfl (b_ite h (fun hc h => ?_) (fun hc h => ?_))
  · refine x_iconst 1 (z := 1) dX16_isWhole_10 rfl (by decide) rfl ?_
    refine x_goto 4 (q := 15) dX16_isWhole_11 rfl ?_
    exact y_zret dX16_isWhole_15 rfl (by decide) h
  · refine x_iload_n 0 dX16_isWhole_5 rfl rfl rfl ?_
    refine x_iconst 3 (z := 3) dX16_isWhole_6 rfl (by decide) rfl ?_
    refine x_icmp_ne (t := 14) 7 dX16_isWhole_7 rfl rfl (b_ite h (fun hc h => ?_) (fun hc h => ?_))
    · refine x_iconst 0 (z := 0) dX16_isWhole_14 rfl (by decide) rfl ?_
      exact y_zret dX16_isWhole_15 rfl (by decide) h
    · refine x_iconst 1 (z := 1) dX16_isWhole_10 rfl (by decide) rfl ?_
      refine x_goto 4 (q := 15) dX16_isWhole_11 rfl ?_
      exact y_zret dX16_isWhole_15 rfl (by decide) h
theorem rX16_become2 {d n : Nat} {w : bW} {Q : Int → bW → Prop} {X : String → bW → Prop} (hn : 66 ≤ n) (a1 : Int) (a2 : Int) (h : if a2 < 0 then (Q 0 w) else (b_K d mX16_become [(2, 65), (0, a1), (0, a2)] n w (fun r1 w2 => if r1 = 0 then (Q 0 w2) else (Q 1 w2)) X)) : b_K (d + 1) mX16_become2 [(2, 65), (0, a1), (0, a2)] n w Q X := by
  have i65 := iz65 (Nat.le_trans (Nat.le_of_ble_eq_true rfl) hn)
  refine k_of (by decide) rfl rfl rfl (ls := [(2, 65), (0, a1), (0, a2)]) rfl ?_
  refine x_iload_n 2 dX16_become2_0 rfl rfl rfl ?_
  refine x_if_lt (t := 17) 16 dX16_become2_1 rfl rfl (b_ite h (fun hc h => ?_) (fun hc h => ?_))
  · refine x_iconst 0 (z := 0) dX16_become2_17 rfl (by decide) rfl ?_
    exact y_zret dX16_become2_18 rfl (by decide) h
  · refine x_aload_n 0 dX16_become2_4 rfl rfl rfl rfl rfl ?_
    refine x_iload_n 1 dX16_become2_5 rfl rfl rfl ?_
    refine x_iload_n 2 dX16_become2_6 rfl rfl rfl ?_
    refine y_Vi 278 (M := mX16_become) (As := [(0, a1), (0, a2)]) (st := []) dX16_become2_7 i65 rfl q2143 q2145 qs49 q383 q2146 rfl hmX16_become rfl rfl rfl rfl rfl rfl rfl rfl (k_mono h (fun r1 w2 h => ?_))
    refine x_if_eq (t := 17) 7 dX16_become2_10 rfl rfl (b_ite h (fun hc h => ?_) (fun hc h => ?_))
    · refine x_iconst 0 (z := 0) dX16_become2_17 rfl (by decide) rfl ?_
      exact y_zret dX16_become2_18 rfl (by decide) h
    · refine x_iconst 1 (z := 1) dX16_become2_13 rfl (by decide) rfl ?_
      refine x_goto 4 (q := 18) dX16_become2_14 rfl ?_
      exact y_zret dX16_become2_18 rfl (by decide) h
theorem rX16_two {d n : Nat} {w : bW} {Q : Int → bW → Prop} {X : String → bW → Prop} (hn : 143 ≤ n) (a1 : Int) (a2 : Int) (a3 : Int) (h : if a1 = 64 then (b_K d mX16_sum [(0, a2), (0, a3), (0, 0)] n w (fun r1 w2 => Q r1 w2) X) else (if a1 = 65 then (b_K d mX16_difference [(0, a2), (0, a3)] n w (fun r3 w4 => Q r3 w4) X) else (if a1 = 66 then (if a2 ≠ 4 then (Q (-1) w) else (if a3 ≠ 4 then (Q (-1) w) else (b_K d mX7_option [(2, 19), (0, 4)] n w (fun r5 w6 => Q r5 w6) X))) else (if a1 = 67 then (b_K d mX16_sum [(0, a2), (0, a3), (0, 1)] n w (fun r7 w8 => Q r7 w8) X) else (if a1 = 68 then (b_K d mX16_quotient [(2, 65), (0, a2), (0, a3)] n w (fun r9 w10 => Q r9 w10) X) else (if a1 = 73 ∨ a1 = 74 ∨ a1 = 75 then (b_K d mX16_bits [(0, a1), (0, a2), (0, a3)] n w (fun r11 w12 => Q r11 w12) X) else ((if a2 ≠ 3 then (Q (-1) w) else (if a3 ≠ 3 then (Q (-1) w) else (Q 3 w)))))))))) : b_K (d + 1) mX16_two [(2, 65), (0, a1), (0, a2), (0, a3)] n w Q X := by
  have i19 := iz19 (Nat.le_trans (Nat.le_of_ble_eq_true rfl) hn)
  have i65 := iz65 (Nat.le_trans (Nat.le_of_ble_eq_true rfl) hn)
  refine k_of (by decide) rfl rfl rfl (ls := [(2, 65), (0, a1), (0, a2), (0, a3)]) rfl ?_
  refine x_iload_n 1 dX16_two_0 rfl rfl rfl ?_
  refine b_itc h (fun hc h => ?_) (fun hn0 h => ?_)
  · have key : b_Y (d + 1) mX16_two n Q X 64 [(2, 65), (0, a1), (0, a2), (0, a3)] [] w := by
      refine x_iload_n 2 dX16_two_64 rfl rfl rfl ?_
      refine x_iload_n 3 dX16_two_65 rfl rfl rfl ?_
      refine x_iconst 0 (z := 0) dX16_two_66 rfl (by decide) rfl ?_
      refine y_Si 348 (M := mX16_sum) (As := [(0, a2), (0, a3), (0, 0)]) (st := []) dX16_two_67 q2265 q2266 q383 q2267 hmX16_sum rfl rfl rfl rfl rfl rfl rfl rfl (k_mono h (fun r1 w2 h => ?_))
      exact y_iret dX16_two_70 rfl h
    have e := hc
    exact x_tsI (off := 63) (t := 64) dX16_two_1 (by rw [e]; decide) (by rw [e]; decide) (by rw [e]; rfl) rfl key
  · refine b_itc h (fun hc h => ?_) (fun hn1 h => ?_)
    · have key : b_Y (d + 1) mX16_two n Q X 71 [(2, 65), (0, a1), (0, a2), (0, a3)] [] w := by
        refine x_iload_n 2 dX16_two_71 rfl rfl rfl ?_
        refine x_iload_n 3 dX16_two_72 rfl rfl rfl ?_
        refine y_Si 352 (M := mX16_difference) (As := [(0, a2), (0, a3)]) (st := []) dX16_two_73 q2268 q2269 q383 q2270 hmX16_difference rfl rfl rfl rfl rfl rfl rfl rfl (k_mono h (fun r3 w4 h => ?_))
        exact y_iret dX16_two_76 rfl h
      have e := hc
      exact x_tsI (off := 70) (t := 71) dX16_two_1 (by rw [e]; decide) (by rw [e]; decide) (by rw [e]; rfl) rfl key
    · refine b_itc h (fun hc h => ?_) (fun hn2 h => ?_)
      · have key : b_Y (d + 1) mX16_two n Q X 77 [(2, 65), (0, a1), (0, a2), (0, a3)] [] w := by
          refine x_iload_n 2 dX16_two_77 rfl rfl rfl ?_
          refine x_iconst 4 (z := 4) dX16_two_78 rfl (by decide) rfl ?_
          refine x_icmp_ne (t := 98) 19 dX16_two_79 rfl rfl (b_ite h (fun hc h => ?_) (fun hc h => ?_))
          · refine x_iconst (-1) (z := (-1)) dX16_two_98 rfl (by decide) rfl ?_
            exact y_iret dX16_two_99 rfl h
          · refine x_iload_n 3 dX16_two_82 rfl rfl rfl ?_
            refine x_iconst 4 (z := 4) dX16_two_83 rfl (by decide) rfl ?_
            refine x_icmp_ne (t := 98) 14 dX16_two_84 rfl rfl (b_ite h (fun hc h => ?_) (fun hc h => ?_))
            · refine x_iconst (-1) (z := (-1)) dX16_two_98 rfl (by decide) rfl ?_
              exact y_iret dX16_two_99 rfl h
            · refine x_aload_n 0 dX16_two_87 rfl rfl rfl rfl rfl ?_
              refine y_getF 32 1 (c := 15) (z := 19) dX16_two_88 i65 rfl in_X16 q1100 rfl rfl rfl fn_65_1 (Nat.le_trans (Nat.le_of_ble_eq_true rfl) hn) rfl ?_
              refine x_iconst 4 (z := 4) dX16_two_91 rfl (by decide) rfl ?_
              refine y_Vi 313 (M := mX7_option) (As := [(0, 4)]) (st := []) dX16_two_92 i19 rfl q2199 q2200 q2201 q374 q2202 rfl hmX7_option rfl rfl rfl rfl rfl rfl rfl rfl (k_mono h (fun r5 w6 h => ?_))
              refine x_goto 4 (q := 99) dX16_two_95 rfl ?_
              exact y_iret dX16_two_99 rfl h
        have e := hc
        exact x_tsI (off := 76) (t := 77) dX16_two_1 (by rw [e]; decide) (by rw [e]; decide) (by rw [e]; rfl) rfl key
      · refine b_itc h (fun hc h => ?_) (fun hn3 h => ?_)
        · have key : b_Y (d + 1) mX16_two n Q X 100 [(2, 65), (0, a1), (0, a2), (0, a3)] [] w := by
            refine x_iload_n 2 dX16_two_100 rfl rfl rfl ?_
            refine x_iload_n 3 dX16_two_101 rfl rfl rfl ?_
            refine x_iconst 1 (z := 1) dX16_two_102 rfl (by decide) rfl ?_
            refine y_Si 348 (M := mX16_sum) (As := [(0, a2), (0, a3), (0, 1)]) (st := []) dX16_two_103 q2265 q2266 q383 q2267 hmX16_sum rfl rfl rfl rfl rfl rfl rfl rfl (k_mono h (fun r7 w8 h => ?_))
            exact y_iret dX16_two_106 rfl h
          have e := hc
          exact x_tsI (off := 99) (t := 100) dX16_two_1 (by rw [e]; decide) (by rw [e]; decide) (by rw [e]; rfl) rfl key
        · refine b_itc h (fun hc h => ?_) (fun hn4 h => ?_)
          · have key : b_Y (d + 1) mX16_two n Q X 107 [(2, 65), (0, a1), (0, a2), (0, a3)] [] w := by
              refine x_aload_n 0 dX16_two_107 rfl rfl rfl rfl rfl ?_
              refine x_iload_n 2 dX16_two_108 rfl rfl rfl ?_
              refine x_iload_n 3 dX16_two_109 rfl rfl rfl ?_
              refine y_Vi 355 (M := mX16_quotient) (As := [(0, a2), (0, a3)]) (st := []) dX16_two_110 i65 rfl q2271 q2273 qs75 q383 q2274 rfl hmX16_quotient rfl rfl rfl rfl rfl rfl rfl rfl (k_mono h (fun r9 w10 h => ?_))
              exact y_iret dX16_two_113 rfl h
            have e := hc
            exact x_tsI (off := 106) (t := 107) dX16_two_1 (by rw [e]; decide) (by rw [e]; decide) (by rw [e]; rfl) rfl key
          · refine b_itc h (fun hc h => ?_) (fun hn5 h => ?_)
            · have key : b_Y (d + 1) mX16_two n Q X 114 [(2, 65), (0, a1), (0, a2), (0, a3)] [] w := by
                refine x_iload_n 1 dX16_two_114 rfl rfl rfl ?_
                refine x_iload_n 2 dX16_two_115 rfl rfl rfl ?_
                refine x_iload_n 3 dX16_two_116 rfl rfl rfl ?_
                refine y_Si 358 (M := mX16_bits) (As := [(0, a1), (0, a2), (0, a3)]) (st := []) dX16_two_117 q2275 q2276 q383 q2277 hmX16_bits rfl rfl rfl rfl rfl rfl rfl rfl (k_mono h (fun r11 w12 h => ?_))
                exact y_iret dX16_two_120 rfl h
              rcases hc with e | e | e
              · exact x_tsI (off := 113) (t := 114) dX16_two_1 (by rw [e]; decide) (by rw [e]; decide) (by rw [e]; rfl) rfl key
              · exact x_tsI (off := 113) (t := 114) dX16_two_1 (by rw [e]; decide) (by rw [e]; decide) (by rw [e]; rfl) rfl key
              · exact x_tsI (off := 113) (t := 114) dX16_two_1 (by rw [e]; decide) (by rw [e]; decide) (by rw [e]; rfl) rfl key
            · have key : b_Y (d + 1) mX16_two n Q X 121 [(2, 65), (0, a1), (0, a2), (0, a3)] [] w := by
                refine x_iload_n 2 dX16_two_121 rfl rfl rfl ?_
                refine x_iconst 3 (z := 3) dX16_two_122 rfl (by decide) rfl ?_
                refine x_icmp_ne (t := 135) 12 dX16_two_123 rfl rfl (b_ite h (fun hc h => ?_) (fun hc h => ?_))
                · refine x_iconst (-1) (z := (-1)) dX16_two_135 rfl (by decide) rfl ?_
                  exact y_iret dX16_two_136 rfl h
                · refine x_iload_n 3 dX16_two_126 rfl rfl rfl ?_
                  refine x_iconst 3 (z := 3) dX16_two_127 rfl (by decide) rfl ?_
                  refine x_icmp_ne (t := 135) 7 dX16_two_128 rfl rfl (b_ite h (fun hc h => ?_) (fun hc h => ?_))
                  · refine x_iconst (-1) (z := (-1)) dX16_two_135 rfl (by decide) rfl ?_
                    exact y_iret dX16_two_136 rfl h
                  · refine x_iconst 3 (z := 3) dX16_two_131 rfl (by decide) rfl ?_
                    refine x_goto 4 (q := 136) dX16_two_132 rfl ?_
                    exact y_iret dX16_two_136 rfl h
              by_cases e : a1 = 69
              · exact x_tsI (off := 120) (t := 121) dX16_two_1 (by rw [e]; decide) (by rw [e]; decide) (by rw [e]; rfl) rfl key
              have hx69 := e
              by_cases e : a1 = 70
              · exact x_tsI (off := 120) (t := 121) dX16_two_1 (by rw [e]; decide) (by rw [e]; decide) (by rw [e]; rfl) rfl key
              have hx70 := e
              by_cases e : a1 = 71
              · exact x_tsI (off := 120) (t := 121) dX16_two_1 (by rw [e]; decide) (by rw [e]; decide) (by rw [e]; rfl) rfl key
              have hx71 := e
              by_cases e : a1 = 72
              · exact x_tsI (off := 120) (t := 121) dX16_two_1 (by rw [e]; decide) (by rw [e]; decide) (by rw [e]; rfl) rfl key
              have hx72 := e
              exact x_tsO (t := 121) dX16_two_1 (by omega) rfl key
abbrev LX16_sum_30 (d n : Nat) (Q : Int → bW → Prop) (X : String → bW → Prop) (a0 : Int) (a1 : Int) (a2 : Int) (w : bW) : Prop := b_Y (d + 1) mX16_sum n Q X 30 [(0, a0), (0, a1), (0, a2)] [] w
theorem rX16_sum {d n : Nat} {w : bW} {Q : Int → bW → Prop} {X : String → bW → Prop} (a0 : Int) (a1 : Int) (a2 : Int) (h : b_K d mX16_isWhole [(0, a0)] n w (fun r1 w2 => if r1 = 0 then (LX16_sum_30 d n Q X a0 a1 a2 w2) else (b_K d mX16_isWhole [(0, a1)] n w2 (fun r3 w4 => if r3 = 0 then (LX16_sum_30 d n Q X a0 a1 a2 w4) else (if a0 ≠ 3 then (Q 2 w4) else (if a1 ≠ 3 then (Q 2 w4) else (Q 3 w4)))) X)) X) : b_K (d + 1) mX16_sum [(0, a0), (0, a1), (0, a2)] n w Q X := by
  refine k_of (by decide) rfl rfl rfl (ls := [(0, a0), (0, a1), (0, a2)]) rfl ?_
  refine x_iload_n 0 dX16_sum_0 rfl rfl rfl ?_
  refine y_Si 345 (M := mX16_isWhole) (As := [(0, a0)]) (st := []) dX16_sum_1 q2254 q2255 q383 q2256 hmX16_isWhole rfl rfl rfl rfl rfl rfl rfl rfl (k_mono h (fun r1 w2 h => ?_))
  refine x_if_eq (t := 30) 26 dX16_sum_4 rfl rfl (b_ite h (fun hc h => ?_) (fun hc h => ?_))
  · exact x_fg (fgk (fgk (fgk (fg0)))) h
  · refine x_iload_n 1 dX16_sum_7 rfl rfl rfl ?_
    refine y_Si 345 (M := mX16_isWhole) (As := [(0, a1)]) (st := []) dX16_sum_8 q2254 q2255 q383 q2256 hmX16_isWhole rfl rfl rfl rfl rfl rfl rfl rfl (k_mono h (fun r3 w4 h => ?_))
    refine x_if_eq (t := 30) 19 dX16_sum_11 rfl rfl (b_ite h (fun hc h => ?_) (fun hc h => ?_))
    · exact x_fg (fgk (fgk (fgk (fg0)))) h
    · refine x_iload_n 0 dX16_sum_14 rfl rfl rfl ?_
      refine x_iconst 3 (z := 3) dX16_sum_15 rfl (by decide) rfl ?_
      refine x_icmp_ne (t := 28) 12 dX16_sum_16 rfl rfl (b_ite h (fun hc h => ?_) (fun hc h => ?_))
      · refine x_iconst 2 (z := 2) dX16_sum_28 rfl (by decide) rfl ?_
        exact y_iret dX16_sum_29 rfl h
      · refine x_iload_n 1 dX16_sum_19 rfl rfl rfl ?_
        refine x_iconst 3 (z := 3) dX16_sum_20 rfl (by decide) rfl ?_
        refine x_icmp_ne (t := 28) 7 dX16_sum_21 rfl rfl (b_ite h (fun hc h => ?_) (fun hc h => ?_))
        · refine x_iconst 2 (z := 2) dX16_sum_28 rfl (by decide) rfl ?_
          exact y_iret dX16_sum_29 rfl h
        · refine x_iconst 3 (z := 3) dX16_sum_24 rfl (by decide) rfl ?_
          refine x_goto 4 (q := 29) dX16_sum_25 rfl ?_
          exact y_iret dX16_sum_29 rfl h
theorem sX16_sum_30 {d n : Nat} {w : bW} {Q : Int → bW → Prop} {X : String → bW → Prop} (a0 : Int) (a1 : Int) (a2 : Int) (h : if a2 = 0 then (if a0 ≠ 4 then (if a0 ≠ 8 then (if a0 ≠ 2 then (Q (-1) w) else (if a1 ≠ 8 then (Q (-1) w) else (Q 8 w))) else (if a1 = 2 then (Q 8 w) else (if a0 ≠ 2 then (Q (-1) w) else (if a1 ≠ 8 then (Q (-1) w) else (Q 8 w))))) else (if a1 ≠ 4 then (if a0 ≠ 8 then (if a0 ≠ 2 then (Q (-1) w) else (if a1 ≠ 8 then (Q (-1) w) else (Q 8 w))) else (if a1 = 2 then (Q 8 w) else (if a0 ≠ 2 then (Q (-1) w) else (if a1 ≠ 8 then (Q (-1) w) else (Q 8 w))))) else (Q 4 w))) else (if a0 ≠ 4 then (if a0 ≠ 3 then (Q (-1) w) else (if a1 ≠ 4 then (Q (-1) w) else (Q 4 w))) else (if a1 = 3 then (Q 4 w) else (if a0 ≠ 3 then (Q (-1) w) else (if a1 ≠ 4 then (Q (-1) w) else (Q 4 w)))))) : LX16_sum_30 d n Q X a0 a1 a2 w := by
  refine x_iload_n 2 dX16_sum_30 rfl rfl rfl ?_
  refine x_if_eq (t := 60) 29 dX16_sum_31 rfl rfl (b_ite h (fun hc h => ?_) (fun hc h => ?_))
  · refine x_iload_n 0 dX16_sum_60 rfl rfl rfl ?_
    refine x_iconst 4 (z := 4) dX16_sum_61 rfl (by decide) rfl ?_
    refine x_icmp_ne (t := 72) 10 dX16_sum_62 rfl rfl (b_ite h (fun hc h => ?_) (fun hc h => ?_))
    · refine x_iload_n 0 dX16_sum_72 rfl rfl rfl ?_
      refine x_bipush 8 (z := 8) dX16_sum_73 rfl (by decide) rfl ?_
      refine x_icmp_ne (t := 83) 8 dX16_sum_75 rfl rfl (b_ite h (fun hc h => ?_) (fun hc h => ?_))
      · refine x_iload_n 0 dX16_sum_83 rfl rfl rfl ?_
        refine x_iconst 2 (z := 2) dX16_sum_84 rfl (by decide) rfl ?_
        refine x_icmp_ne (t := 99) 14 dX16_sum_85 rfl rfl (b_ite h (fun hc h => ?_) (fun hc h => ?_))
        · refine x_iconst (-1) (z := (-1)) dX16_sum_99 rfl (by decide) rfl ?_
          exact y_iret dX16_sum_100 rfl h
        · refine x_iload_n 1 dX16_sum_88 rfl rfl rfl ?_
          refine x_bipush 8 (z := 8) dX16_sum_89 rfl (by decide) rfl ?_
          refine x_icmp_ne (t := 99) 8 dX16_sum_91 rfl rfl (b_ite h (fun hc h => ?_) (fun hc h => ?_))
          · refine x_iconst (-1) (z := (-1)) dX16_sum_99 rfl (by decide) rfl ?_
            exact y_iret dX16_sum_100 rfl h
          · refine x_bipush 8 (z := 8) dX16_sum_94 rfl (by decide) rfl ?_
            refine x_goto 4 (q := 100) dX16_sum_96 rfl ?_
            exact y_iret dX16_sum_100 rfl h
      · refine x_iload_n 1 dX16_sum_78 rfl rfl rfl ?_
        refine x_iconst 2 (z := 2) dX16_sum_79 rfl (by decide) rfl ?_
        refine x_icmp_eq (t := 94) 14 dX16_sum_80 rfl rfl (b_ite h (fun hc h => ?_) (fun hc h => ?_))
        · refine x_bipush 8 (z := 8) dX16_sum_94 rfl (by decide) rfl ?_
          refine x_goto 4 (q := 100) dX16_sum_96 rfl ?_
          exact y_iret dX16_sum_100 rfl h
        · refine x_iload_n 0 dX16_sum_83 rfl rfl rfl ?_
          refine x_iconst 2 (z := 2) dX16_sum_84 rfl (by decide) rfl ?_
          refine x_icmp_ne (t := 99) 14 dX16_sum_85 rfl rfl (b_ite h (fun hc h => ?_) (fun hc h => ?_))
          · refine x_iconst (-1) (z := (-1)) dX16_sum_99 rfl (by decide) rfl ?_
            exact y_iret dX16_sum_100 rfl h
          · refine x_iload_n 1 dX16_sum_88 rfl rfl rfl ?_
            refine x_bipush 8 (z := 8) dX16_sum_89 rfl (by decide) rfl ?_
            refine x_icmp_ne (t := 99) 8 dX16_sum_91 rfl rfl (b_ite h (fun hc h => ?_) (fun hc h => ?_))
            · refine x_iconst (-1) (z := (-1)) dX16_sum_99 rfl (by decide) rfl ?_
              exact y_iret dX16_sum_100 rfl h
            · refine x_bipush 8 (z := 8) dX16_sum_94 rfl (by decide) rfl ?_
              refine x_goto 4 (q := 100) dX16_sum_96 rfl ?_
              exact y_iret dX16_sum_100 rfl h
    · refine x_iload_n 1 dX16_sum_65 rfl rfl rfl ?_
      refine x_iconst 4 (z := 4) dX16_sum_66 rfl (by decide) rfl ?_
      refine x_icmp_ne (t := 72) 5 dX16_sum_67 rfl rfl (b_ite h (fun hc h => ?_) (fun hc h => ?_))
      · refine x_iload_n 0 dX16_sum_72 rfl rfl rfl ?_
        refine x_bipush 8 (z := 8) dX16_sum_73 rfl (by decide) rfl ?_
        refine x_icmp_ne (t := 83) 8 dX16_sum_75 rfl rfl (b_ite h (fun hc h => ?_) (fun hc h => ?_))
        · refine x_iload_n 0 dX16_sum_83 rfl rfl rfl ?_
          refine x_iconst 2 (z := 2) dX16_sum_84 rfl (by decide) rfl ?_
          refine x_icmp_ne (t := 99) 14 dX16_sum_85 rfl rfl (b_ite h (fun hc h => ?_) (fun hc h => ?_))
          · refine x_iconst (-1) (z := (-1)) dX16_sum_99 rfl (by decide) rfl ?_
            exact y_iret dX16_sum_100 rfl h
          · refine x_iload_n 1 dX16_sum_88 rfl rfl rfl ?_
            refine x_bipush 8 (z := 8) dX16_sum_89 rfl (by decide) rfl ?_
            refine x_icmp_ne (t := 99) 8 dX16_sum_91 rfl rfl (b_ite h (fun hc h => ?_) (fun hc h => ?_))
            · refine x_iconst (-1) (z := (-1)) dX16_sum_99 rfl (by decide) rfl ?_
              exact y_iret dX16_sum_100 rfl h
            · refine x_bipush 8 (z := 8) dX16_sum_94 rfl (by decide) rfl ?_
              refine x_goto 4 (q := 100) dX16_sum_96 rfl ?_
              exact y_iret dX16_sum_100 rfl h
        · refine x_iload_n 1 dX16_sum_78 rfl rfl rfl ?_
          refine x_iconst 2 (z := 2) dX16_sum_79 rfl (by decide) rfl ?_
          refine x_icmp_eq (t := 94) 14 dX16_sum_80 rfl rfl (b_ite h (fun hc h => ?_) (fun hc h => ?_))
          · refine x_bipush 8 (z := 8) dX16_sum_94 rfl (by decide) rfl ?_
            refine x_goto 4 (q := 100) dX16_sum_96 rfl ?_
            exact y_iret dX16_sum_100 rfl h
          · refine x_iload_n 0 dX16_sum_83 rfl rfl rfl ?_
            refine x_iconst 2 (z := 2) dX16_sum_84 rfl (by decide) rfl ?_
            refine x_icmp_ne (t := 99) 14 dX16_sum_85 rfl rfl (b_ite h (fun hc h => ?_) (fun hc h => ?_))
            · refine x_iconst (-1) (z := (-1)) dX16_sum_99 rfl (by decide) rfl ?_
              exact y_iret dX16_sum_100 rfl h
            · refine x_iload_n 1 dX16_sum_88 rfl rfl rfl ?_
              refine x_bipush 8 (z := 8) dX16_sum_89 rfl (by decide) rfl ?_
              refine x_icmp_ne (t := 99) 8 dX16_sum_91 rfl rfl (b_ite h (fun hc h => ?_) (fun hc h => ?_))
              · refine x_iconst (-1) (z := (-1)) dX16_sum_99 rfl (by decide) rfl ?_
                exact y_iret dX16_sum_100 rfl h
              · refine x_bipush 8 (z := 8) dX16_sum_94 rfl (by decide) rfl ?_
                refine x_goto 4 (q := 100) dX16_sum_96 rfl ?_
                exact y_iret dX16_sum_100 rfl h
      · refine x_iconst 4 (z := 4) dX16_sum_70 rfl (by decide) rfl ?_
        exact y_iret dX16_sum_71 rfl h
  · refine x_iload_n 0 dX16_sum_34 rfl rfl rfl ?_
    refine x_iconst 4 (z := 4) dX16_sum_35 rfl (by decide) rfl ?_
    refine x_icmp_ne (t := 44) 8 dX16_sum_36 rfl rfl (b_ite h (fun hc h => ?_) (fun hc h => ?_))
    · refine x_iload_n 0 dX16_sum_44 rfl rfl rfl ?_
      refine x_iconst 3 (z := 3) dX16_sum_45 rfl (by decide) rfl ?_
      refine x_icmp_ne (t := 58) 12 dX16_sum_46 rfl rfl (b_ite h (fun hc h => ?_) (fun hc h => ?_))
      · refine x_iconst (-1) (z := (-1)) dX16_sum_58 rfl (by decide) rfl ?_
        exact y_iret dX16_sum_59 rfl h
      · refine x_iload_n 1 dX16_sum_49 rfl rfl rfl ?_
        refine x_iconst 4 (z := 4) dX16_sum_50 rfl (by decide) rfl ?_
        refine x_icmp_ne (t := 58) 7 dX16_sum_51 rfl rfl (b_ite h (fun hc h => ?_) (fun hc h => ?_))
        · refine x_iconst (-1) (z := (-1)) dX16_sum_58 rfl (by decide) rfl ?_
          exact y_iret dX16_sum_59 rfl h
        · refine x_iconst 4 (z := 4) dX16_sum_54 rfl (by decide) rfl ?_
          refine x_goto 4 (q := 59) dX16_sum_55 rfl ?_
          exact y_iret dX16_sum_59 rfl h
    · refine x_iload_n 1 dX16_sum_39 rfl rfl rfl ?_
      refine x_iconst 3 (z := 3) dX16_sum_40 rfl (by decide) rfl ?_
      refine x_icmp_eq (t := 54) 13 dX16_sum_41 rfl rfl (b_ite h (fun hc h => ?_) (fun hc h => ?_))
      · refine x_iconst 4 (z := 4) dX16_sum_54 rfl (by decide) rfl ?_
        refine x_goto 4 (q := 59) dX16_sum_55 rfl ?_
        exact y_iret dX16_sum_59 rfl h
      · refine x_iload_n 0 dX16_sum_44 rfl rfl rfl ?_
        refine x_iconst 3 (z := 3) dX16_sum_45 rfl (by decide) rfl ?_
        refine x_icmp_ne (t := 58) 12 dX16_sum_46 rfl rfl (b_ite h (fun hc h => ?_) (fun hc h => ?_))
        · refine x_iconst (-1) (z := (-1)) dX16_sum_58 rfl (by decide) rfl ?_
          exact y_iret dX16_sum_59 rfl h
        · refine x_iload_n 1 dX16_sum_49 rfl rfl rfl ?_
          refine x_iconst 4 (z := 4) dX16_sum_50 rfl (by decide) rfl ?_
          refine x_icmp_ne (t := 58) 7 dX16_sum_51 rfl rfl (b_ite h (fun hc h => ?_) (fun hc h => ?_))
          · refine x_iconst (-1) (z := (-1)) dX16_sum_58 rfl (by decide) rfl ?_
            exact y_iret dX16_sum_59 rfl h
          · refine x_iconst 4 (z := 4) dX16_sum_54 rfl (by decide) rfl ?_
            refine x_goto 4 (q := 59) dX16_sum_55 rfl ?_
            exact y_iret dX16_sum_59 rfl h
theorem rX16_difference {d n : Nat} {w : bW} {Q : Int → bW → Prop} {X : String → bW → Prop} (a0 : Int) (a1 : Int) (h : b_K d mX16_isWhole [(0, a0)] n w (fun r1 w2 => if r1 = 0 then (if a0 ≠ 8 then (if a0 ≠ 8 then (Q (-1) w2) else (if a1 ≠ 2 then (Q (-1) w2) else (Q 8 w2))) else (if a1 ≠ 8 then (if a0 ≠ 8 then (Q (-1) w2) else (if a1 ≠ 2 then (Q (-1) w2) else (Q 8 w2))) else (Q 2 w2))) else (b_K d mX16_isWhole [(0, a1)] n w2 (fun r3 w4 => if r3 ≠ 0 then (Q 2 w4) else (if a0 ≠ 8 then (if a0 ≠ 8 then (Q (-1) w4) else (if a1 ≠ 2 then (Q (-1) w4) else (Q 8 w4))) else (if a1 ≠ 8 then (if a0 ≠ 8 then (Q (-1) w4) else (if a1 ≠ 2 then (Q (-1) w4) else (Q 8 w4))) else (Q 2 w4)))) X)) X) : b_K (d + 1) mX16_difference [(0, a0), (0, a1)] n w Q X := by
  refine k_of (by decide) rfl rfl rfl (ls := [(0, a0), (0, a1)]) rfl ?_
  refine x_iload_n 0 dX16_difference_0 rfl rfl rfl ?_
  refine y_Si 345 (M := mX16_isWhole) (As := [(0, a0)]) (st := []) dX16_difference_1 q2254 q2255 q383 q2256 hmX16_isWhole rfl rfl rfl rfl rfl rfl rfl rfl (k_mono h (fun r1 w2 h => ?_))
  refine x_if_eq (t := 14) 10 dX16_difference_4 rfl rfl (b_ite h (fun hc h => ?_) (fun hc h => ?_))
  · refine x_iload_n 0 dX16_difference_14 rfl rfl rfl ?_
    refine x_bipush 8 (z := 8) dX16_difference_15 rfl (by decide) rfl ?_
    refine x_icmp_ne (t := 28) 11 dX16_difference_17 rfl rfl (b_ite h (fun hc h => ?_) (fun hc h => ?_))
    · refine x_iload_n 0 dX16_difference_28 rfl rfl rfl ?_
      refine x_bipush 8 (z := 8) dX16_difference_29 rfl (by decide) rfl ?_
      refine x_icmp_ne (t := 44) 13 dX16_difference_31 rfl rfl (b_ite h (fun hc h => ?_) (fun hc h => ?_))
      · refine x_iconst (-1) (z := (-1)) dX16_difference_44 rfl (by decide) rfl ?_
        exact y_iret dX16_difference_45 rfl h
      · refine x_iload_n 1 dX16_difference_34 rfl rfl rfl ?_
        refine x_iconst 2 (z := 2) dX16_difference_35 rfl (by decide) rfl ?_
        refine x_icmp_ne (t := 44) 8 dX16_difference_36 rfl rfl (b_ite h (fun hc h => ?_) (fun hc h => ?_))
        · refine x_iconst (-1) (z := (-1)) dX16_difference_44 rfl (by decide) rfl ?_
          exact y_iret dX16_difference_45 rfl h
        · refine x_bipush 8 (z := 8) dX16_difference_39 rfl (by decide) rfl ?_
          refine x_goto 4 (q := 45) dX16_difference_41 rfl ?_
          exact y_iret dX16_difference_45 rfl h
    · refine x_iload_n 1 dX16_difference_20 rfl rfl rfl ?_
      refine x_bipush 8 (z := 8) dX16_difference_21 rfl (by decide) rfl ?_
      refine x_icmp_ne (t := 28) 5 dX16_difference_23 rfl rfl (b_ite h (fun hc h => ?_) (fun hc h => ?_))
      · refine x_iload_n 0 dX16_difference_28 rfl rfl rfl ?_
        refine x_bipush 8 (z := 8) dX16_difference_29 rfl (by decide) rfl ?_
        refine x_icmp_ne (t := 44) 13 dX16_difference_31 rfl rfl (b_ite h (fun hc h => ?_) (fun hc h => ?_))
        · refine x_iconst (-1) (z := (-1)) dX16_difference_44 rfl (by decide) rfl ?_
          exact y_iret dX16_difference_45 rfl h
        · refine x_iload_n 1 dX16_difference_34 rfl rfl rfl ?_
          refine x_iconst 2 (z := 2) dX16_difference_35 rfl (by decide) rfl ?_
          refine x_icmp_ne (t := 44) 8 dX16_difference_36 rfl rfl (b_ite h (fun hc h => ?_) (fun hc h => ?_))
          · refine x_iconst (-1) (z := (-1)) dX16_difference_44 rfl (by decide) rfl ?_
            exact y_iret dX16_difference_45 rfl h
          · refine x_bipush 8 (z := 8) dX16_difference_39 rfl (by decide) rfl ?_
            refine x_goto 4 (q := 45) dX16_difference_41 rfl ?_
            exact y_iret dX16_difference_45 rfl h
      · refine x_iconst 2 (z := 2) dX16_difference_26 rfl (by decide) rfl ?_
        exact y_iret dX16_difference_27 rfl h
  · refine x_iload_n 1 dX16_difference_7 rfl rfl rfl ?_
    refine y_Si 345 (M := mX16_isWhole) (As := [(0, a1)]) (st := []) dX16_difference_8 q2254 q2255 q383 q2256 hmX16_isWhole rfl rfl rfl rfl rfl rfl rfl rfl (k_mono h (fun r3 w4 h => ?_))
    refine x_if_ne (t := 26) 15 dX16_difference_11 rfl rfl (b_ite h (fun hc h => ?_) (fun hc h => ?_))
    · refine x_iconst 2 (z := 2) dX16_difference_26 rfl (by decide) rfl ?_
      exact y_iret dX16_difference_27 rfl h
    · refine x_iload_n 0 dX16_difference_14 rfl rfl rfl ?_
      refine x_bipush 8 (z := 8) dX16_difference_15 rfl (by decide) rfl ?_
      refine x_icmp_ne (t := 28) 11 dX16_difference_17 rfl rfl (b_ite h (fun hc h => ?_) (fun hc h => ?_))
      · refine x_iload_n 0 dX16_difference_28 rfl rfl rfl ?_
        refine x_bipush 8 (z := 8) dX16_difference_29 rfl (by decide) rfl ?_
        refine x_icmp_ne (t := 44) 13 dX16_difference_31 rfl rfl (b_ite h (fun hc h => ?_) (fun hc h => ?_))
        · refine x_iconst (-1) (z := (-1)) dX16_difference_44 rfl (by decide) rfl ?_
          exact y_iret dX16_difference_45 rfl h
        · refine x_iload_n 1 dX16_difference_34 rfl rfl rfl ?_
          refine x_iconst 2 (z := 2) dX16_difference_35 rfl (by decide) rfl ?_
          refine x_icmp_ne (t := 44) 8 dX16_difference_36 rfl rfl (b_ite h (fun hc h => ?_) (fun hc h => ?_))
          · refine x_iconst (-1) (z := (-1)) dX16_difference_44 rfl (by decide) rfl ?_
            exact y_iret dX16_difference_45 rfl h
          · refine x_bipush 8 (z := 8) dX16_difference_39 rfl (by decide) rfl ?_
            refine x_goto 4 (q := 45) dX16_difference_41 rfl ?_
            exact y_iret dX16_difference_45 rfl h
      · refine x_iload_n 1 dX16_difference_20 rfl rfl rfl ?_
        refine x_bipush 8 (z := 8) dX16_difference_21 rfl (by decide) rfl ?_
        refine x_icmp_ne (t := 28) 5 dX16_difference_23 rfl rfl (b_ite h (fun hc h => ?_) (fun hc h => ?_))
        · refine x_iload_n 0 dX16_difference_28 rfl rfl rfl ?_
          refine x_bipush 8 (z := 8) dX16_difference_29 rfl (by decide) rfl ?_
          refine x_icmp_ne (t := 44) 13 dX16_difference_31 rfl rfl (b_ite h (fun hc h => ?_) (fun hc h => ?_))
          · refine x_iconst (-1) (z := (-1)) dX16_difference_44 rfl (by decide) rfl ?_
            exact y_iret dX16_difference_45 rfl h
          · refine x_iload_n 1 dX16_difference_34 rfl rfl rfl ?_
            refine x_iconst 2 (z := 2) dX16_difference_35 rfl (by decide) rfl ?_
            refine x_icmp_ne (t := 44) 8 dX16_difference_36 rfl rfl (b_ite h (fun hc h => ?_) (fun hc h => ?_))
            · refine x_iconst (-1) (z := (-1)) dX16_difference_44 rfl (by decide) rfl ?_
              exact y_iret dX16_difference_45 rfl h
            · refine x_bipush 8 (z := 8) dX16_difference_39 rfl (by decide) rfl ?_
              refine x_goto 4 (q := 45) dX16_difference_41 rfl ?_
              exact y_iret dX16_difference_45 rfl h
        · refine x_iconst 2 (z := 2) dX16_difference_26 rfl (by decide) rfl ?_
          exact y_iret dX16_difference_27 rfl h
abbrev LX16_quotient_45 (d n : Nat) (Q : Int → bW → Prop) (X : String → bW → Prop) (a1 : Int) (a2 : Int) (w : bW) : Prop := b_Y (d + 1) mX16_quotient n Q X 45 [(2, 65), (0, a1), (0, a2)] [] w
theorem rX16_quotient {d n : Nat} {w : bW} {Q : Int → bW → Prop} {X : String → bW → Prop} (hn : 143 ≤ n) (a1 : Int) (a2 : Int) (h : b_K d mX16_isWhole [(0, a1)] n w (fun r1 w2 => if r1 = 0 then (LX16_quotient_45 d n Q X a1 a2 w2) else (b_K d mX16_isWhole [(0, a2)] n w2 (fun r3 w4 => if r3 = 0 then (LX16_quotient_45 d n Q X a1 a2 w4) else (if a1 ≠ 3 then (b_K d mX7_pair [(2, 19), (0, 2), (0, 3)] n w4 (fun r5 w6 => b_K d mX7_option [(2, 19), (0, r5)] n w6 (fun r7 w8 => Q r7 w8) X) X) else (if a2 ≠ 3 then (b_K d mX7_pair [(2, 19), (0, 2), (0, 3)] n w4 (fun r9 w10 => b_K d mX7_option [(2, 19), (0, r9)] n w10 (fun r11 w12 => Q r11 w12) X) X) else (b_K d mX7_pair [(2, 19), (0, 3), (0, 3)] n w4 (fun r13 w14 => b_K d mX7_option [(2, 19), (0, r13)] n w14 (fun r15 w16 => Q r15 w16) X) X)))) X)) X) : b_K (d + 1) mX16_quotient [(2, 65), (0, a1), (0, a2)] n w Q X := by
  have i19 := iz19 (Nat.le_trans (Nat.le_of_ble_eq_true rfl) hn)
  have i65 := iz65 (Nat.le_trans (Nat.le_of_ble_eq_true rfl) hn)
  refine k_of (by decide) rfl rfl rfl (ls := [(2, 65), (0, a1), (0, a2)]) rfl ?_
  refine x_iload_n 1 dX16_quotient_0 rfl rfl rfl ?_
  refine y_Si 345 (M := mX16_isWhole) (As := [(0, a1)]) (st := []) dX16_quotient_1 q2254 q2255 q383 q2256 hmX16_isWhole rfl rfl rfl rfl rfl rfl rfl rfl (k_mono h (fun r1 w2 h => ?_))
  refine x_if_eq (t := 45) 41 dX16_quotient_4 rfl rfl (b_ite h (fun hc h => ?_) (fun hc h => ?_))
  · exact x_fg (fgk (fgk (fgk (fg0)))) h
  · refine x_iload_n 2 dX16_quotient_7 rfl rfl rfl ?_
    refine y_Si 345 (M := mX16_isWhole) (As := [(0, a2)]) (st := []) dX16_quotient_8 q2254 q2255 q383 q2256 hmX16_isWhole rfl rfl rfl rfl rfl rfl rfl rfl (k_mono h (fun r3 w4 h => ?_))
    refine x_if_eq (t := 45) 34 dX16_quotient_11 rfl rfl (b_ite h (fun hc h => ?_) (fun hc h => ?_))
    · exact x_fg (fgk (fgk (fgk (fg0)))) h
    · refine x_aload_n 0 dX16_quotient_14 rfl rfl rfl rfl rfl ?_
      refine y_getF 32 1 (c := 15) (z := 19) dX16_quotient_15 i65 rfl in_X16 q1100 rfl rfl rfl fn_65_1 (Nat.le_trans (Nat.le_of_ble_eq_true rfl) hn) rfl ?_
      refine x_aload_n 0 dX16_quotient_18 rfl rfl rfl rfl rfl ?_
      refine y_getF 32 1 (c := 15) (z := 19) dX16_quotient_19 i65 rfl in_X16 q1100 rfl rfl rfl fn_65_1 (Nat.le_trans (Nat.le_of_ble_eq_true rfl) hn) rfl ?_
      refine x_iload_n 1 dX16_quotient_22 rfl rfl rfl ?_
      refine x_iconst 3 (z := 3) dX16_quotient_23 rfl (by decide) rfl ?_
      refine x_icmp_ne (t := 36) 12 dX16_quotient_24 rfl rfl (b_ite h (fun hc h => ?_) (fun hc h => ?_))
      · refine x_iconst 2 (z := 2) dX16_quotient_36 rfl (by decide) rfl ?_
        refine x_iconst 3 (z := 3) dX16_quotient_37 rfl (by decide) rfl ?_
        refine y_Vi 192 (M := mX7_pair) (As := [(0, 2), (0, 3)]) (st := [(2, 19)]) dX16_quotient_38 i19 rfl q1910 q1863 q1864 q374 q1865 rfl hmX7_pair rfl rfl rfl rfl rfl rfl rfl rfl (k_mono h (fun r5 w6 h => ?_))
        refine y_Vi 313 (M := mX7_option) (As := [(0, r5)]) (st := []) dX16_quotient_41 i19 rfl q2199 q2200 q2201 q374 q2202 rfl hmX7_option rfl rfl rfl rfl rfl rfl rfl rfl (k_mono h (fun r7 w8 h => ?_))
        exact y_iret dX16_quotient_44 rfl h
      · refine x_iload_n 2 dX16_quotient_27 rfl rfl rfl ?_
        refine x_iconst 3 (z := 3) dX16_quotient_28 rfl (by decide) rfl ?_
        refine x_icmp_ne (t := 36) 7 dX16_quotient_29 rfl rfl (b_ite h (fun hc h => ?_) (fun hc h => ?_))
        · refine x_iconst 2 (z := 2) dX16_quotient_36 rfl (by decide) rfl ?_
          refine x_iconst 3 (z := 3) dX16_quotient_37 rfl (by decide) rfl ?_
          refine y_Vi 192 (M := mX7_pair) (As := [(0, 2), (0, 3)]) (st := [(2, 19)]) dX16_quotient_38 i19 rfl q1910 q1863 q1864 q374 q1865 rfl hmX7_pair rfl rfl rfl rfl rfl rfl rfl rfl (k_mono h (fun r9 w10 h => ?_))
          refine y_Vi 313 (M := mX7_option) (As := [(0, r9)]) (st := []) dX16_quotient_41 i19 rfl q2199 q2200 q2201 q374 q2202 rfl hmX7_option rfl rfl rfl rfl rfl rfl rfl rfl (k_mono h (fun r11 w12 h => ?_))
          exact y_iret dX16_quotient_44 rfl h
        · refine x_iconst 3 (z := 3) dX16_quotient_32 rfl (by decide) rfl ?_
          refine x_goto 4 (q := 37) dX16_quotient_33 rfl ?_
          refine x_iconst 3 (z := 3) dX16_quotient_37 rfl (by decide) rfl ?_
          refine y_Vi 192 (M := mX7_pair) (As := [(0, 3), (0, 3)]) (st := [(2, 19)]) dX16_quotient_38 i19 rfl q1910 q1863 q1864 q374 q1865 rfl hmX7_pair rfl rfl rfl rfl rfl rfl rfl rfl (k_mono h (fun r13 w14 h => ?_))
          refine y_Vi 313 (M := mX7_option) (As := [(0, r13)]) (st := []) dX16_quotient_41 i19 rfl q2199 q2200 q2201 q374 q2202 rfl hmX7_option rfl rfl rfl rfl rfl rfl rfl rfl (k_mono h (fun r15 w16 h => ?_))
          exact y_iret dX16_quotient_44 rfl h
theorem sX16_quotient_45 {d n : Nat} {w : bW} {Q : Int → bW → Prop} {X : String → bW → Prop} (hn : 143 ≤ n) (a1 : Int) (a2 : Int) (h : if a1 ≠ 4 then (Q (-1) w) else (if a2 = 3 then (if a2 ≠ 3 then (b_K d mX7_pair [(2, 19), (0, 3), (0, 4)] n w (fun r1 w2 => b_K d mX7_option [(2, 19), (0, r1)] n w2 (fun r3 w4 => Q r3 w4) X) X) else (b_K d mX7_pair [(2, 19), (0, 4), (0, 4)] n w (fun r5 w6 => b_K d mX7_option [(2, 19), (0, r5)] n w6 (fun r7 w8 => Q r7 w8) X) X)) else (if a2 = 4 then (if a2 ≠ 3 then (b_K d mX7_pair [(2, 19), (0, 3), (0, 4)] n w (fun r9 w10 => b_K d mX7_option [(2, 19), (0, r9)] n w10 (fun r11 w12 => Q r11 w12) X) X) else (b_K d mX7_pair [(2, 19), (0, 4), (0, 4)] n w (fun r13 w14 => b_K d mX7_option [(2, 19), (0, r13)] n w14 (fun r15 w16 => Q r15 w16) X) X)) else (Q (-1) w)))) : LX16_quotient_45 d n Q X a1 a2 w := by
  have i19 := iz19 (Nat.le_trans (Nat.le_of_ble_eq_true rfl) hn)
  have i65 := iz65 (Nat.le_trans (Nat.le_of_ble_eq_true rfl) hn)
  refine x_iload_n 1 dX16_quotient_45 rfl rfl rfl ?_
  refine x_iconst 4 (z := 4) dX16_quotient_46 rfl (by decide) rfl ?_
  refine x_icmp_ne (t := 60) 13 dX16_quotient_47 rfl rfl (b_ite h (fun hc h => ?_) (fun hc h => ?_))
  · refine x_iconst (-1) (z := (-1)) dX16_quotient_60 rfl (by decide) rfl ?_
    exact y_iret dX16_quotient_61 rfl h
  · refine x_iload_n 2 dX16_quotient_50 rfl rfl rfl ?_
    refine x_iconst 3 (z := 3) dX16_quotient_51 rfl (by decide) rfl ?_
    refine x_icmp_eq (t := 62) 10 dX16_quotient_52 rfl rfl (b_ite h (fun hc h => ?_) (fun hc h => ?_))
    · refine x_aload_n 0 dX16_quotient_62 rfl rfl rfl rfl rfl ?_
      refine y_getF 32 1 (c := 15) (z := 19) dX16_quotient_63 i65 rfl in_X16 q1100 rfl rfl rfl fn_65_1 (Nat.le_trans (Nat.le_of_ble_eq_true rfl) hn) rfl ?_
      refine x_aload_n 0 dX16_quotient_66 rfl rfl rfl rfl rfl ?_
      refine y_getF 32 1 (c := 15) (z := 19) dX16_quotient_67 i65 rfl in_X16 q1100 rfl rfl rfl fn_65_1 (Nat.le_trans (Nat.le_of_ble_eq_true rfl) hn) rfl ?_
      refine x_iload_n 2 dX16_quotient_70 rfl rfl rfl ?_
      refine x_iconst 3 (z := 3) dX16_quotient_71 rfl (by decide) rfl ?_
      refine x_icmp_ne (t := 79) 7 dX16_quotient_72 rfl rfl (b_ite h (fun hc h => ?_) (fun hc h => ?_))
      · refine x_iconst 3 (z := 3) dX16_quotient_79 rfl (by decide) rfl ?_
        refine x_iconst 4 (z := 4) dX16_quotient_80 rfl (by decide) rfl ?_
        refine y_Vi 192 (M := mX7_pair) (As := [(0, 3), (0, 4)]) (st := [(2, 19)]) dX16_quotient_81 i19 rfl q1910 q1863 q1864 q374 q1865 rfl hmX7_pair rfl rfl rfl rfl rfl rfl rfl rfl (k_mono h (fun r1 w2 h => ?_))
        refine y_Vi 313 (M := mX7_option) (As := [(0, r1)]) (st := []) dX16_quotient_84 i19 rfl q2199 q2200 q2201 q374 q2202 rfl hmX7_option rfl rfl rfl rfl rfl rfl rfl rfl (k_mono h (fun r3 w4 h => ?_))
        exact y_iret dX16_quotient_87 rfl h
      · refine x_iconst 4 (z := 4) dX16_quotient_75 rfl (by decide) rfl ?_
        refine x_goto 4 (q := 80) dX16_quotient_76 rfl ?_
        refine x_iconst 4 (z := 4) dX16_quotient_80 rfl (by decide) rfl ?_
        refine y_Vi 192 (M := mX7_pair) (As := [(0, 4), (0, 4)]) (st := [(2, 19)]) dX16_quotient_81 i19 rfl q1910 q1863 q1864 q374 q1865 rfl hmX7_pair rfl rfl rfl rfl rfl rfl rfl rfl (k_mono h (fun r5 w6 h => ?_))
        refine y_Vi 313 (M := mX7_option) (As := [(0, r5)]) (st := []) dX16_quotient_84 i19 rfl q2199 q2200 q2201 q374 q2202 rfl hmX7_option rfl rfl rfl rfl rfl rfl rfl rfl (k_mono h (fun r7 w8 h => ?_))
        exact y_iret dX16_quotient_87 rfl h
    · refine x_iload_n 2 dX16_quotient_55 rfl rfl rfl ?_
      refine x_iconst 4 (z := 4) dX16_quotient_56 rfl (by decide) rfl ?_
      refine x_icmp_eq (t := 62) 5 dX16_quotient_57 rfl rfl (b_ite h (fun hc h => ?_) (fun hc h => ?_))
      · refine x_aload_n 0 dX16_quotient_62 rfl rfl rfl rfl rfl ?_
        refine y_getF 32 1 (c := 15) (z := 19) dX16_quotient_63 i65 rfl in_X16 q1100 rfl rfl rfl fn_65_1 (Nat.le_trans (Nat.le_of_ble_eq_true rfl) hn) rfl ?_
        refine x_aload_n 0 dX16_quotient_66 rfl rfl rfl rfl rfl ?_
        refine y_getF 32 1 (c := 15) (z := 19) dX16_quotient_67 i65 rfl in_X16 q1100 rfl rfl rfl fn_65_1 (Nat.le_trans (Nat.le_of_ble_eq_true rfl) hn) rfl ?_
        refine x_iload_n 2 dX16_quotient_70 rfl rfl rfl ?_
        refine x_iconst 3 (z := 3) dX16_quotient_71 rfl (by decide) rfl ?_
        refine x_icmp_ne (t := 79) 7 dX16_quotient_72 rfl rfl (b_ite h (fun hc h => ?_) (fun hc h => ?_))
        · refine x_iconst 3 (z := 3) dX16_quotient_79 rfl (by decide) rfl ?_
          refine x_iconst 4 (z := 4) dX16_quotient_80 rfl (by decide) rfl ?_
          refine y_Vi 192 (M := mX7_pair) (As := [(0, 3), (0, 4)]) (st := [(2, 19)]) dX16_quotient_81 i19 rfl q1910 q1863 q1864 q374 q1865 rfl hmX7_pair rfl rfl rfl rfl rfl rfl rfl rfl (k_mono h (fun r9 w10 h => ?_))
          refine y_Vi 313 (M := mX7_option) (As := [(0, r9)]) (st := []) dX16_quotient_84 i19 rfl q2199 q2200 q2201 q374 q2202 rfl hmX7_option rfl rfl rfl rfl rfl rfl rfl rfl (k_mono h (fun r11 w12 h => ?_))
          exact y_iret dX16_quotient_87 rfl h
        · refine x_iconst 4 (z := 4) dX16_quotient_75 rfl (by decide) rfl ?_
          refine x_goto 4 (q := 80) dX16_quotient_76 rfl ?_
          refine x_iconst 4 (z := 4) dX16_quotient_80 rfl (by decide) rfl ?_
          refine y_Vi 192 (M := mX7_pair) (As := [(0, 4), (0, 4)]) (st := [(2, 19)]) dX16_quotient_81 i19 rfl q1910 q1863 q1864 q374 q1865 rfl hmX7_pair rfl rfl rfl rfl rfl rfl rfl rfl (k_mono h (fun r13 w14 h => ?_))
          refine y_Vi 313 (M := mX7_option) (As := [(0, r13)]) (st := []) dX16_quotient_84 i19 rfl q2199 q2200 q2201 q374 q2202 rfl hmX7_option rfl rfl rfl rfl rfl rfl rfl rfl (k_mono h (fun r15 w16 h => ?_))
          exact y_iret dX16_quotient_87 rfl h
      · refine x_iconst (-1) (z := (-1)) dX16_quotient_60 rfl (by decide) rfl ?_
        exact y_iret dX16_quotient_61 rfl h
abbrev LX16_bits_12 (d n : Nat) (Q : Int → bW → Prop) (X : String → bW → Prop) (a0 : Int) (a1 : Int) (a2 : Int) (w : bW) : Prop := b_Y (d + 1) mX16_bits n Q X 12 [(0, a0), (0, a1), (0, a2), (9, 0)] [] w
theorem rX16_bits {d n : Nat} {w : bW} {Q : Int → bW → Prop} {X : String → bW → Prop} (a0 : Int) (a1 : Int) (a2 : Int) (h : if a1 ≠ 1 then (LX16_bits_12 d n Q X a0 a1 a2 w) else (if a2 ≠ 1 then (LX16_bits_12 d n Q X a0 a1 a2 w) else (Q 1 w))) : b_K (d + 1) mX16_bits [(0, a0), (0, a1), (0, a2)] n w Q X := by
  refine k_of (by decide) rfl rfl rfl (ls := [(0, a0), (0, a1), (0, a2), (9, 0)]) rfl ?_
  refine x_iload_n 1 dX16_bits_0 rfl rfl rfl ?_
  refine x_iconst 1 (z := 1) dX16_bits_1 rfl (by decide) rfl ?_
  refine x_icmp_ne (t := 12) 10 dX16_bits_2 rfl rfl (b_ite h (fun hc h => ?_) (fun hc h => ?_))
  · exact x_fg (fgk (fgk (fgk (fgk (fg0))))) h
  · refine x_iload_n 2 dX16_bits_5 rfl rfl rfl ?_
    refine x_iconst 1 (z := 1) dX16_bits_6 rfl (by decide) rfl ?_
    refine x_icmp_ne (t := 12) 5 dX16_bits_7 rfl rfl (b_ite h (fun hc h => ?_) (fun hc h => ?_))
    · exact x_fg (fgk (fgk (fgk (fgk (fg0))))) h
    · refine x_iconst 1 (z := 1) dX16_bits_10 rfl (by decide) rfl ?_
      exact y_iret dX16_bits_11 rfl h
theorem sX16_bits_12 {d n : Nat} {w : bW} {Q : Int → bW → Prop} {X : String → bW → Prop} (a0 : Int) (a1 : Int) (a2 : Int) (h : if a2 ≠ 3 then (Q (-1) w) else (if a1 = 3 then (Q 3 w) else (if a0 ≠ 73 then (Q (-1) w) else (if a1 ≠ 2 then (Q (-1) w) else (Q 3 w))))) : LX16_bits_12 d n Q X a0 a1 a2 w := by
  refine x_iload_n 2 dX16_bits_12 rfl rfl rfl ?_
  refine x_iconst 3 (z := 3) dX16_bits_13 rfl (by decide) rfl ?_
  refine x_icmp_ne (t := 37) 23 dX16_bits_14 rfl rfl (b_ite h (fun hc h => ?_) (fun hc h => ?_))
  · refine x_iconst 0 (z := 0) dX16_bits_37 rfl (by decide) rfl ?_
    refine x_istore_n 3 (ls' := [(0, a0), (0, a1), (0, a2), (0, 0)]) dX16_bits_38 rfl rfl rfl rfl ?_
    refine x_iload_n 3 dX16_bits_39 rfl rfl rfl ?_
    refine x_if_eq (t := 47) 7 dX16_bits_40 rfl rfl (b_ifT (by decide) ?_)
    refine x_iconst (-1) (z := (-1)) dX16_bits_47 rfl (by decide) rfl ?_
    exact y_iret dX16_bits_48 rfl h
  · refine x_iload_n 1 dX16_bits_17 rfl rfl rfl ?_
    refine x_iconst 3 (z := 3) dX16_bits_18 rfl (by decide) rfl ?_
    refine x_icmp_eq (t := 33) 14 dX16_bits_19 rfl rfl (b_ite h (fun hc h => ?_) (fun hc h => ?_))
    · refine x_iconst 1 (z := 1) dX16_bits_33 rfl (by decide) rfl ?_
      refine x_goto 4 (q := 38) dX16_bits_34 rfl ?_
      refine x_istore_n 3 (ls' := [(0, a0), (0, a1), (0, a2), (0, 1)]) dX16_bits_38 rfl rfl rfl rfl ?_
      refine x_iload_n 3 dX16_bits_39 rfl rfl rfl ?_
      refine x_if_eq (t := 47) 7 dX16_bits_40 rfl rfl (b_ifF (by decide) ?_)
      refine x_iconst 3 (z := 3) dX16_bits_43 rfl (by decide) rfl ?_
      refine x_goto 4 (q := 48) dX16_bits_44 rfl ?_
      exact y_iret dX16_bits_48 rfl h
    · refine x_iload_n 0 dX16_bits_22 rfl rfl rfl ?_
      refine x_bipush 73 (z := 73) dX16_bits_23 rfl (by decide) rfl ?_
      refine x_icmp_ne (t := 37) 12 dX16_bits_25 rfl rfl (b_ite h (fun hc h => ?_) (fun hc h => ?_))
      · refine x_iconst 0 (z := 0) dX16_bits_37 rfl (by decide) rfl ?_
        refine x_istore_n 3 (ls' := [(0, a0), (0, a1), (0, a2), (0, 0)]) dX16_bits_38 rfl rfl rfl rfl ?_
        refine x_iload_n 3 dX16_bits_39 rfl rfl rfl ?_
        refine x_if_eq (t := 47) 7 dX16_bits_40 rfl rfl (b_ifT (by decide) ?_)
        refine x_iconst (-1) (z := (-1)) dX16_bits_47 rfl (by decide) rfl ?_
        exact y_iret dX16_bits_48 rfl h
      · refine x_iload_n 1 dX16_bits_28 rfl rfl rfl ?_
        refine x_iconst 2 (z := 2) dX16_bits_29 rfl (by decide) rfl ?_
        refine x_icmp_ne (t := 37) 7 dX16_bits_30 rfl rfl (b_ite h (fun hc h => ?_) (fun hc h => ?_))
        · refine x_iconst 0 (z := 0) dX16_bits_37 rfl (by decide) rfl ?_
          refine x_istore_n 3 (ls' := [(0, a0), (0, a1), (0, a2), (0, 0)]) dX16_bits_38 rfl rfl rfl rfl ?_
          refine x_iload_n 3 dX16_bits_39 rfl rfl rfl ?_
          refine x_if_eq (t := 47) 7 dX16_bits_40 rfl rfl (b_ifT (by decide) ?_)
          refine x_iconst (-1) (z := (-1)) dX16_bits_47 rfl (by decide) rfl ?_
          exact y_iret dX16_bits_48 rfl h
        · refine x_iconst 1 (z := 1) dX16_bits_33 rfl (by decide) rfl ?_
          refine x_goto 4 (q := 38) dX16_bits_34 rfl ?_
          refine x_istore_n 3 (ls' := [(0, a0), (0, a1), (0, a2), (0, 1)]) dX16_bits_38 rfl rfl rfl rfl ?_
          refine x_iload_n 3 dX16_bits_39 rfl rfl rfl ?_
          refine x_if_eq (t := 47) 7 dX16_bits_40 rfl rfl (b_ifF (by decide) ?_)
          refine x_iconst 3 (z := 3) dX16_bits_43 rfl (by decide) rfl ?_
          refine x_goto 4 (q := 48) dX16_bits_44 rfl ?_
          exact y_iret dX16_bits_48 rfl h
abbrev LX16_other_266 (d n : Nat) (Q : Int → bW → Prop) (X : String → bW → Prop) (a2 : Int) (s0 : Int) (w : bW) : Prop := b_Y (d + 1) mX16_other n Q X 266 [(2, 65), (9, 0), (0, a2), (9, 0), (9, 0), (9, 0)] [(0, s0)] w
abbrev LX16_other_329 (d n : Nat) (Q : Int → bW → Prop) (X : String → bW → Prop) (a2 : Int) (s0 : Int) (w : bW) : Prop := b_Y (d + 1) mX16_other n Q X 329 [(2, 65), (9, 0), (0, a2), (9, 0), (9, 0), (9, 0)] [(0, s0)] w
theorem rX16_other {d n : Nat} {w : bW} {Q : Int → bW → Prop} {X : String → bW → Prop} (hn : 143 ≤ n) (a1 : Int) (a2 : Int) (a3 : Int) (h : if a2 = 86 then (if a3 ≠ 0 then (Q 0 w) else (b_K d mX16_concat [(2, 65)] n w (fun r1 w2 => Q r1 w2) X)) else (if a2 = 87 then (if a3 ≠ 0 then (b_K d mX16_done [(2, 65), (0, 0), (0, a2), (0, 0), (0, 0), (0, 0)] n w (fun r3 w4 => Q r3 w4) X) else (b_K d mX16_word [(2, 65), (0, 0)] n w (fun r5 w6 => if r5 ≠ 3 then (b_K d mX16_done [(2, 65), (0, 0), (0, a2), (0, 0), (0, 0), (0, 0)] n w6 (fun r7 w8 => Q r7 w8) X) else (b_K d mX16_word [(2, 65), (0, 1)] n w6 (fun r9 w10 => if r9 ≠ 3 then (b_K d mX16_done [(2, 65), (0, 0), (0, a2), (0, 0), (0, 0), (0, 0)] n w10 (fun r11 w12 => Q r11 w12) X) else (b_K d mX16_word [(2, 65), (0, 2)] n w10 (fun r13 w14 => b_K d mX16_isText [(0, r13)] n w14 (fun r15 w16 => if r15 = 0 then (b_K d mX16_done [(2, 65), (0, 0), (0, a2), (0, 0), (0, 0), (0, 0)] n w16 (fun r17 w18 => Q r17 w18) X) else (b_K d mX16_at [(2, 65), (0, 2)] n w16 (fun r19 w20 => b_K d mX7_option [(2, 19), (0, r19)] n w20 (fun r21 w22 => b_K d mX16_become [(2, 65), (0, 3), (0, r21)] n w22 (fun r23 w24 => if r23 = 0 then (b_K d mX16_done [(2, 65), (0, 0), (0, a2), (0, 0), (0, 0), (0, 0)] n w24 (fun r25 w26 => Q r25 w26) X) else (b_K d mX16_done [(2, 65), (0, 1), (0, a2), (0, 0), (0, 0), (0, 0)] n w24 (fun r27 w28 => Q r27 w28) X)) X) X) X)) X) X)) X)) X)) else (if a2 = 88 then (b_K d mX16_word [(2, 65), (0, 0)] n w (fun r29 w30 => if a3 ≠ 0 then (b_K d mX16_done [(2, 65), (0, 0), (0, a2), (0, r29), (0, 0), (0, 0)] n w30 (fun r31 w32 => Q r31 w32) X) else (b_K d mX16_isText [(0, r29)] n w30 (fun r33 w34 => if r33 ≠ 0 then (b_K d mX16_become [(2, 65), (0, 1), (0, 3)] n w34 (fun r35 w36 => if r35 = 0 then (b_K d mX16_done [(2, 65), (0, 0), (0, a2), (0, r29), (0, 0), (0, 0)] n w36 (fun r37 w38 => Q r37 w38) X) else (b_K d mX16_done [(2, 65), (0, 1), (0, a2), (0, r29), (0, 0), (0, 0)] n w36 (fun r39 w40 => Q r39 w40) X)) X) else (if r29 = 11 then (b_K d mX16_become [(2, 65), (0, 1), (0, 3)] n w34 (fun r41 w42 => if r41 = 0 then (b_K d mX16_done [(2, 65), (0, 0), (0, a2), (0, r29), (0, 0), (0, 0)] n w42 (fun r43 w44 => Q r43 w44) X) else (b_K d mX16_done [(2, 65), (0, 1), (0, a2), (0, r29), (0, 0), (0, 0)] n w42 (fun r45 w46 => Q r45 w46) X)) X) else (if r29 = 12 then (b_K d mX16_become [(2, 65), (0, 1), (0, 3)] n w34 (fun r47 w48 => if r47 = 0 then (b_K d mX16_done [(2, 65), (0, 0), (0, a2), (0, r29), (0, 0), (0, 0)] n w48 (fun r49 w50 => Q r49 w50) X) else (b_K d mX16_done [(2, 65), (0, 1), (0, a2), (0, r29), (0, 0), (0, 0)] n w48 (fun r51 w52 => Q r51 w52) X)) X) else (if r29 ≠ 15 then (b_K d mX16_done [(2, 65), (0, 0), (0, a2), (0, r29), (0, 0), (0, 0)] n w34 (fun r53 w54 => Q r53 w54) X) else (b_K d mX16_become [(2, 65), (0, 1), (0, 3)] n w34 (fun r55 w56 => if r55 = 0 then (b_K d mX16_done [(2, 65), (0, 0), (0, a2), (0, r29), (0, 0), (0, 0)] n w56 (fun r57 w58 => Q r57 w58) X) else (b_K d mX16_done [(2, 65), (0, 1), (0, a2), (0, r29), (0, 0), (0, 0)] n w56 (fun r59 w60 => Q r59 w60) X)) X))))) X)) X) else (if a2 = 89 ∨ a2 = 90 ∨ a2 = 91 ∨ a2 = 92 then (if a3 ≠ 0 then (Q 0 w) else (b_K d mX16_keyed [(2, 65), (0, a2)] n w (fun r61 w62 => Q r61 w62) X)) else (if a2 = 93 then (if a3 ≠ 0 then (LX16_other_266 d n Q X a2 0 w) else (if w 65 8 ≤ 0 then (LX16_other_266 d n Q X a2 0 w) else (b_K d mX16_at [(2, 65), (0, 0)] n w (fun r63 w64 => b_K d mX7_is [(2, 19), (0, r63), (0, 2)] n w64 (fun r65 w66 => if r65 = 0 then (LX16_other_266 d n Q X a2 0 w66) else (LX16_other_266 d n Q X a2 1 w66)) X) X))) else (if a2 = 94 then (if a3 ≠ 1 then (LX16_other_329 d n Q X a2 (-1) w) else (b_K d mX16_typeAt [(2, 65), (0, a1), (0, 0)] n w (fun r67 w68 => LX16_other_329 d n Q X a2 r67 w68) X)) else ((b_K d mX16_ledger [(2, 65), (0, a1), (0, a2), (0, a3)] n w (fun r69 w70 => Q r69 w70) X)))))))) : b_K (d + 1) mX16_other [(2, 65), (0, a1), (0, a2), (0, a3)] n w Q X := by
  have i19 := iz19 (Nat.le_trans (Nat.le_of_ble_eq_true rfl) hn)
  have i65 := iz65 (Nat.le_trans (Nat.le_of_ble_eq_true rfl) hn)
  refine k_of (by decide) rfl rfl rfl (ls := [(2, 65), (0, a1), (0, a2), (0, a3), (9, 0), (9, 0)]) rfl ?_
  refine x_iload_n 2 dX16_other_0 rfl rfl rfl ?_
  refine b_itc h (fun hc h => ?_) (fun hn0 h => ?_)
  · have key : b_Y (d + 1) mX16_other n Q X 52 [(2, 65), (0, a1), (0, a2), (0, a3), (9, 0), (9, 0)] [] w := by
      refine x_iload_n 3 dX16_other_52 rfl rfl rfl ?_
      refine x_if_ne (t := 63) 10 dX16_other_53 rfl rfl (b_ite h (fun hc h => ?_) (fun hc h => ?_))
      · refine x_iconst 0 (z := 0) dX16_other_63 rfl (by decide) rfl ?_
        exact y_iret dX16_other_64 rfl h
      · refine x_aload_n 0 dX16_other_56 rfl rfl rfl rfl rfl ?_
        refine y_Vi 372 (M := mX16_concat) (As := []) (st := []) dX16_other_57 i65 rfl q2282 q2284 qs77 q383 q2285 rfl hmX16_concat rfl rfl rfl rfl rfl rfl rfl rfl (k_mono h (fun r1 w2 h => ?_))
        refine x_goto 4 (q := 64) dX16_other_60 rfl ?_
        exact y_iret dX16_other_64 rfl h
    have e := hc
    exact x_tsI (off := 51) (t := 52) dX16_other_1 (by rw [e]; decide) (by rw [e]; decide) (by rw [e]; rfl) rfl key
  · refine b_itc h (fun hc h => ?_) (fun hn1 h => ?_)
    · have key : b_Y (d + 1) mX16_other n Q X 65 [(2, 65), (0, a1), (0, a2), (0, a3), (9, 0), (9, 0)] [] w := by
        refine x_iload_n 3 dX16_other_65 rfl rfl rfl ?_
        refine x_if_ne (t := 102) 36 dX16_other_66 rfl rfl (b_ite h (fun hc h => ?_) (fun hc h => ?_))
        · refine x_iconst 0 (z := 0) dX16_other_102 rfl (by decide) rfl ?_
          refine x_istore 4 (ls' := [(2, 65), (0, a1), (0, a2), (0, a3), (0, 0), (9, 0)]) dX16_other_103 rfl rfl rfl ?_
          refine x_aload_n 0 dX16_other_105 rfl rfl rfl rfl rfl ?_
          refine x_iload 4 dX16_other_106 rfl rfl ?_
          refine x_if_eq (t := 135) 27 dX16_other_108 rfl rfl (b_ifT (by decide) ?_)
          refine x_iconst 0 (z := 0) dX16_other_135 rfl (by decide) rfl ?_
          refine x_iload_n 2 dX16_other_136 rfl rfl rfl ?_
          refine x_iconst 0 (z := 0) dX16_other_137 rfl (by decide) rfl ?_
          refine x_iconst 0 (z := 0) dX16_other_138 rfl (by decide) rfl ?_
          refine x_iconst 0 (z := 0) dX16_other_139 rfl (by decide) rfl ?_
          refine y_Vi 274 (M := mX16_done) (As := [(0, 0), (0, a2), (0, 0), (0, 0), (0, 0)]) (st := []) dX16_other_140 i65 rfl q2147 q2149 qs50 q383 q2150 rfl hmX16_done rfl rfl rfl rfl rfl rfl rfl rfl (k_mono h (fun r3 w4 h => ?_))
          exact y_iret dX16_other_143 rfl h
        · refine x_aload_n 0 dX16_other_69 rfl rfl rfl rfl rfl ?_
          refine x_iconst 0 (z := 0) dX16_other_70 rfl (by decide) rfl ?_
          refine y_Vi 304 (M := mX16_word) (As := [(0, 0)]) (st := []) dX16_other_71 i65 rfl q2187 q2189 qs58 q383 q2190 rfl hmX16_word rfl rfl rfl rfl rfl rfl rfl rfl (k_mono h (fun r5 w6 h => ?_))
          refine x_iconst 3 (z := 3) dX16_other_74 rfl (by decide) rfl ?_
          refine x_icmp_ne (t := 102) 27 dX16_other_75 rfl rfl (b_ite h (fun hc h => ?_) (fun hc h => ?_))
          · refine x_iconst 0 (z := 0) dX16_other_102 rfl (by decide) rfl ?_
            refine x_istore 4 (ls' := [(2, 65), (0, a1), (0, a2), (0, a3), (0, 0), (9, 0)]) dX16_other_103 rfl rfl rfl ?_
            refine x_aload_n 0 dX16_other_105 rfl rfl rfl rfl rfl ?_
            refine x_iload 4 dX16_other_106 rfl rfl ?_
            refine x_if_eq (t := 135) 27 dX16_other_108 rfl rfl (b_ifT (by decide) ?_)
            refine x_iconst 0 (z := 0) dX16_other_135 rfl (by decide) rfl ?_
            refine x_iload_n 2 dX16_other_136 rfl rfl rfl ?_
            refine x_iconst 0 (z := 0) dX16_other_137 rfl (by decide) rfl ?_
            refine x_iconst 0 (z := 0) dX16_other_138 rfl (by decide) rfl ?_
            refine x_iconst 0 (z := 0) dX16_other_139 rfl (by decide) rfl ?_
            refine y_Vi 274 (M := mX16_done) (As := [(0, 0), (0, a2), (0, 0), (0, 0), (0, 0)]) (st := []) dX16_other_140 i65 rfl q2147 q2149 qs50 q383 q2150 rfl hmX16_done rfl rfl rfl rfl rfl rfl rfl rfl (k_mono h (fun r7 w8 h => ?_))
            exact y_iret dX16_other_143 rfl h
          · refine x_aload_n 0 dX16_other_78 rfl rfl rfl rfl rfl ?_
            refine x_iconst 1 (z := 1) dX16_other_79 rfl (by decide) rfl ?_
            refine y_Vi 304 (M := mX16_word) (As := [(0, 1)]) (st := []) dX16_other_80 i65 rfl q2187 q2189 qs58 q383 q2190 rfl hmX16_word rfl rfl rfl rfl rfl rfl rfl rfl (k_mono h (fun r9 w10 h => ?_))
            refine x_iconst 3 (z := 3) dX16_other_83 rfl (by decide) rfl ?_
            refine x_icmp_ne (t := 102) 18 dX16_other_84 rfl rfl (b_ite h (fun hc h => ?_) (fun hc h => ?_))
            · refine x_iconst 0 (z := 0) dX16_other_102 rfl (by decide) rfl ?_
              refine x_istore 4 (ls' := [(2, 65), (0, a1), (0, a2), (0, a3), (0, 0), (9, 0)]) dX16_other_103 rfl rfl rfl ?_
              refine x_aload_n 0 dX16_other_105 rfl rfl rfl rfl rfl ?_
              refine x_iload 4 dX16_other_106 rfl rfl ?_
              refine x_if_eq (t := 135) 27 dX16_other_108 rfl rfl (b_ifT (by decide) ?_)
              refine x_iconst 0 (z := 0) dX16_other_135 rfl (by decide) rfl ?_
              refine x_iload_n 2 dX16_other_136 rfl rfl rfl ?_
              refine x_iconst 0 (z := 0) dX16_other_137 rfl (by decide) rfl ?_
              refine x_iconst 0 (z := 0) dX16_other_138 rfl (by decide) rfl ?_
              refine x_iconst 0 (z := 0) dX16_other_139 rfl (by decide) rfl ?_
              refine y_Vi 274 (M := mX16_done) (As := [(0, 0), (0, a2), (0, 0), (0, 0), (0, 0)]) (st := []) dX16_other_140 i65 rfl q2147 q2149 qs50 q383 q2150 rfl hmX16_done rfl rfl rfl rfl rfl rfl rfl rfl (k_mono h (fun r11 w12 h => ?_))
              exact y_iret dX16_other_143 rfl h
            · refine x_aload_n 0 dX16_other_87 rfl rfl rfl rfl rfl ?_
              refine x_iconst 2 (z := 2) dX16_other_88 rfl (by decide) rfl ?_
              refine y_Vi 304 (M := mX16_word) (As := [(0, 2)]) (st := []) dX16_other_89 i65 rfl q2187 q2189 qs58 q383 q2190 rfl hmX16_word rfl rfl rfl rfl rfl rfl rfl rfl (k_mono h (fun r13 w14 h => ?_))
              refine y_Si 375 (M := mX16_isText) (As := [(0, r13)]) (st := []) dX16_other_92 q2286 q2287 q383 q2288 hmX16_isText rfl rfl rfl rfl rfl rfl rfl rfl (k_mono h (fun r15 w16 h => ?_))
              refine x_if_eq (t := 102) 7 dX16_other_95 rfl rfl (b_ite h (fun hc h => ?_) (fun hc h => ?_))
              · refine x_iconst 0 (z := 0) dX16_other_102 rfl (by decide) rfl ?_
                refine x_istore 4 (ls' := [(2, 65), (0, a1), (0, a2), (0, a3), (0, 0), (9, 0)]) dX16_other_103 rfl rfl rfl ?_
                refine x_aload_n 0 dX16_other_105 rfl rfl rfl rfl rfl ?_
                refine x_iload 4 dX16_other_106 rfl rfl ?_
                refine x_if_eq (t := 135) 27 dX16_other_108 rfl rfl (b_ifT (by decide) ?_)
                refine x_iconst 0 (z := 0) dX16_other_135 rfl (by decide) rfl ?_
                refine x_iload_n 2 dX16_other_136 rfl rfl rfl ?_
                refine x_iconst 0 (z := 0) dX16_other_137 rfl (by decide) rfl ?_
                refine x_iconst 0 (z := 0) dX16_other_138 rfl (by decide) rfl ?_
                refine x_iconst 0 (z := 0) dX16_other_139 rfl (by decide) rfl ?_
                refine y_Vi 274 (M := mX16_done) (As := [(0, 0), (0, a2), (0, 0), (0, 0), (0, 0)]) (st := []) dX16_other_140 i65 rfl q2147 q2149 qs50 q383 q2150 rfl hmX16_done rfl rfl rfl rfl rfl rfl rfl rfl (k_mono h (fun r17 w18 h => ?_))
                exact y_iret dX16_other_143 rfl h
              · refine x_iconst 1 (z := 1) dX16_other_98 rfl (by decide) rfl ?_
                refine x_goto 4 (q := 103) dX16_other_99 rfl ?_
                refine x_istore 4 (ls' := [(2, 65), (0, a1), (0, a2), (0, a3), (0, 1), (9, 0)]) dX16_other_103 rfl rfl rfl ?_
                refine x_aload_n 0 dX16_other_105 rfl rfl rfl rfl rfl ?_
                refine x_iload 4 dX16_other_106 rfl rfl ?_
                refine x_if_eq (t := 135) 27 dX16_other_108 rfl rfl (b_ifF (by decide) ?_)
                refine x_aload_n 0 dX16_other_111 rfl rfl rfl rfl rfl ?_
                refine x_iconst 3 (z := 3) dX16_other_112 rfl (by decide) rfl ?_
                refine x_aload_n 0 dX16_other_113 rfl rfl rfl rfl rfl ?_
                refine y_getF 32 1 (c := 15) (z := 19) dX16_other_114 i65 rfl in_X16 q1100 rfl rfl rfl fn_65_1 (Nat.le_trans (Nat.le_of_ble_eq_true rfl) hn) rfl ?_
                refine x_aload_n 0 dX16_other_117 rfl rfl rfl rfl rfl ?_
                refine x_iconst 2 (z := 2) dX16_other_118 rfl (by decide) rfl ?_
                refine y_Vi 209 (M := mX16_at) (As := [(0, 2)]) (st := [(2, 19), (0, 3), (2, 65), (2, 65)]) dX16_other_119 i65 rfl q2171 q2173 qs54 q383 q2174 rfl hmX16_at rfl rfl rfl rfl rfl rfl rfl rfl (k_mono h (fun r19 w20 h => ?_))
                refine y_Vi 313 (M := mX7_option) (As := [(0, r19)]) (st := [(0, 3), (2, 65), (2, 65)]) dX16_other_122 i19 rfl q2199 q2200 q2201 q374 q2202 rfl hmX7_option rfl rfl rfl rfl rfl rfl rfl rfl (k_mono h (fun r21 w22 h => ?_))
                refine y_Vi 278 (M := mX16_become) (As := [(0, 3), (0, r21)]) (st := [(2, 65)]) dX16_other_125 i65 rfl q2143 q2145 qs49 q383 q2146 rfl hmX16_become rfl rfl rfl rfl rfl rfl rfl rfl (k_mono h (fun r23 w24 h => ?_))
                refine x_if_eq (t := 135) 7 dX16_other_128 rfl rfl (b_ite h (fun hc h => ?_) (fun hc h => ?_))
                · refine x_iconst 0 (z := 0) dX16_other_135 rfl (by decide) rfl ?_
                  refine x_iload_n 2 dX16_other_136 rfl rfl rfl ?_
                  refine x_iconst 0 (z := 0) dX16_other_137 rfl (by decide) rfl ?_
                  refine x_iconst 0 (z := 0) dX16_other_138 rfl (by decide) rfl ?_
                  refine x_iconst 0 (z := 0) dX16_other_139 rfl (by decide) rfl ?_
                  refine y_Vi 274 (M := mX16_done) (As := [(0, 0), (0, a2), (0, 0), (0, 0), (0, 0)]) (st := []) dX16_other_140 i65 rfl q2147 q2149 qs50 q383 q2150 rfl hmX16_done rfl rfl rfl rfl rfl rfl rfl rfl (k_mono h (fun r25 w26 h => ?_))
                  exact y_iret dX16_other_143 rfl h
                · refine x_iconst 1 (z := 1) dX16_other_131 rfl (by decide) rfl ?_
                  refine x_goto 4 (q := 136) dX16_other_132 rfl ?_
                  refine x_iload_n 2 dX16_other_136 rfl rfl rfl ?_
                  refine x_iconst 0 (z := 0) dX16_other_137 rfl (by decide) rfl ?_
                  refine x_iconst 0 (z := 0) dX16_other_138 rfl (by decide) rfl ?_
                  refine x_iconst 0 (z := 0) dX16_other_139 rfl (by decide) rfl ?_
                  refine y_Vi 274 (M := mX16_done) (As := [(0, 1), (0, a2), (0, 0), (0, 0), (0, 0)]) (st := []) dX16_other_140 i65 rfl q2147 q2149 qs50 q383 q2150 rfl hmX16_done rfl rfl rfl rfl rfl rfl rfl rfl (k_mono h (fun r27 w28 h => ?_))
                  exact y_iret dX16_other_143 rfl h
      have e := hc
      exact x_tsI (off := 64) (t := 65) dX16_other_1 (by rw [e]; decide) (by rw [e]; decide) (by rw [e]; rfl) rfl key
    · refine b_itc h (fun hc h => ?_) (fun hn2 h => ?_)
      · have key : b_Y (d + 1) mX16_other n Q X 144 [(2, 65), (0, a1), (0, a2), (0, a3), (9, 0), (9, 0)] [] w := by
          refine x_aload_n 0 dX16_other_144 rfl rfl rfl rfl rfl ?_
          refine x_iconst 0 (z := 0) dX16_other_145 rfl (by decide) rfl ?_
          refine y_Vi 304 (M := mX16_word) (As := [(0, 0)]) (st := []) dX16_other_146 i65 rfl q2187 q2189 qs58 q383 q2190 rfl hmX16_word rfl rfl rfl rfl rfl rfl rfl rfl (k_mono h (fun r29 w30 h => ?_))
          refine x_istore 4 (ls' := [(2, 65), (0, a1), (0, a2), (0, a3), (0, r29), (9, 0)]) dX16_other_149 rfl rfl rfl ?_
          refine x_iload_n 3 dX16_other_151 rfl rfl rfl ?_
          refine x_if_ne (t := 188) 36 dX16_other_152 rfl rfl (b_ite h (fun hc h => ?_) (fun hc h => ?_))
          · refine x_iconst 0 (z := 0) dX16_other_188 rfl (by decide) rfl ?_
            refine x_istore 5 (ls' := [(2, 65), (0, a1), (0, a2), (0, a3), (0, r29), (0, 0)]) dX16_other_189 rfl rfl rfl ?_
            refine x_aload_n 0 dX16_other_191 rfl rfl rfl rfl rfl ?_
            refine x_iload 5 dX16_other_192 rfl rfl ?_
            refine x_if_eq (t := 210) 16 dX16_other_194 rfl rfl (b_ifT (by decide) ?_)
            refine x_iconst 0 (z := 0) dX16_other_210 rfl (by decide) rfl ?_
            refine x_iload_n 2 dX16_other_211 rfl rfl rfl ?_
            refine x_iload 4 dX16_other_212 rfl rfl ?_
            refine x_iconst 0 (z := 0) dX16_other_214 rfl (by decide) rfl ?_
            refine x_iconst 0 (z := 0) dX16_other_215 rfl (by decide) rfl ?_
            refine y_Vi 274 (M := mX16_done) (As := [(0, 0), (0, a2), (0, r29), (0, 0), (0, 0)]) (st := []) dX16_other_216 i65 rfl q2147 q2149 qs50 q383 q2150 rfl hmX16_done rfl rfl rfl rfl rfl rfl rfl rfl (k_mono h (fun r31 w32 h => ?_))
            exact y_iret dX16_other_219 rfl h
          · refine x_iload 4 dX16_other_155 rfl rfl ?_
            refine y_Si 375 (M := mX16_isText) (As := [(0, r29)]) (st := []) dX16_other_157 q2286 q2287 q383 q2288 hmX16_isText rfl rfl rfl rfl rfl rfl rfl rfl (k_mono h (fun r33 w34 h => ?_))
            refine x_if_ne (t := 184) 24 dX16_other_160 rfl rfl (b_ite h (fun hc h => ?_) (fun hc h => ?_))
            · refine x_iconst 1 (z := 1) dX16_other_184 rfl (by decide) rfl ?_
              refine x_goto 4 (q := 189) dX16_other_185 rfl ?_
              refine x_istore 5 (ls' := [(2, 65), (0, a1), (0, a2), (0, a3), (0, r29), (0, 1)]) dX16_other_189 rfl rfl rfl ?_
              refine x_aload_n 0 dX16_other_191 rfl rfl rfl rfl rfl ?_
              refine x_iload 5 dX16_other_192 rfl rfl ?_
              refine x_if_eq (t := 210) 16 dX16_other_194 rfl rfl (b_ifF (by decide) ?_)
              refine x_aload_n 0 dX16_other_197 rfl rfl rfl rfl rfl ?_
              refine x_iconst 1 (z := 1) dX16_other_198 rfl (by decide) rfl ?_
              refine x_iconst 3 (z := 3) dX16_other_199 rfl (by decide) rfl ?_
              refine y_Vi 278 (M := mX16_become) (As := [(0, 1), (0, 3)]) (st := [(2, 65)]) dX16_other_200 i65 rfl q2143 q2145 qs49 q383 q2146 rfl hmX16_become rfl rfl rfl rfl rfl rfl rfl rfl (k_mono h (fun r35 w36 h => ?_))
              refine x_if_eq (t := 210) 7 dX16_other_203 rfl rfl (b_ite h (fun hc h => ?_) (fun hc h => ?_))
              · refine x_iconst 0 (z := 0) dX16_other_210 rfl (by decide) rfl ?_
                refine x_iload_n 2 dX16_other_211 rfl rfl rfl ?_
                refine x_iload 4 dX16_other_212 rfl rfl ?_
                refine x_iconst 0 (z := 0) dX16_other_214 rfl (by decide) rfl ?_
                refine x_iconst 0 (z := 0) dX16_other_215 rfl (by decide) rfl ?_
                refine y_Vi 274 (M := mX16_done) (As := [(0, 0), (0, a2), (0, r29), (0, 0), (0, 0)]) (st := []) dX16_other_216 i65 rfl q2147 q2149 qs50 q383 q2150 rfl hmX16_done rfl rfl rfl rfl rfl rfl rfl rfl (k_mono h (fun r37 w38 h => ?_))
                exact y_iret dX16_other_219 rfl h
              · refine x_iconst 1 (z := 1) dX16_other_206 rfl (by decide) rfl ?_
                refine x_goto 4 (q := 211) dX16_other_207 rfl ?_
                refine x_iload_n 2 dX16_other_211 rfl rfl rfl ?_
                refine x_iload 4 dX16_other_212 rfl rfl ?_
                refine x_iconst 0 (z := 0) dX16_other_214 rfl (by decide) rfl ?_
                refine x_iconst 0 (z := 0) dX16_other_215 rfl (by decide) rfl ?_
                refine y_Vi 274 (M := mX16_done) (As := [(0, 1), (0, a2), (0, r29), (0, 0), (0, 0)]) (st := []) dX16_other_216 i65 rfl q2147 q2149 qs50 q383 q2150 rfl hmX16_done rfl rfl rfl rfl rfl rfl rfl rfl (k_mono h (fun r39 w40 h => ?_))
                exact y_iret dX16_other_219 rfl h
            · refine x_iload 4 dX16_other_163 rfl rfl ?_
              refine x_bipush 11 (z := 11) dX16_other_165 rfl (by decide) rfl ?_
              refine x_icmp_eq (t := 184) 17 dX16_other_167 rfl rfl (b_ite h (fun hc h => ?_) (fun hc h => ?_))
              · refine x_iconst 1 (z := 1) dX16_other_184 rfl (by decide) rfl ?_
                refine x_goto 4 (q := 189) dX16_other_185 rfl ?_
                refine x_istore 5 (ls' := [(2, 65), (0, a1), (0, a2), (0, a3), (0, r29), (0, 1)]) dX16_other_189 rfl rfl rfl ?_
                refine x_aload_n 0 dX16_other_191 rfl rfl rfl rfl rfl ?_
                refine x_iload 5 dX16_other_192 rfl rfl ?_
                refine x_if_eq (t := 210) 16 dX16_other_194 rfl rfl (b_ifF (by decide) ?_)
                refine x_aload_n 0 dX16_other_197 rfl rfl rfl rfl rfl ?_
                refine x_iconst 1 (z := 1) dX16_other_198 rfl (by decide) rfl ?_
                refine x_iconst 3 (z := 3) dX16_other_199 rfl (by decide) rfl ?_
                refine y_Vi 278 (M := mX16_become) (As := [(0, 1), (0, 3)]) (st := [(2, 65)]) dX16_other_200 i65 rfl q2143 q2145 qs49 q383 q2146 rfl hmX16_become rfl rfl rfl rfl rfl rfl rfl rfl (k_mono h (fun r41 w42 h => ?_))
                refine x_if_eq (t := 210) 7 dX16_other_203 rfl rfl (b_ite h (fun hc h => ?_) (fun hc h => ?_))
                · refine x_iconst 0 (z := 0) dX16_other_210 rfl (by decide) rfl ?_
                  refine x_iload_n 2 dX16_other_211 rfl rfl rfl ?_
                  refine x_iload 4 dX16_other_212 rfl rfl ?_
                  refine x_iconst 0 (z := 0) dX16_other_214 rfl (by decide) rfl ?_
                  refine x_iconst 0 (z := 0) dX16_other_215 rfl (by decide) rfl ?_
                  refine y_Vi 274 (M := mX16_done) (As := [(0, 0), (0, a2), (0, r29), (0, 0), (0, 0)]) (st := []) dX16_other_216 i65 rfl q2147 q2149 qs50 q383 q2150 rfl hmX16_done rfl rfl rfl rfl rfl rfl rfl rfl (k_mono h (fun r43 w44 h => ?_))
                  exact y_iret dX16_other_219 rfl h
                · refine x_iconst 1 (z := 1) dX16_other_206 rfl (by decide) rfl ?_
                  refine x_goto 4 (q := 211) dX16_other_207 rfl ?_
                  refine x_iload_n 2 dX16_other_211 rfl rfl rfl ?_
                  refine x_iload 4 dX16_other_212 rfl rfl ?_
                  refine x_iconst 0 (z := 0) dX16_other_214 rfl (by decide) rfl ?_
                  refine x_iconst 0 (z := 0) dX16_other_215 rfl (by decide) rfl ?_
                  refine y_Vi 274 (M := mX16_done) (As := [(0, 1), (0, a2), (0, r29), (0, 0), (0, 0)]) (st := []) dX16_other_216 i65 rfl q2147 q2149 qs50 q383 q2150 rfl hmX16_done rfl rfl rfl rfl rfl rfl rfl rfl (k_mono h (fun r45 w46 h => ?_))
                  exact y_iret dX16_other_219 rfl h
              · refine x_iload 4 dX16_other_170 rfl rfl ?_
                refine x_bipush 12 (z := 12) dX16_other_172 rfl (by decide) rfl ?_
                refine x_icmp_eq (t := 184) 10 dX16_other_174 rfl rfl (b_ite h (fun hc h => ?_) (fun hc h => ?_))
                · refine x_iconst 1 (z := 1) dX16_other_184 rfl (by decide) rfl ?_
                  refine x_goto 4 (q := 189) dX16_other_185 rfl ?_
                  refine x_istore 5 (ls' := [(2, 65), (0, a1), (0, a2), (0, a3), (0, r29), (0, 1)]) dX16_other_189 rfl rfl rfl ?_
                  refine x_aload_n 0 dX16_other_191 rfl rfl rfl rfl rfl ?_
                  refine x_iload 5 dX16_other_192 rfl rfl ?_
                  refine x_if_eq (t := 210) 16 dX16_other_194 rfl rfl (b_ifF (by decide) ?_)
                  refine x_aload_n 0 dX16_other_197 rfl rfl rfl rfl rfl ?_
                  refine x_iconst 1 (z := 1) dX16_other_198 rfl (by decide) rfl ?_
                  refine x_iconst 3 (z := 3) dX16_other_199 rfl (by decide) rfl ?_
                  refine y_Vi 278 (M := mX16_become) (As := [(0, 1), (0, 3)]) (st := [(2, 65)]) dX16_other_200 i65 rfl q2143 q2145 qs49 q383 q2146 rfl hmX16_become rfl rfl rfl rfl rfl rfl rfl rfl (k_mono h (fun r47 w48 h => ?_))
                  refine x_if_eq (t := 210) 7 dX16_other_203 rfl rfl (b_ite h (fun hc h => ?_) (fun hc h => ?_))
                  · refine x_iconst 0 (z := 0) dX16_other_210 rfl (by decide) rfl ?_
                    refine x_iload_n 2 dX16_other_211 rfl rfl rfl ?_
                    refine x_iload 4 dX16_other_212 rfl rfl ?_
                    refine x_iconst 0 (z := 0) dX16_other_214 rfl (by decide) rfl ?_
                    refine x_iconst 0 (z := 0) dX16_other_215 rfl (by decide) rfl ?_
                    refine y_Vi 274 (M := mX16_done) (As := [(0, 0), (0, a2), (0, r29), (0, 0), (0, 0)]) (st := []) dX16_other_216 i65 rfl q2147 q2149 qs50 q383 q2150 rfl hmX16_done rfl rfl rfl rfl rfl rfl rfl rfl (k_mono h (fun r49 w50 h => ?_))
                    exact y_iret dX16_other_219 rfl h
                  · refine x_iconst 1 (z := 1) dX16_other_206 rfl (by decide) rfl ?_
                    refine x_goto 4 (q := 211) dX16_other_207 rfl ?_
                    refine x_iload_n 2 dX16_other_211 rfl rfl rfl ?_
                    refine x_iload 4 dX16_other_212 rfl rfl ?_
                    refine x_iconst 0 (z := 0) dX16_other_214 rfl (by decide) rfl ?_
                    refine x_iconst 0 (z := 0) dX16_other_215 rfl (by decide) rfl ?_
                    refine y_Vi 274 (M := mX16_done) (As := [(0, 1), (0, a2), (0, r29), (0, 0), (0, 0)]) (st := []) dX16_other_216 i65 rfl q2147 q2149 qs50 q383 q2150 rfl hmX16_done rfl rfl rfl rfl rfl rfl rfl rfl (k_mono h (fun r51 w52 h => ?_))
                    exact y_iret dX16_other_219 rfl h
                · refine x_iload 4 dX16_other_177 rfl rfl ?_
                  refine x_bipush 15 (z := 15) dX16_other_179 rfl (by decide) rfl ?_
                  refine x_icmp_ne (t := 188) 7 dX16_other_181 rfl rfl (b_ite h (fun hc h => ?_) (fun hc h => ?_))
                  · refine x_iconst 0 (z := 0) dX16_other_188 rfl (by decide) rfl ?_
                    refine x_istore 5 (ls' := [(2, 65), (0, a1), (0, a2), (0, a3), (0, r29), (0, 0)]) dX16_other_189 rfl rfl rfl ?_
                    refine x_aload_n 0 dX16_other_191 rfl rfl rfl rfl rfl ?_
                    refine x_iload 5 dX16_other_192 rfl rfl ?_
                    refine x_if_eq (t := 210) 16 dX16_other_194 rfl rfl (b_ifT (by decide) ?_)
                    refine x_iconst 0 (z := 0) dX16_other_210 rfl (by decide) rfl ?_
                    refine x_iload_n 2 dX16_other_211 rfl rfl rfl ?_
                    refine x_iload 4 dX16_other_212 rfl rfl ?_
                    refine x_iconst 0 (z := 0) dX16_other_214 rfl (by decide) rfl ?_
                    refine x_iconst 0 (z := 0) dX16_other_215 rfl (by decide) rfl ?_
                    refine y_Vi 274 (M := mX16_done) (As := [(0, 0), (0, a2), (0, r29), (0, 0), (0, 0)]) (st := []) dX16_other_216 i65 rfl q2147 q2149 qs50 q383 q2150 rfl hmX16_done rfl rfl rfl rfl rfl rfl rfl rfl (k_mono h (fun r53 w54 h => ?_))
                    exact y_iret dX16_other_219 rfl h
                  · refine x_iconst 1 (z := 1) dX16_other_184 rfl (by decide) rfl ?_
                    refine x_goto 4 (q := 189) dX16_other_185 rfl ?_
                    refine x_istore 5 (ls' := [(2, 65), (0, a1), (0, a2), (0, a3), (0, r29), (0, 1)]) dX16_other_189 rfl rfl rfl ?_
                    refine x_aload_n 0 dX16_other_191 rfl rfl rfl rfl rfl ?_
                    refine x_iload 5 dX16_other_192 rfl rfl ?_
                    refine x_if_eq (t := 210) 16 dX16_other_194 rfl rfl (b_ifF (by decide) ?_)
                    refine x_aload_n 0 dX16_other_197 rfl rfl rfl rfl rfl ?_
                    refine x_iconst 1 (z := 1) dX16_other_198 rfl (by decide) rfl ?_
                    refine x_iconst 3 (z := 3) dX16_other_199 rfl (by decide) rfl ?_
                    refine y_Vi 278 (M := mX16_become) (As := [(0, 1), (0, 3)]) (st := [(2, 65)]) dX16_other_200 i65 rfl q2143 q2145 qs49 q383 q2146 rfl hmX16_become rfl rfl rfl rfl rfl rfl rfl rfl (k_mono h (fun r55 w56 h => ?_))
                    refine x_if_eq (t := 210) 7 dX16_other_203 rfl rfl (b_ite h (fun hc h => ?_) (fun hc h => ?_))
                    · refine x_iconst 0 (z := 0) dX16_other_210 rfl (by decide) rfl ?_
                      refine x_iload_n 2 dX16_other_211 rfl rfl rfl ?_
                      refine x_iload 4 dX16_other_212 rfl rfl ?_
                      refine x_iconst 0 (z := 0) dX16_other_214 rfl (by decide) rfl ?_
                      refine x_iconst 0 (z := 0) dX16_other_215 rfl (by decide) rfl ?_
                      refine y_Vi 274 (M := mX16_done) (As := [(0, 0), (0, a2), (0, r29), (0, 0), (0, 0)]) (st := []) dX16_other_216 i65 rfl q2147 q2149 qs50 q383 q2150 rfl hmX16_done rfl rfl rfl rfl rfl rfl rfl rfl (k_mono h (fun r57 w58 h => ?_))
                      exact y_iret dX16_other_219 rfl h
                    · refine x_iconst 1 (z := 1) dX16_other_206 rfl (by decide) rfl ?_
                      refine x_goto 4 (q := 211) dX16_other_207 rfl ?_
                      refine x_iload_n 2 dX16_other_211 rfl rfl rfl ?_
                      refine x_iload 4 dX16_other_212 rfl rfl ?_
                      refine x_iconst 0 (z := 0) dX16_other_214 rfl (by decide) rfl ?_
                      refine x_iconst 0 (z := 0) dX16_other_215 rfl (by decide) rfl ?_
                      refine y_Vi 274 (M := mX16_done) (As := [(0, 1), (0, a2), (0, r29), (0, 0), (0, 0)]) (st := []) dX16_other_216 i65 rfl q2147 q2149 qs50 q383 q2150 rfl hmX16_done rfl rfl rfl rfl rfl rfl rfl rfl (k_mono h (fun r59 w60 h => ?_))
                      exact y_iret dX16_other_219 rfl h
        have e := hc
        exact x_tsI (off := 143) (t := 144) dX16_other_1 (by rw [e]; decide) (by rw [e]; decide) (by rw [e]; rfl) rfl key
      · refine b_itc h (fun hc h => ?_) (fun hn3 h => ?_)
        · have key : b_Y (d + 1) mX16_other n Q X 220 [(2, 65), (0, a1), (0, a2), (0, a3), (9, 0), (9, 0)] [] w := by
            refine x_iload_n 3 dX16_other_220 rfl rfl rfl ?_
            refine x_if_ne (t := 232) 11 dX16_other_221 rfl rfl (b_ite h (fun hc h => ?_) (fun hc h => ?_))
            · refine x_iconst 0 (z := 0) dX16_other_232 rfl (by decide) rfl ?_
              exact y_iret dX16_other_233 rfl h
            · refine x_aload_n 0 dX16_other_224 rfl rfl rfl rfl rfl ?_
              refine x_iload_n 2 dX16_other_225 rfl rfl rfl ?_
              refine y_Vi 378 (M := mX16_keyed) (As := [(0, a2)]) (st := []) dX16_other_226 i65 rfl q2289 q2291 qs78 q383 q2292 rfl hmX16_keyed rfl rfl rfl rfl rfl rfl rfl rfl (k_mono h (fun r61 w62 h => ?_))
              refine x_goto 4 (q := 233) dX16_other_229 rfl ?_
              exact y_iret dX16_other_233 rfl h
          rcases hc with e | e | e | e
          · exact x_tsI (off := 219) (t := 220) dX16_other_1 (by rw [e]; decide) (by rw [e]; decide) (by rw [e]; rfl) rfl key
          · exact x_tsI (off := 219) (t := 220) dX16_other_1 (by rw [e]; decide) (by rw [e]; decide) (by rw [e]; rfl) rfl key
          · exact x_tsI (off := 219) (t := 220) dX16_other_1 (by rw [e]; decide) (by rw [e]; decide) (by rw [e]; rfl) rfl key
          · exact x_tsI (off := 219) (t := 220) dX16_other_1 (by rw [e]; decide) (by rw [e]; decide) (by rw [e]; rfl) rfl key
        · refine b_itc h (fun hc h => ?_) (fun hn4 h => ?_)
          · have key : b_Y (d + 1) mX16_other n Q X 234 [(2, 65), (0, a1), (0, a2), (0, a3), (9, 0), (9, 0)] [] w := by
              refine x_iload_n 3 dX16_other_234 rfl rfl rfl ?_
              refine x_if_ne (t := 265) 30 dX16_other_235 rfl rfl (b_ite h (fun hc h => ?_) (fun hc h => ?_))
              · refine x_iconst 0 (z := 0) dX16_other_265 rfl (by decide) rfl ?_
                exact x_fg (fgk (fgd (fgk (fgd (fgk (fgk (fg0))))))) h
              · refine x_aload_n 0 dX16_other_238 rfl rfl rfl rfl rfl ?_
                refine y_get 56 8 (c := 15) (z := w 65 8) dX16_other_239 i65 rfl in_X16 q1107 rfl rfl rfl rfl rfl ?_
                refine x_if_le (t := 265) 23 dX16_other_242 rfl rfl (b_ite h (fun hc h => ?_) (fun hc h => ?_))
                · refine x_iconst 0 (z := 0) dX16_other_265 rfl (by decide) rfl ?_
                  exact x_fg (fgk (fgd (fgk (fgd (fgk (fgk (fg0))))))) h
                · refine x_aload_n 0 dX16_other_245 rfl rfl rfl rfl rfl ?_
                  refine y_getF 32 1 (c := 15) (z := 19) dX16_other_246 i65 rfl in_X16 q1100 rfl rfl rfl fn_65_1 (Nat.le_trans (Nat.le_of_ble_eq_true rfl) hn) rfl ?_
                  refine x_aload_n 0 dX16_other_249 rfl rfl rfl rfl rfl ?_
                  refine x_iconst 0 (z := 0) dX16_other_250 rfl (by decide) rfl ?_
                  refine y_Vi 209 (M := mX16_at) (As := [(0, 0)]) (st := [(2, 19)]) dX16_other_251 i65 rfl q2171 q2173 qs54 q383 q2174 rfl hmX16_at rfl rfl rfl rfl rfl rfl rfl rfl (k_mono h (fun r63 w64 h => ?_))
                  refine x_iconst 2 (z := 2) dX16_other_254 rfl (by decide) rfl ?_
                  refine y_Vi 120 (M := mX7_is) (As := [(0, r63), (0, 2)]) (st := []) dX16_other_255 i19 rfl q1866 q744 q745 q374 q746 rfl hmX7_is rfl rfl rfl rfl rfl rfl rfl rfl (k_mono h (fun r65 w66 h => ?_))
                  refine x_if_eq (t := 265) 7 dX16_other_258 rfl rfl (b_ite h (fun hc h => ?_) (fun hc h => ?_))
                  · refine x_iconst 0 (z := 0) dX16_other_265 rfl (by decide) rfl ?_
                    exact x_fg (fgk (fgd (fgk (fgd (fgk (fgk (fg0))))))) h
                  · refine x_iconst 1 (z := 1) dX16_other_261 rfl (by decide) rfl ?_
                    refine x_goto 4 (q := 266) dX16_other_262 rfl ?_
                    exact x_fg (fgk (fgd (fgk (fgd (fgk (fgk (fg0))))))) h
            have e := hc
            exact x_tsI (off := 233) (t := 234) dX16_other_1 (by rw [e]; decide) (by rw [e]; decide) (by rw [e]; rfl) rfl key
          · refine b_itc h (fun hc h => ?_) (fun hn5 h => ?_)
            · have key : b_Y (d + 1) mX16_other n Q X 314 [(2, 65), (0, a1), (0, a2), (0, a3), (9, 0), (9, 0)] [] w := by
                refine x_iload_n 3 dX16_other_314 rfl rfl rfl ?_
                refine x_iconst 1 (z := 1) dX16_other_315 rfl (by decide) rfl ?_
                refine x_icmp_ne (t := 328) 12 dX16_other_316 rfl rfl (b_ite h (fun hc h => ?_) (fun hc h => ?_))
                · refine x_iconst (-1) (z := (-1)) dX16_other_328 rfl (by decide) rfl ?_
                  exact x_fg (fgk (fgd (fgk (fgd (fgk (fgk (fg0))))))) h
                · refine x_aload_n 0 dX16_other_319 rfl rfl rfl rfl rfl ?_
                  refine x_iload_n 1 dX16_other_320 rfl rfl rfl ?_
                  refine x_iconst 0 (z := 0) dX16_other_321 rfl (by decide) rfl ?_
                  refine y_Vi 285 (M := mX16_typeAt) (As := [(0, a1), (0, 0)]) (st := []) dX16_other_322 i65 rfl q1928 q1930 qs34 q383 q1931 rfl hmX16_typeAt rfl rfl rfl rfl rfl rfl rfl rfl (k_mono h (fun r67 w68 h => ?_))
                  refine x_goto 4 (q := 329) dX16_other_325 rfl ?_
                  exact x_fg (fgk (fgd (fgk (fgd (fgk (fgk (fg0))))))) h
              have e := hc
              exact x_tsI (off := 313) (t := 314) dX16_other_1 (by rw [e]; decide) (by rw [e]; decide) (by rw [e]; rfl) rfl key
            · have key : b_Y (d + 1) mX16_other n Q X 403 [(2, 65), (0, a1), (0, a2), (0, a3), (9, 0), (9, 0)] [] w := by
                refine x_aload_n 0 dX16_other_403 rfl rfl rfl rfl rfl ?_
                refine x_iload_n 1 dX16_other_404 rfl rfl rfl ?_
                refine x_iload_n 2 dX16_other_405 rfl rfl rfl ?_
                refine x_iload_n 3 dX16_other_406 rfl rfl rfl ?_
                refine y_Vi 381 (M := mX16_ledger) (As := [(0, a1), (0, a2), (0, a3)]) (st := []) dX16_other_407 i65 rfl q2293 q2295 qs79 q383 q2296 rfl hmX16_ledger rfl rfl rfl rfl rfl rfl rfl rfl (k_mono h (fun r69 w70 h => ?_))
                exact y_iret dX16_other_410 rfl h
              exact x_tsO (t := 403) dX16_other_1 (by omega) rfl key
theorem sX16_other_266 {d n : Nat} {w : bW} {Q : Int → bW → Prop} {X : String → bW → Prop} (hn : 143 ≤ n) (a2 : Int) (s0 : Int) (h : if s0 = 0 then (if s0 = 0 then (b_K d mX16_done [(2, 65), (0, 0), (0, a2), (0, 0), (0, 0), (0, 0)] n w (fun r1 w2 => Q r1 w2) X) else (b_K d mX16_become [(2, 65), (0, 1), (0, 6)] n w (fun r3 w4 => if r3 = 0 then (b_K d mX16_done [(2, 65), (0, 0), (0, a2), (0, 0), (0, 0), (0, 0)] n w4 (fun r5 w6 => Q r5 w6) X) else (b_K d mX16_done [(2, 65), (0, 1), (0, a2), (0, 0), (0, 0), (0, 0)] n w4 (fun r7 w8 => Q r7 w8) X)) X)) else (b_K d mX16_at [(2, 65), (0, 0)] n w (fun r9 w10 => if s0 = 0 then (b_K d mX16_done [(2, 65), (0, 0), (0, a2), (0, r9), (0, 0), (0, 0)] n w10 (fun r11 w12 => Q r11 w12) X) else (b_K d mX16_become [(2, 65), (0, 1), (0, 6)] n w10 (fun r13 w14 => if r13 = 0 then (b_K d mX16_done [(2, 65), (0, 0), (0, a2), (0, r9), (0, 0), (0, 0)] n w14 (fun r15 w16 => Q r15 w16) X) else (b_K d mX16_done [(2, 65), (0, 1), (0, a2), (0, r9), (0, 0), (0, 0)] n w14 (fun r17 w18 => Q r17 w18) X)) X)) X)) : LX16_other_266 d n Q X a2 s0 w := by
  have i65 := iz65 (Nat.le_trans (Nat.le_of_ble_eq_true rfl) hn)
  refine x_istore 4 (ls' := [(2, 65), (9, 0), (0, a2), (9, 0), (0, s0), (9, 0)]) dX16_other_266 rfl rfl rfl ?_
  refine x_iload 4 dX16_other_268 rfl rfl ?_
  refine x_if_eq (t := 281) 11 dX16_other_270 rfl rfl (b_ite h (fun hc h => ?_) (fun hc h => ?_))
  · refine x_iconst 0 (z := 0) dX16_other_281 rfl (by decide) rfl ?_
    refine x_istore 5 (ls' := [(2, 65), (9, 0), (0, a2), (9, 0), (0, s0), (0, 0)]) dX16_other_282 rfl rfl rfl ?_
    refine x_aload_n 0 dX16_other_284 rfl rfl rfl rfl rfl ?_
    refine x_iload 4 dX16_other_285 rfl rfl ?_
    refine x_if_eq (t := 304) 17 dX16_other_287 rfl rfl (b_ite h (fun hc h => ?_) (fun hc h => ?_))
    · refine x_iconst 0 (z := 0) dX16_other_304 rfl (by decide) rfl ?_
      refine x_iload_n 2 dX16_other_305 rfl rfl rfl ?_
      refine x_iload 5 dX16_other_306 rfl rfl ?_
      refine x_iconst 0 (z := 0) dX16_other_308 rfl (by decide) rfl ?_
      refine x_iconst 0 (z := 0) dX16_other_309 rfl (by decide) rfl ?_
      refine y_Vi 274 (M := mX16_done) (As := [(0, 0), (0, a2), (0, 0), (0, 0), (0, 0)]) (st := []) dX16_other_310 i65 rfl q2147 q2149 qs50 q383 q2150 rfl hmX16_done rfl rfl rfl rfl rfl rfl rfl rfl (k_mono h (fun r1 w2 h => ?_))
      exact y_iret dX16_other_313 rfl h
    · refine x_aload_n 0 dX16_other_290 rfl rfl rfl rfl rfl ?_
      refine x_iconst 1 (z := 1) dX16_other_291 rfl (by decide) rfl ?_
      refine x_bipush 6 (z := 6) dX16_other_292 rfl (by decide) rfl ?_
      refine y_Vi 278 (M := mX16_become) (As := [(0, 1), (0, 6)]) (st := [(2, 65)]) dX16_other_294 i65 rfl q2143 q2145 qs49 q383 q2146 rfl hmX16_become rfl rfl rfl rfl rfl rfl rfl rfl (k_mono h (fun r3 w4 h => ?_))
      refine x_if_eq (t := 304) 7 dX16_other_297 rfl rfl (b_ite h (fun hc h => ?_) (fun hc h => ?_))
      · refine x_iconst 0 (z := 0) dX16_other_304 rfl (by decide) rfl ?_
        refine x_iload_n 2 dX16_other_305 rfl rfl rfl ?_
        refine x_iload 5 dX16_other_306 rfl rfl ?_
        refine x_iconst 0 (z := 0) dX16_other_308 rfl (by decide) rfl ?_
        refine x_iconst 0 (z := 0) dX16_other_309 rfl (by decide) rfl ?_
        refine y_Vi 274 (M := mX16_done) (As := [(0, 0), (0, a2), (0, 0), (0, 0), (0, 0)]) (st := []) dX16_other_310 i65 rfl q2147 q2149 qs50 q383 q2150 rfl hmX16_done rfl rfl rfl rfl rfl rfl rfl rfl (k_mono h (fun r5 w6 h => ?_))
        exact y_iret dX16_other_313 rfl h
      · refine x_iconst 1 (z := 1) dX16_other_300 rfl (by decide) rfl ?_
        refine x_goto 4 (q := 305) dX16_other_301 rfl ?_
        refine x_iload_n 2 dX16_other_305 rfl rfl rfl ?_
        refine x_iload 5 dX16_other_306 rfl rfl ?_
        refine x_iconst 0 (z := 0) dX16_other_308 rfl (by decide) rfl ?_
        refine x_iconst 0 (z := 0) dX16_other_309 rfl (by decide) rfl ?_
        refine y_Vi 274 (M := mX16_done) (As := [(0, 1), (0, a2), (0, 0), (0, 0), (0, 0)]) (st := []) dX16_other_310 i65 rfl q2147 q2149 qs50 q383 q2150 rfl hmX16_done rfl rfl rfl rfl rfl rfl rfl rfl (k_mono h (fun r7 w8 h => ?_))
        exact y_iret dX16_other_313 rfl h
  · refine x_aload_n 0 dX16_other_273 rfl rfl rfl rfl rfl ?_
    refine x_iconst 0 (z := 0) dX16_other_274 rfl (by decide) rfl ?_
    refine y_Vi 209 (M := mX16_at) (As := [(0, 0)]) (st := []) dX16_other_275 i65 rfl q2171 q2173 qs54 q383 q2174 rfl hmX16_at rfl rfl rfl rfl rfl rfl rfl rfl (k_mono h (fun r9 w10 h => ?_))
    refine x_goto 4 (q := 282) dX16_other_278 rfl ?_
    refine x_istore 5 (ls' := [(2, 65), (9, 0), (0, a2), (9, 0), (0, s0), (0, r9)]) dX16_other_282 rfl rfl rfl ?_
    refine x_aload_n 0 dX16_other_284 rfl rfl rfl rfl rfl ?_
    refine x_iload 4 dX16_other_285 rfl rfl ?_
    refine x_if_eq (t := 304) 17 dX16_other_287 rfl rfl (b_ite h (fun hc h => ?_) (fun hc h => ?_))
    · refine x_iconst 0 (z := 0) dX16_other_304 rfl (by decide) rfl ?_
      refine x_iload_n 2 dX16_other_305 rfl rfl rfl ?_
      refine x_iload 5 dX16_other_306 rfl rfl ?_
      refine x_iconst 0 (z := 0) dX16_other_308 rfl (by decide) rfl ?_
      refine x_iconst 0 (z := 0) dX16_other_309 rfl (by decide) rfl ?_
      refine y_Vi 274 (M := mX16_done) (As := [(0, 0), (0, a2), (0, r9), (0, 0), (0, 0)]) (st := []) dX16_other_310 i65 rfl q2147 q2149 qs50 q383 q2150 rfl hmX16_done rfl rfl rfl rfl rfl rfl rfl rfl (k_mono h (fun r11 w12 h => ?_))
      exact y_iret dX16_other_313 rfl h
    · refine x_aload_n 0 dX16_other_290 rfl rfl rfl rfl rfl ?_
      refine x_iconst 1 (z := 1) dX16_other_291 rfl (by decide) rfl ?_
      refine x_bipush 6 (z := 6) dX16_other_292 rfl (by decide) rfl ?_
      refine y_Vi 278 (M := mX16_become) (As := [(0, 1), (0, 6)]) (st := [(2, 65)]) dX16_other_294 i65 rfl q2143 q2145 qs49 q383 q2146 rfl hmX16_become rfl rfl rfl rfl rfl rfl rfl rfl (k_mono h (fun r13 w14 h => ?_))
      refine x_if_eq (t := 304) 7 dX16_other_297 rfl rfl (b_ite h (fun hc h => ?_) (fun hc h => ?_))
      · refine x_iconst 0 (z := 0) dX16_other_304 rfl (by decide) rfl ?_
        refine x_iload_n 2 dX16_other_305 rfl rfl rfl ?_
        refine x_iload 5 dX16_other_306 rfl rfl ?_
        refine x_iconst 0 (z := 0) dX16_other_308 rfl (by decide) rfl ?_
        refine x_iconst 0 (z := 0) dX16_other_309 rfl (by decide) rfl ?_
        refine y_Vi 274 (M := mX16_done) (As := [(0, 0), (0, a2), (0, r9), (0, 0), (0, 0)]) (st := []) dX16_other_310 i65 rfl q2147 q2149 qs50 q383 q2150 rfl hmX16_done rfl rfl rfl rfl rfl rfl rfl rfl (k_mono h (fun r15 w16 h => ?_))
        exact y_iret dX16_other_313 rfl h
      · refine x_iconst 1 (z := 1) dX16_other_300 rfl (by decide) rfl ?_
        refine x_goto 4 (q := 305) dX16_other_301 rfl ?_
        refine x_iload_n 2 dX16_other_305 rfl rfl rfl ?_
        refine x_iload 5 dX16_other_306 rfl rfl ?_
        refine x_iconst 0 (z := 0) dX16_other_308 rfl (by decide) rfl ?_
        refine x_iconst 0 (z := 0) dX16_other_309 rfl (by decide) rfl ?_
        refine y_Vi 274 (M := mX16_done) (As := [(0, 1), (0, a2), (0, r9), (0, 0), (0, 0)]) (st := []) dX16_other_310 i65 rfl q2147 q2149 qs50 q383 q2150 rfl hmX16_done rfl rfl rfl rfl rfl rfl rfl rfl (k_mono h (fun r17 w18 h => ?_))
        exact y_iret dX16_other_313 rfl h
theorem sX16_other_329 {d n : Nat} {w : bW} {Q : Int → bW → Prop} {X : String → bW → Prop} (hn : 143 ≤ n) (a2 : Int) (s0 : Int) (h : if s0 < 0 then (b_K d mX16_done [(2, 65), (0, 0), (0, a2), (0, s0), (0, 0), (0, 0)] n w (fun r1 w2 => Q r1 w2) X) else (b_K d mX7_is [(2, 19), (0, s0), (0, 2)] n w (fun r3 w4 => if r3 = 0 then (b_K d mX16_done [(2, 65), (0, 0), (0, a2), (0, s0), (0, 0), (0, 0)] n w4 (fun r5 w6 => Q r5 w6) X) else (b_K d mX16_word [(2, 65), (0, 0)] n w4 (fun r7 w8 => if r7 ≠ 6 then (b_K d mX16_done [(2, 65), (0, 0), (0, a2), (0, s0), (0, 0), (0, 0)] n w8 (fun r9 w10 => Q r9 w10) X) else (b_K d mX7_option [(2, 19), (0, s0)] n w8 (fun r11 w12 => b_K d mX16_become [(2, 65), (0, 1), (0, r11)] n w12 (fun r13 w14 => if r13 = 0 then (b_K d mX16_done [(2, 65), (0, 0), (0, a2), (0, s0), (0, 0), (0, 0)] n w14 (fun r15 w16 => Q r15 w16) X) else (b_K d mX16_done [(2, 65), (0, 1), (0, a2), (0, s0), (0, 0), (0, 0)] n w14 (fun r17 w18 => Q r17 w18) X)) X) X)) X)) X)) : LX16_other_329 d n Q X a2 s0 w := by
  have i19 := iz19 (Nat.le_trans (Nat.le_of_ble_eq_true rfl) hn)
  have i65 := iz65 (Nat.le_trans (Nat.le_of_ble_eq_true rfl) hn)
  refine x_istore 4 (ls' := [(2, 65), (9, 0), (0, a2), (9, 0), (0, s0), (9, 0)]) dX16_other_329 rfl rfl rfl ?_
  refine x_iload 4 dX16_other_331 rfl rfl ?_
  refine x_if_lt (t := 363) 30 dX16_other_333 rfl rfl (b_ite h (fun hc h => ?_) (fun hc h => ?_))
  · refine x_iconst 0 (z := 0) dX16_other_363 rfl (by decide) rfl ?_
    refine x_istore 5 (ls' := [(2, 65), (9, 0), (0, a2), (9, 0), (0, s0), (0, 0)]) dX16_other_364 rfl rfl rfl ?_
    refine x_aload_n 0 dX16_other_366 rfl rfl rfl rfl rfl ?_
    refine x_iload 5 dX16_other_367 rfl rfl ?_
    refine x_if_eq (t := 393) 24 dX16_other_369 rfl rfl (b_ifT (by decide) ?_)
    refine x_iconst 0 (z := 0) dX16_other_393 rfl (by decide) rfl ?_
    refine x_iload_n 2 dX16_other_394 rfl rfl rfl ?_
    refine x_iload 4 dX16_other_395 rfl rfl ?_
    refine x_iconst 0 (z := 0) dX16_other_397 rfl (by decide) rfl ?_
    refine x_iconst 0 (z := 0) dX16_other_398 rfl (by decide) rfl ?_
    refine y_Vi 274 (M := mX16_done) (As := [(0, 0), (0, a2), (0, s0), (0, 0), (0, 0)]) (st := []) dX16_other_399 i65 rfl q2147 q2149 qs50 q383 q2150 rfl hmX16_done rfl rfl rfl rfl rfl rfl rfl rfl (k_mono h (fun r1 w2 h => ?_))
    exact y_iret dX16_other_402 rfl h
  · refine x_aload_n 0 dX16_other_336 rfl rfl rfl rfl rfl ?_
    refine y_getF 32 1 (c := 15) (z := 19) dX16_other_337 i65 rfl in_X16 q1100 rfl rfl rfl fn_65_1 (Nat.le_trans (Nat.le_of_ble_eq_true rfl) hn) rfl ?_
    refine x_iload 4 dX16_other_340 rfl rfl ?_
    refine x_iconst 2 (z := 2) dX16_other_342 rfl (by decide) rfl ?_
    refine y_Vi 120 (M := mX7_is) (As := [(0, s0), (0, 2)]) (st := []) dX16_other_343 i19 rfl q1866 q744 q745 q374 q746 rfl hmX7_is rfl rfl rfl rfl rfl rfl rfl rfl (k_mono h (fun r3 w4 h => ?_))
    refine x_if_eq (t := 363) 17 dX16_other_346 rfl rfl (b_ite h (fun hc h => ?_) (fun hc h => ?_))
    · refine x_iconst 0 (z := 0) dX16_other_363 rfl (by decide) rfl ?_
      refine x_istore 5 (ls' := [(2, 65), (9, 0), (0, a2), (9, 0), (0, s0), (0, 0)]) dX16_other_364 rfl rfl rfl ?_
      refine x_aload_n 0 dX16_other_366 rfl rfl rfl rfl rfl ?_
      refine x_iload 5 dX16_other_367 rfl rfl ?_
      refine x_if_eq (t := 393) 24 dX16_other_369 rfl rfl (b_ifT (by decide) ?_)
      refine x_iconst 0 (z := 0) dX16_other_393 rfl (by decide) rfl ?_
      refine x_iload_n 2 dX16_other_394 rfl rfl rfl ?_
      refine x_iload 4 dX16_other_395 rfl rfl ?_
      refine x_iconst 0 (z := 0) dX16_other_397 rfl (by decide) rfl ?_
      refine x_iconst 0 (z := 0) dX16_other_398 rfl (by decide) rfl ?_
      refine y_Vi 274 (M := mX16_done) (As := [(0, 0), (0, a2), (0, s0), (0, 0), (0, 0)]) (st := []) dX16_other_399 i65 rfl q2147 q2149 qs50 q383 q2150 rfl hmX16_done rfl rfl rfl rfl rfl rfl rfl rfl (k_mono h (fun r5 w6 h => ?_))
      exact y_iret dX16_other_402 rfl h
    · refine x_aload_n 0 dX16_other_349 rfl rfl rfl rfl rfl ?_
      refine x_iconst 0 (z := 0) dX16_other_350 rfl (by decide) rfl ?_
      refine y_Vi 304 (M := mX16_word) (As := [(0, 0)]) (st := []) dX16_other_351 i65 rfl q2187 q2189 qs58 q383 q2190 rfl hmX16_word rfl rfl rfl rfl rfl rfl rfl rfl (k_mono h (fun r7 w8 h => ?_))
      refine x_bipush 6 (z := 6) dX16_other_354 rfl (by decide) rfl ?_
      refine x_icmp_ne (t := 363) 7 dX16_other_356 rfl rfl (b_ite h (fun hc h => ?_) (fun hc h => ?_))
      · refine x_iconst 0 (z := 0) dX16_other_363 rfl (by decide) rfl ?_
        refine x_istore 5 (ls' := [(2, 65), (9, 0), (0, a2), (9, 0), (0, s0), (0, 0)]) dX16_other_364 rfl rfl rfl ?_
        refine x_aload_n 0 dX16_other_366 rfl rfl rfl rfl rfl ?_
        refine x_iload 5 dX16_other_367 rfl rfl ?_
        refine x_if_eq (t := 393) 24 dX16_other_369 rfl rfl (b_ifT (by decide) ?_)
        refine x_iconst 0 (z := 0) dX16_other_393 rfl (by decide) rfl ?_
        refine x_iload_n 2 dX16_other_394 rfl rfl rfl ?_
        refine x_iload 4 dX16_other_395 rfl rfl ?_
        refine x_iconst 0 (z := 0) dX16_other_397 rfl (by decide) rfl ?_
        refine x_iconst 0 (z := 0) dX16_other_398 rfl (by decide) rfl ?_
        refine y_Vi 274 (M := mX16_done) (As := [(0, 0), (0, a2), (0, s0), (0, 0), (0, 0)]) (st := []) dX16_other_399 i65 rfl q2147 q2149 qs50 q383 q2150 rfl hmX16_done rfl rfl rfl rfl rfl rfl rfl rfl (k_mono h (fun r9 w10 h => ?_))
        exact y_iret dX16_other_402 rfl h
      · refine x_iconst 1 (z := 1) dX16_other_359 rfl (by decide) rfl ?_
        refine x_goto 4 (q := 364) dX16_other_360 rfl ?_
        refine x_istore 5 (ls' := [(2, 65), (9, 0), (0, a2), (9, 0), (0, s0), (0, 1)]) dX16_other_364 rfl rfl rfl ?_
        refine x_aload_n 0 dX16_other_366 rfl rfl rfl rfl rfl ?_
        refine x_iload 5 dX16_other_367 rfl rfl ?_
        refine x_if_eq (t := 393) 24 dX16_other_369 rfl rfl (b_ifF (by decide) ?_)
        refine x_aload_n 0 dX16_other_372 rfl rfl rfl rfl rfl ?_
        refine x_iconst 1 (z := 1) dX16_other_373 rfl (by decide) rfl ?_
        refine x_aload_n 0 dX16_other_374 rfl rfl rfl rfl rfl ?_
        refine y_getF 32 1 (c := 15) (z := 19) dX16_other_375 i65 rfl in_X16 q1100 rfl rfl rfl fn_65_1 (Nat.le_trans (Nat.le_of_ble_eq_true rfl) hn) rfl ?_
        refine x_iload 4 dX16_other_378 rfl rfl ?_
        refine y_Vi 313 (M := mX7_option) (As := [(0, s0)]) (st := [(0, 1), (2, 65), (2, 65)]) dX16_other_380 i19 rfl q2199 q2200 q2201 q374 q2202 rfl hmX7_option rfl rfl rfl rfl rfl rfl rfl rfl (k_mono h (fun r11 w12 h => ?_))
        refine y_Vi 278 (M := mX16_become) (As := [(0, 1), (0, r11)]) (st := [(2, 65)]) dX16_other_383 i65 rfl q2143 q2145 qs49 q383 q2146 rfl hmX16_become rfl rfl rfl rfl rfl rfl rfl rfl (k_mono h (fun r13 w14 h => ?_))
        refine x_if_eq (t := 393) 7 dX16_other_386 rfl rfl (b_ite h (fun hc h => ?_) (fun hc h => ?_))
        · refine x_iconst 0 (z := 0) dX16_other_393 rfl (by decide) rfl ?_
          refine x_iload_n 2 dX16_other_394 rfl rfl rfl ?_
          refine x_iload 4 dX16_other_395 rfl rfl ?_
          refine x_iconst 0 (z := 0) dX16_other_397 rfl (by decide) rfl ?_
          refine x_iconst 0 (z := 0) dX16_other_398 rfl (by decide) rfl ?_
          refine y_Vi 274 (M := mX16_done) (As := [(0, 0), (0, a2), (0, s0), (0, 0), (0, 0)]) (st := []) dX16_other_399 i65 rfl q2147 q2149 qs50 q383 q2150 rfl hmX16_done rfl rfl rfl rfl rfl rfl rfl rfl (k_mono h (fun r15 w16 h => ?_))
          exact y_iret dX16_other_402 rfl h
        · refine x_iconst 1 (z := 1) dX16_other_389 rfl (by decide) rfl ?_
          refine x_goto 4 (q := 394) dX16_other_390 rfl ?_
          refine x_iload_n 2 dX16_other_394 rfl rfl rfl ?_
          refine x_iload 4 dX16_other_395 rfl rfl ?_
          refine x_iconst 0 (z := 0) dX16_other_397 rfl (by decide) rfl ?_
          refine x_iconst 0 (z := 0) dX16_other_398 rfl (by decide) rfl ?_
          refine y_Vi 274 (M := mX16_done) (As := [(0, 1), (0, a2), (0, s0), (0, 0), (0, 0)]) (st := []) dX16_other_399 i65 rfl q2147 q2149 qs50 q383 q2150 rfl hmX16_done rfl rfl rfl rfl rfl rfl rfl rfl (k_mono h (fun r17 w18 h => ?_))
          exact y_iret dX16_other_402 rfl h
theorem rX16_concat {d n : Nat} {w : bW} {Q : Int → bW → Prop} {X : String → bW → Prop} (hn : 143 ≤ n) (h : b_K d mX16_word [(2, 65), (0, 0)] n w (fun r1 w2 => if r1 ≠ 11 then (b_K d mX16_isText [(0, r1)] n w2 (fun r3 w4 => if r3 = 0 then (b_K d mX16_done [(2, 65), (0, 0), (0, 86), (0, (-1)), (0, 0), (0, 0)] n w4 (fun r5 w6 => Q r5 w6) X) else (b_K d mX16_word [(2, 65), (0, 1)] n w4 (fun r7 w8 => if r7 ≠ r1 then (b_K d mX16_done [(2, 65), (0, 0), (0, 86), (0, (-1)), (0, 0), (0, 0)] n w8 (fun r9 w10 => Q r9 w10) X) else (b_K d mX16_become [(2, 65), (0, 2), (0, r1)] n w8 (fun r11 w12 => if r11 = 0 then (b_K d mX16_done [(2, 65), (0, 0), (0, 86), (0, (-1)), (0, 0), (0, 0)] n w12 (fun r13 w14 => Q r13 w14) X) else (b_K d mX16_done [(2, 65), (0, 1), (0, 86), (0, (-1)), (0, 0), (0, 0)] n w12 (fun r15 w16 => Q r15 w16) X)) X)) X)) X) else (b_K d mX16_left [(2, 65), (0, 0)] n w2 (fun r17 w18 => (0 ≤ r17 ∧ r17 < 60000) ∧ (b_K d mX16_isText [(0, w18 20 r17)] n w18 (fun r20 w21 => if r20 = 0 then (b_K d mX16_done [(2, 65), (0, 0), (0, 86), (0, 0), (0, 0), (0, 0)] n w21 (fun r22 w23 => Q r22 w23) X) else (b_K d mX16_become [(2, 65), (0, 1), (0, r17)] n w21 (fun r24 w25 => if r24 = 0 then (b_K d mX16_done [(2, 65), (0, 0), (0, 86), (0, 0), (0, 0), (0, 0)] n w25 (fun r26 w27 => Q r26 w27) X) else (b_K d mX16_done [(2, 65), (0, 1), (0, 86), (0, 0), (0, 0), (0, 0)] n w25 (fun r28 w29 => Q r28 w29) X)) X)) X)) X)) X) : b_K (d + 1) mX16_concat [(2, 65)] n w Q X := by
  have i19 := iz19 (Nat.le_trans (Nat.le_of_ble_eq_true rfl) hn)
  have i20 := iz20 (Nat.le_trans (Nat.le_of_ble_eq_true rfl) hn)
  have i65 := iz65 (Nat.le_trans (Nat.le_of_ble_eq_true rfl) hn)
  refine k_of (by decide) rfl rfl rfl (ls := [(2, 65), (9, 0), (9, 0)]) rfl ?_
  refine x_aload_n 0 dX16_concat_0 rfl rfl rfl rfl rfl ?_
  refine x_iconst 0 (z := 0) dX16_concat_1 rfl (by decide) rfl ?_
  refine y_Vi 304 (M := mX16_word) (As := [(0, 0)]) (st := []) dX16_concat_2 i65 rfl q2187 q2189 qs58 q383 q2190 rfl hmX16_word rfl rfl rfl rfl rfl rfl rfl rfl (k_mono h (fun r1 w2 h => ?_))
  refine x_istore_n 1 (ls' := [(2, 65), (0, r1), (9, 0)]) dX16_concat_5 rfl rfl rfl rfl ?_
  refine x_iload_n 1 dX16_concat_6 rfl rfl rfl ?_
  refine x_bipush 11 (z := 11) dX16_concat_7 rfl (by decide) rfl ?_
  refine x_icmp_ne (t := 57) 48 dX16_concat_9 rfl rfl (b_ite h (fun hc h => ?_) (fun hc h => ?_))
  · refine x_aload_n 0 dX16_concat_57 rfl rfl rfl rfl rfl ?_
    refine x_iload_n 1 dX16_concat_58 rfl rfl rfl ?_
    refine y_Si 375 (M := mX16_isText) (As := [(0, r1)]) (st := [(2, 65)]) dX16_concat_59 q2286 q2287 q383 q2288 hmX16_isText rfl rfl rfl rfl rfl rfl rfl rfl (k_mono h (fun r3 w4 h => ?_))
    refine x_if_eq (t := 87) 25 dX16_concat_62 rfl rfl (b_ite h (fun hc h => ?_) (fun hc h => ?_))
    · refine x_iconst 0 (z := 0) dX16_concat_87 rfl (by decide) rfl ?_
      refine x_bipush 86 (z := 86) dX16_concat_88 rfl (by decide) rfl ?_
      refine x_iconst (-1) (z := (-1)) dX16_concat_90 rfl (by decide) rfl ?_
      refine x_iconst 0 (z := 0) dX16_concat_91 rfl (by decide) rfl ?_
      refine x_iconst 0 (z := 0) dX16_concat_92 rfl (by decide) rfl ?_
      refine y_Vi 274 (M := mX16_done) (As := [(0, 0), (0, 86), (0, (-1)), (0, 0), (0, 0)]) (st := []) dX16_concat_93 i65 rfl q2147 q2149 qs50 q383 q2150 rfl hmX16_done rfl rfl rfl rfl rfl rfl rfl rfl (k_mono h (fun r5 w6 h => ?_))
      exact y_iret dX16_concat_96 rfl h
    · refine x_aload_n 0 dX16_concat_65 rfl rfl rfl rfl rfl ?_
      refine x_iconst 1 (z := 1) dX16_concat_66 rfl (by decide) rfl ?_
      refine y_Vi 304 (M := mX16_word) (As := [(0, 1)]) (st := [(2, 65)]) dX16_concat_67 i65 rfl q2187 q2189 qs58 q383 q2190 rfl hmX16_word rfl rfl rfl rfl rfl rfl rfl rfl (k_mono h (fun r7 w8 h => ?_))
      refine x_iload_n 1 dX16_concat_70 rfl rfl rfl ?_
      refine x_icmp_ne (t := 87) 16 dX16_concat_71 rfl rfl (b_ite h (fun hc h => ?_) (fun hc h => ?_))
      · refine x_iconst 0 (z := 0) dX16_concat_87 rfl (by decide) rfl ?_
        refine x_bipush 86 (z := 86) dX16_concat_88 rfl (by decide) rfl ?_
        refine x_iconst (-1) (z := (-1)) dX16_concat_90 rfl (by decide) rfl ?_
        refine x_iconst 0 (z := 0) dX16_concat_91 rfl (by decide) rfl ?_
        refine x_iconst 0 (z := 0) dX16_concat_92 rfl (by decide) rfl ?_
        refine y_Vi 274 (M := mX16_done) (As := [(0, 0), (0, 86), (0, (-1)), (0, 0), (0, 0)]) (st := []) dX16_concat_93 i65 rfl q2147 q2149 qs50 q383 q2150 rfl hmX16_done rfl rfl rfl rfl rfl rfl rfl rfl (k_mono h (fun r9 w10 h => ?_))
        exact y_iret dX16_concat_96 rfl h
      · refine x_aload_n 0 dX16_concat_74 rfl rfl rfl rfl rfl ?_
        refine x_iconst 2 (z := 2) dX16_concat_75 rfl (by decide) rfl ?_
        refine x_iload_n 1 dX16_concat_76 rfl rfl rfl ?_
        refine y_Vi 278 (M := mX16_become) (As := [(0, 2), (0, r1)]) (st := [(2, 65)]) dX16_concat_77 i65 rfl q2143 q2145 qs49 q383 q2146 rfl hmX16_become rfl rfl rfl rfl rfl rfl rfl rfl (k_mono h (fun r11 w12 h => ?_))
        refine x_if_eq (t := 87) 7 dX16_concat_80 rfl rfl (b_ite h (fun hc h => ?_) (fun hc h => ?_))
        · refine x_iconst 0 (z := 0) dX16_concat_87 rfl (by decide) rfl ?_
          refine x_bipush 86 (z := 86) dX16_concat_88 rfl (by decide) rfl ?_
          refine x_iconst (-1) (z := (-1)) dX16_concat_90 rfl (by decide) rfl ?_
          refine x_iconst 0 (z := 0) dX16_concat_91 rfl (by decide) rfl ?_
          refine x_iconst 0 (z := 0) dX16_concat_92 rfl (by decide) rfl ?_
          refine y_Vi 274 (M := mX16_done) (As := [(0, 0), (0, 86), (0, (-1)), (0, 0), (0, 0)]) (st := []) dX16_concat_93 i65 rfl q2147 q2149 qs50 q383 q2150 rfl hmX16_done rfl rfl rfl rfl rfl rfl rfl rfl (k_mono h (fun r13 w14 h => ?_))
          exact y_iret dX16_concat_96 rfl h
        · refine x_iconst 1 (z := 1) dX16_concat_83 rfl (by decide) rfl ?_
          refine x_goto 4 (q := 88) dX16_concat_84 rfl ?_
          refine x_bipush 86 (z := 86) dX16_concat_88 rfl (by decide) rfl ?_
          refine x_iconst (-1) (z := (-1)) dX16_concat_90 rfl (by decide) rfl ?_
          refine x_iconst 0 (z := 0) dX16_concat_91 rfl (by decide) rfl ?_
          refine x_iconst 0 (z := 0) dX16_concat_92 rfl (by decide) rfl ?_
          refine y_Vi 274 (M := mX16_done) (As := [(0, 1), (0, 86), (0, (-1)), (0, 0), (0, 0)]) (st := []) dX16_concat_93 i65 rfl q2147 q2149 qs50 q383 q2150 rfl hmX16_done rfl rfl rfl rfl rfl rfl rfl rfl (k_mono h (fun r15 w16 h => ?_))
          exact y_iret dX16_concat_96 rfl h
  · refine x_aload_n 0 dX16_concat_12 rfl rfl rfl rfl rfl ?_
    refine x_iconst 0 (z := 0) dX16_concat_13 rfl (by decide) rfl ?_
    refine y_Vi 307 (M := mX16_left) (As := [(0, 0)]) (st := []) dX16_concat_14 i65 rfl q2191 q2193 qs59 q383 q2194 rfl hmX16_left rfl rfl rfl rfl rfl rfl rfl rfl (k_mono h (fun r17 w18 h => ?_))
    refine x_istore_n 2 (ls' := [(2, 65), (0, r1), (0, r17)]) dX16_concat_17 rfl rfl rfl rfl ?_
    refine x_aload_n 0 dX16_concat_18 rfl rfl rfl rfl rfl ?_
    refine x_aload_n 0 dX16_concat_19 rfl rfl rfl rfl rfl ?_
    refine y_getF 32 1 (c := 15) (z := 19) dX16_concat_20 i65 rfl in_X16 q1100 rfl rfl rfl fn_65_1 (Nat.le_trans (Nat.le_of_ble_eq_true rfl) hn) rfl ?_
    refine y_getF 163 0 (c := 6) (z := 20) dX16_concat_23 i19 rfl in_X7 q755 rfl rfl rfl fn_19_0 (Nat.le_trans (Nat.le_of_ble_eq_true rfl) hn) rfl ?_
    refine x_iload_n 2 dX16_concat_26 rfl rfl rfl ?_
    obtain ⟨e19, h⟩ := h
    refine y_bald (z := w18 20 r17) dX16_concat_27 ⟨60000, i20, e19⟩ rfl rfl ?_
    refine y_Si 375 (M := mX16_isText) (As := [(0, w18 20 r17)]) (st := [(2, 65)]) dX16_concat_28 q2286 q2287 q383 q2288 hmX16_isText rfl rfl rfl rfl rfl rfl rfl rfl (k_mono h (fun r20 w21 h => ?_))
    refine x_if_eq (t := 47) 16 dX16_concat_31 rfl rfl (b_ite h (fun hc h => ?_) (fun hc h => ?_))
    · refine x_iconst 0 (z := 0) dX16_concat_47 rfl (by decide) rfl ?_
      refine x_bipush 86 (z := 86) dX16_concat_48 rfl (by decide) rfl ?_
      refine x_iconst 0 (z := 0) dX16_concat_50 rfl (by decide) rfl ?_
      refine x_iconst 0 (z := 0) dX16_concat_51 rfl (by decide) rfl ?_
      refine x_iconst 0 (z := 0) dX16_concat_52 rfl (by decide) rfl ?_
      refine y_Vi 274 (M := mX16_done) (As := [(0, 0), (0, 86), (0, 0), (0, 0), (0, 0)]) (st := []) dX16_concat_53 i65 rfl q2147 q2149 qs50 q383 q2150 rfl hmX16_done rfl rfl rfl rfl rfl rfl rfl rfl (k_mono h (fun r22 w23 h => ?_))
      exact y_iret dX16_concat_56 rfl h
    · refine x_aload_n 0 dX16_concat_34 rfl rfl rfl rfl rfl ?_
      refine x_iconst 1 (z := 1) dX16_concat_35 rfl (by decide) rfl ?_
      refine x_iload_n 2 dX16_concat_36 rfl rfl rfl ?_
      refine y_Vi 278 (M := mX16_become) (As := [(0, 1), (0, r17)]) (st := [(2, 65)]) dX16_concat_37 i65 rfl q2143 q2145 qs49 q383 q2146 rfl hmX16_become rfl rfl rfl rfl rfl rfl rfl rfl (k_mono h (fun r24 w25 h => ?_))
      refine x_if_eq (t := 47) 7 dX16_concat_40 rfl rfl (b_ite h (fun hc h => ?_) (fun hc h => ?_))
      · refine x_iconst 0 (z := 0) dX16_concat_47 rfl (by decide) rfl ?_
        refine x_bipush 86 (z := 86) dX16_concat_48 rfl (by decide) rfl ?_
        refine x_iconst 0 (z := 0) dX16_concat_50 rfl (by decide) rfl ?_
        refine x_iconst 0 (z := 0) dX16_concat_51 rfl (by decide) rfl ?_
        refine x_iconst 0 (z := 0) dX16_concat_52 rfl (by decide) rfl ?_
        refine y_Vi 274 (M := mX16_done) (As := [(0, 0), (0, 86), (0, 0), (0, 0), (0, 0)]) (st := []) dX16_concat_53 i65 rfl q2147 q2149 qs50 q383 q2150 rfl hmX16_done rfl rfl rfl rfl rfl rfl rfl rfl (k_mono h (fun r26 w27 h => ?_))
        exact y_iret dX16_concat_56 rfl h
      · refine x_iconst 1 (z := 1) dX16_concat_43 rfl (by decide) rfl ?_
        refine x_goto 4 (q := 48) dX16_concat_44 rfl ?_
        refine x_bipush 86 (z := 86) dX16_concat_48 rfl (by decide) rfl ?_
        refine x_iconst 0 (z := 0) dX16_concat_50 rfl (by decide) rfl ?_
        refine x_iconst 0 (z := 0) dX16_concat_51 rfl (by decide) rfl ?_
        refine x_iconst 0 (z := 0) dX16_concat_52 rfl (by decide) rfl ?_
        refine y_Vi 274 (M := mX16_done) (As := [(0, 1), (0, 86), (0, 0), (0, 0), (0, 0)]) (st := []) dX16_concat_53 i65 rfl q2147 q2149 qs50 q383 q2150 rfl hmX16_done rfl rfl rfl rfl rfl rfl rfl rfl (k_mono h (fun r28 w29 h => ?_))
        exact y_iret dX16_concat_56 rfl h
theorem rX16_isText {d n : Nat} {w : bW} {Q : Int → bW → Prop} {X : String → bW → Prop} (a0 : Int) (h : if a0 = 5 then (Q 1 w) else (if a0 ≠ 6 then (Q 0 w) else (Q 1 w))) : b_K (d + 1) mX16_isText [(0, a0)] n w Q X := by
  refine k_of (by decide) rfl rfl rfl (ls := [(0, a0)]) rfl ?_
  refine x_iload_n 0 dX16_isText_0 rfl rfl rfl ?_
  refine x_iconst 5 (z := 5) dX16_isText_1 rfl (by decide) rfl ?_
  refine x_icmp_eq (t := 11) 9 dX16_isText_2 rfl rfl (b_ite h (fun hc h => ?_) (fun hc h => ?_))
  · refine x_iconst 1 (z := 1) dX16_isText_11 rfl (by decide) rfl ?_
    refine x_goto 4 (q := 16) dX16_isText_12 rfl ?_
    exact y_zret dX16_isText_16 rfl (by decide) h
  · refine x_iload_n 0 dX16_isText_5 rfl rfl rfl ?_
    refine x_bipush 6 (z := 6) dX16_isText_6 rfl (by decide) rfl ?_
    refine x_icmp_ne (t := 15) 7 dX16_isText_8 rfl rfl (b_ite h (fun hc h => ?_) (fun hc h => ?_))
    · refine x_iconst 0 (z := 0) dX16_isText_15 rfl (by decide) rfl ?_
      exact y_zret dX16_isText_16 rfl (by decide) h
    · refine x_iconst 1 (z := 1) dX16_isText_11 rfl (by decide) rfl ?_
      refine x_goto 4 (q := 16) dX16_isText_12 rfl ?_
      exact y_zret dX16_isText_16 rfl (by decide) h
abbrev LX16_keyed_27 (d n : Nat) (Q : Int → bW → Prop) (X : String → bW → Prop) (a1 : Int) (a2 : Int) (s0 : Int) (w : bW) : Prop := b_Y (d + 1) mX16_keyed n Q X 27 [(2, 65), (0, a1), (0, a2), (9, 0), (9, 0), (9, 0), (9, 0), (9, 0), (9, 0), (9, 0)] [(0, s0)] w
abbrev LX16_keyed_80 (d n : Nat) (Q : Int → bW → Prop) (X : String → bW → Prop) (a1 : Int) (a2 : Int) (a3 : Int) (a5 : Int) (w : bW) : Prop := b_Y (d + 1) mX16_keyed n Q X 80 [(2, 65), (0, a1), (0, a2), (0, a3), (9, 0), (0, a5), (9, 0), (9, 0), (9, 0), (9, 0)] [] w
abbrev LX16_keyed_142 (d n : Nat) (Q : Int → bW → Prop) (X : String → bW → Prop) (a1 : Int) (a2 : Int) (a5 : Int) (a6 : Int) (a7 : Int) (a8 : Int) (s0 : Int) (w : bW) : Prop := b_Y (d + 1) mX16_keyed n Q X 142 [(2, 65), (0, a1), (0, a2), (9, 0), (9, 0), (0, a5), (0, a6), (0, a7), (0, a8), (9, 0)] [(0, s0)] w
abbrev LX16_keyed_179 (d n : Nat) (Q : Int → bW → Prop) (X : String → bW → Prop) (a1 : Int) (a6 : Int) (a7 : Int) (a8 : Int) (a9 : Int) (w : bW) : Prop := b_Y (d + 1) mX16_keyed n Q X 179 [(2, 65), (0, a1), (9, 0), (9, 0), (9, 0), (9, 0), (0, a6), (0, a7), (0, a8), (0, a9)] [] w
theorem rX16_keyed {d n : Nat} {w : bW} {Q : Int → bW → Prop} {X : String → bW → Prop} (hn : 143 ≤ n) (a1 : Int) (h : if a1 = 91 then (LX16_keyed_27 d n Q X a1 1 2 w) else (if a1 ≠ 92 then (LX16_keyed_27 d n Q X a1 0 1 w) else (LX16_keyed_27 d n Q X a1 1 2 w))) : b_K (d + 1) mX16_keyed [(2, 65), (0, a1)] n w Q X := by
  refine k_of (by decide) rfl rfl rfl (ls := [(2, 65), (0, a1), (9, 0), (9, 0), (9, 0), (9, 0), (9, 0), (9, 0), (9, 0), (9, 0)]) rfl ?_
  refine x_iload_n 1 dX16_keyed_0 rfl rfl rfl ?_
  refine x_bipush 91 (z := 91) dX16_keyed_1 rfl (by decide) rfl ?_
  refine x_icmp_eq (t := 12) 9 dX16_keyed_3 rfl rfl (b_ite h (fun hc h => ?_) (fun hc h => ?_))
  · refine x_iconst 1 (z := 1) dX16_keyed_12 rfl (by decide) rfl ?_
    refine x_goto 4 (q := 17) dX16_keyed_13 rfl ?_
    refine x_istore_n 2 (ls' := [(2, 65), (0, a1), (0, 1), (9, 0), (9, 0), (9, 0), (9, 0), (9, 0), (9, 0), (9, 0)]) dX16_keyed_17 rfl rfl rfl rfl ?_
    refine x_iload_n 2 dX16_keyed_18 rfl rfl rfl ?_
    refine x_if_eq (t := 26) 7 dX16_keyed_19 rfl rfl (b_ifF (by decide) ?_)
    refine x_iconst 2 (z := 2) dX16_keyed_22 rfl (by decide) rfl ?_
    refine x_goto 4 (q := 27) dX16_keyed_23 rfl ?_
    exact x_fg (fgk (fgk (fgk (fgk (fgk (fgk (fgk (fgk (fgk (fgk (fg0))))))))))) h
  · refine x_iload_n 1 dX16_keyed_6 rfl rfl rfl ?_
    refine x_bipush 92 (z := 92) dX16_keyed_7 rfl (by decide) rfl ?_
    refine x_icmp_ne (t := 16) 7 dX16_keyed_9 rfl rfl (b_ite h (fun hc h => ?_) (fun hc h => ?_))
    · refine x_iconst 0 (z := 0) dX16_keyed_16 rfl (by decide) rfl ?_
      refine x_istore_n 2 (ls' := [(2, 65), (0, a1), (0, 0), (9, 0), (9, 0), (9, 0), (9, 0), (9, 0), (9, 0), (9, 0)]) dX16_keyed_17 rfl rfl rfl rfl ?_
      refine x_iload_n 2 dX16_keyed_18 rfl rfl rfl ?_
      refine x_if_eq (t := 26) 7 dX16_keyed_19 rfl rfl (b_ifT (by decide) ?_)
      refine x_iconst 1 (z := 1) dX16_keyed_26 rfl (by decide) rfl ?_
      exact x_fg (fgk (fgk (fgk (fgk (fgk (fgk (fgk (fgk (fgk (fgk (fg0))))))))))) h
    · refine x_iconst 1 (z := 1) dX16_keyed_12 rfl (by decide) rfl ?_
      refine x_goto 4 (q := 17) dX16_keyed_13 rfl ?_
      refine x_istore_n 2 (ls' := [(2, 65), (0, a1), (0, 1), (9, 0), (9, 0), (9, 0), (9, 0), (9, 0), (9, 0), (9, 0)]) dX16_keyed_17 rfl rfl rfl rfl ?_
      refine x_iload_n 2 dX16_keyed_18 rfl rfl rfl ?_
      refine x_if_eq (t := 26) 7 dX16_keyed_19 rfl rfl (b_ifF (by decide) ?_)
      refine x_iconst 2 (z := 2) dX16_keyed_22 rfl (by decide) rfl ?_
      refine x_goto 4 (q := 27) dX16_keyed_23 rfl ?_
      exact x_fg (fgk (fgk (fgk (fgk (fgk (fgk (fgk (fgk (fgk (fgk (fg0))))))))))) h
theorem sX16_keyed_27 {d n : Nat} {w : bW} {Q : Int → bW → Prop} {X : String → bW → Prop} (hn : 143 ≤ n) (a1 : Int) (a2 : Int) (s0 : Int) (h : b_K d mX16_word [(2, 65), (0, s0)] n w (fun r1 w2 => if r1 = 15 then (LX16_keyed_80 d n Q X a1 a2 s0 1 w2) else (if r1 ≠ 16 then (if r1 ≠ 12 then (Q 0 w2) else (if a1 = 90 then (Q 0 w2) else (if a1 = 92 then (Q 0 w2) else (LX16_keyed_80 d n Q X a1 a2 s0 0 w2)))) else (LX16_keyed_80 d n Q X a1 a2 s0 1 w2))) X) : LX16_keyed_27 d n Q X a1 a2 s0 w := by
  have i65 := iz65 (Nat.le_trans (Nat.le_of_ble_eq_true rfl) hn)
  refine x_istore_n 3 (ls' := [(2, 65), (0, a1), (0, a2), (0, s0), (9, 0), (9, 0), (9, 0), (9, 0), (9, 0), (9, 0)]) dX16_keyed_27 rfl rfl rfl rfl ?_
  refine x_aload_n 0 dX16_keyed_28 rfl rfl rfl rfl rfl ?_
  refine x_iload_n 3 dX16_keyed_29 rfl rfl rfl ?_
  refine y_Vi 304 (M := mX16_word) (As := [(0, s0)]) (st := []) dX16_keyed_30 i65 rfl q2187 q2189 qs58 q383 q2190 rfl hmX16_word rfl rfl rfl rfl rfl rfl rfl rfl (k_mono h (fun r1 w2 h => ?_))
  refine x_istore 4 (ls' := [(2, 65), (0, a1), (0, a2), (0, s0), (0, r1), (9, 0), (9, 0), (9, 0), (9, 0), (9, 0)]) dX16_keyed_33 rfl rfl rfl ?_
  refine x_iload 4 dX16_keyed_35 rfl rfl ?_
  refine x_bipush 15 (z := 15) dX16_keyed_37 rfl (by decide) rfl ?_
  refine x_icmp_eq (t := 49) 10 dX16_keyed_39 rfl rfl (b_ite h (fun hc h => ?_) (fun hc h => ?_))
  · refine x_iconst 1 (z := 1) dX16_keyed_49 rfl (by decide) rfl ?_
    refine x_goto 4 (q := 54) dX16_keyed_50 rfl ?_
    refine x_istore 5 (ls' := [(2, 65), (0, a1), (0, a2), (0, s0), (0, r1), (0, 1), (9, 0), (9, 0), (9, 0), (9, 0)]) dX16_keyed_54 rfl rfl rfl ?_
    refine x_iload 5 dX16_keyed_56 rfl rfl ?_
    refine x_if_ne (t := 80) 22 dX16_keyed_58 rfl rfl (b_ifT (by decide) ?_)
    exact x_fg (fgk (fgk (fgk (fgk (fgd (fgk (fgk (fgk (fgk (fgk (fg0))))))))))) h
  · refine x_iload 4 dX16_keyed_42 rfl rfl ?_
    refine x_bipush 16 (z := 16) dX16_keyed_44 rfl (by decide) rfl ?_
    refine x_icmp_ne (t := 53) 7 dX16_keyed_46 rfl rfl (b_ite h (fun hc h => ?_) (fun hc h => ?_))
    · refine x_iconst 0 (z := 0) dX16_keyed_53 rfl (by decide) rfl ?_
      refine x_istore 5 (ls' := [(2, 65), (0, a1), (0, a2), (0, s0), (0, r1), (0, 0), (9, 0), (9, 0), (9, 0), (9, 0)]) dX16_keyed_54 rfl rfl rfl ?_
      refine x_iload 5 dX16_keyed_56 rfl rfl ?_
      refine x_if_ne (t := 80) 22 dX16_keyed_58 rfl rfl (b_ifF (by decide) ?_)
      refine x_iload 4 dX16_keyed_61 rfl rfl ?_
      refine x_bipush 12 (z := 12) dX16_keyed_63 rfl (by decide) rfl ?_
      refine x_icmp_ne (t := 93) 28 dX16_keyed_65 rfl rfl (b_ite h (fun hc h => ?_) (fun hc h => ?_))
      · refine x_iconst 0 (z := 0) dX16_keyed_93 rfl (by decide) rfl ?_
        exact y_iret dX16_keyed_94 rfl h
      · refine x_iload_n 1 dX16_keyed_68 rfl rfl rfl ?_
        refine x_bipush 90 (z := 90) dX16_keyed_69 rfl (by decide) rfl ?_
        refine x_icmp_eq (t := 93) 22 dX16_keyed_71 rfl rfl (b_ite h (fun hc h => ?_) (fun hc h => ?_))
        · refine x_iconst 0 (z := 0) dX16_keyed_93 rfl (by decide) rfl ?_
          exact y_iret dX16_keyed_94 rfl h
        · refine x_iload_n 1 dX16_keyed_74 rfl rfl rfl ?_
          refine x_bipush 92 (z := 92) dX16_keyed_75 rfl (by decide) rfl ?_
          refine x_icmp_eq (t := 93) 16 dX16_keyed_77 rfl rfl (b_ite h (fun hc h => ?_) (fun hc h => ?_))
          · refine x_iconst 0 (z := 0) dX16_keyed_93 rfl (by decide) rfl ?_
            exact y_iret dX16_keyed_94 rfl h
          · exact x_fg (fgk (fgk (fgk (fgk (fgd (fgk (fgk (fgk (fgk (fgk (fg0))))))))))) h
    · refine x_iconst 1 (z := 1) dX16_keyed_49 rfl (by decide) rfl ?_
      refine x_goto 4 (q := 54) dX16_keyed_50 rfl ?_
      refine x_istore 5 (ls' := [(2, 65), (0, a1), (0, a2), (0, s0), (0, r1), (0, 1), (9, 0), (9, 0), (9, 0), (9, 0)]) dX16_keyed_54 rfl rfl rfl ?_
      refine x_iload 5 dX16_keyed_56 rfl rfl ?_
      refine x_if_ne (t := 80) 22 dX16_keyed_58 rfl rfl (b_ifT (by decide) ?_)
      exact x_fg (fgk (fgk (fgk (fgk (fgd (fgk (fgk (fgk (fgk (fgk (fg0))))))))))) h
theorem sX16_keyed_80 {d n : Nat} {w : bW} {Q : Int → bW → Prop} {X : String → bW → Prop} (hn : 143 ≤ n) (a1 : Int) (a2 : Int) (a3 : Int) (a5 : Int) (h : b_K d mX16_left [(2, 65), (0, a3)] n w (fun r1 w2 => b_K d mX16_at [(2, 65), (0, 0)] n w2 (fun r3 w4 => if r1 = r3 then (b_K d mX16_at [(2, 65), (0, a3)] n w4 (fun r5 w6 => b_K d mX16_at [(2, 65), (0, 0)] n w6 (fun r7 w8 => if a5 = 0 then (if a5 = 0 then (LX16_keyed_142 d n Q X a1 a2 a5 r5 r7 (-1) 1 w8) else (LX16_keyed_142 d n Q X a1 a2 a5 r5 r7 (-1) 2 w8)) else (b_K d mX16_right [(2, 65), (0, a3)] n w8 (fun r9 w10 => b_K d mX7_option [(2, 19), (0, r9)] n w10 (fun r11 w12 => if a5 = 0 then (LX16_keyed_142 d n Q X a1 a2 a5 r5 r7 r11 1 w12) else (LX16_keyed_142 d n Q X a1 a2 a5 r5 r7 r11 2 w12)) X) X)) X) X) else (Q 0 w4)) X) X) : LX16_keyed_80 d n Q X a1 a2 a3 a5 w := by
  have i19 := iz19 (Nat.le_trans (Nat.le_of_ble_eq_true rfl) hn)
  have i65 := iz65 (Nat.le_trans (Nat.le_of_ble_eq_true rfl) hn)
  refine x_aload_n 0 dX16_keyed_80 rfl rfl rfl rfl rfl ?_
  refine x_iload_n 3 dX16_keyed_81 rfl rfl rfl ?_
  refine y_Vi 307 (M := mX16_left) (As := [(0, a3)]) (st := []) dX16_keyed_82 i65 rfl q2191 q2193 qs59 q383 q2194 rfl hmX16_left rfl rfl rfl rfl rfl rfl rfl rfl (k_mono h (fun r1 w2 h => ?_))
  refine x_aload_n 0 dX16_keyed_85 rfl rfl rfl rfl rfl ?_
  refine x_iconst 0 (z := 0) dX16_keyed_86 rfl (by decide) rfl ?_
  refine y_Vi 209 (M := mX16_at) (As := [(0, 0)]) (st := [(0, r1)]) dX16_keyed_87 i65 rfl q2171 q2173 qs54 q383 q2174 rfl hmX16_at rfl rfl rfl rfl rfl rfl rfl rfl (k_mono h (fun r3 w4 h => ?_))
  refine x_icmp_eq (t := 95) 5 dX16_keyed_90 rfl rfl (b_ite h (fun hc h => ?_) (fun hc h => ?_))
  · refine x_aload_n 0 dX16_keyed_95 rfl rfl rfl rfl rfl ?_
    refine x_iload_n 3 dX16_keyed_96 rfl rfl rfl ?_
    refine y_Vi 209 (M := mX16_at) (As := [(0, a3)]) (st := []) dX16_keyed_97 i65 rfl q2171 q2173 qs54 q383 q2174 rfl hmX16_at rfl rfl rfl rfl rfl rfl rfl rfl (k_mono h (fun r5 w6 h => ?_))
    refine x_istore 6 (ls' := [(2, 65), (0, a1), (0, a2), (0, a3), (9, 0), (0, a5), (0, r5), (9, 0), (9, 0), (9, 0)]) dX16_keyed_100 rfl rfl rfl ?_
    refine x_aload_n 0 dX16_keyed_102 rfl rfl rfl rfl rfl ?_
    refine x_iconst 0 (z := 0) dX16_keyed_103 rfl (by decide) rfl ?_
    refine y_Vi 209 (M := mX16_at) (As := [(0, 0)]) (st := []) dX16_keyed_104 i65 rfl q2171 q2173 qs54 q383 q2174 rfl hmX16_at rfl rfl rfl rfl rfl rfl rfl rfl (k_mono h (fun r7 w8 h => ?_))
    refine x_istore 7 (ls' := [(2, 65), (0, a1), (0, a2), (0, a3), (9, 0), (0, a5), (0, r5), (0, r7), (9, 0), (9, 0)]) dX16_keyed_107 rfl rfl rfl ?_
    refine x_iload 5 dX16_keyed_109 rfl rfl ?_
    refine x_if_eq (t := 129) 18 dX16_keyed_111 rfl rfl (b_ite h (fun hc h => ?_) (fun hc h => ?_))
    · refine x_iconst (-1) (z := (-1)) dX16_keyed_129 rfl (by decide) rfl ?_
      refine x_istore 8 (ls' := [(2, 65), (0, a1), (0, a2), (0, a3), (9, 0), (0, a5), (0, r5), (0, r7), (0, (-1)), (9, 0)]) dX16_keyed_130 rfl rfl rfl ?_
      refine x_iload 5 dX16_keyed_132 rfl rfl ?_
      refine x_if_eq (t := 141) 7 dX16_keyed_134 rfl rfl (b_ite h (fun hc h => ?_) (fun hc h => ?_))
      · refine x_iconst 1 (z := 1) dX16_keyed_141 rfl (by decide) rfl ?_
        exact x_fg (fgk (fgk (fgk (fgd (fgk (fgk (fgk (fgk (fgk (fgk (fg0))))))))))) h
      · refine x_iconst 2 (z := 2) dX16_keyed_137 rfl (by decide) rfl ?_
        refine x_goto 4 (q := 142) dX16_keyed_138 rfl ?_
        exact x_fg (fgk (fgk (fgk (fgd (fgk (fgk (fgk (fgk (fgk (fgk (fg0))))))))))) h
    · refine x_aload_n 0 dX16_keyed_114 rfl rfl rfl rfl rfl ?_
      refine y_getF 32 1 (c := 15) (z := 19) dX16_keyed_115 i65 rfl in_X16 q1100 rfl rfl rfl fn_65_1 (Nat.le_trans (Nat.le_of_ble_eq_true rfl) hn) rfl ?_
      refine x_aload_n 0 dX16_keyed_118 rfl rfl rfl rfl rfl ?_
      refine x_iload_n 3 dX16_keyed_119 rfl rfl rfl ?_
      refine y_Vi 310 (M := mX16_right) (As := [(0, a3)]) (st := [(2, 19)]) dX16_keyed_120 i65 rfl q2195 q2197 qs60 q383 q2198 rfl hmX16_right rfl rfl rfl rfl rfl rfl rfl rfl (k_mono h (fun r9 w10 h => ?_))
      refine y_Vi 313 (M := mX7_option) (As := [(0, r9)]) (st := []) dX16_keyed_123 i19 rfl q2199 q2200 q2201 q374 q2202 rfl hmX7_option rfl rfl rfl rfl rfl rfl rfl rfl (k_mono h (fun r11 w12 h => ?_))
      refine x_goto 4 (q := 130) dX16_keyed_126 rfl ?_
      refine x_istore 8 (ls' := [(2, 65), (0, a1), (0, a2), (0, a3), (9, 0), (0, a5), (0, r5), (0, r7), (0, r11), (9, 0)]) dX16_keyed_130 rfl rfl rfl ?_
      refine x_iload 5 dX16_keyed_132 rfl rfl ?_
      refine x_if_eq (t := 141) 7 dX16_keyed_134 rfl rfl (b_ite h (fun hc h => ?_) (fun hc h => ?_))
      · refine x_iconst 1 (z := 1) dX16_keyed_141 rfl (by decide) rfl ?_
        exact x_fg (fgk (fgk (fgk (fgd (fgk (fgk (fgk (fgk (fgk (fgk (fg0))))))))))) h
      · refine x_iconst 2 (z := 2) dX16_keyed_137 rfl (by decide) rfl ?_
        refine x_goto 4 (q := 142) dX16_keyed_138 rfl ?_
        exact x_fg (fgk (fgk (fgk (fgd (fgk (fgk (fgk (fgk (fgk (fgk (fg0))))))))))) h
  · refine x_iconst 0 (z := 0) dX16_keyed_93 rfl (by decide) rfl ?_
    exact y_iret dX16_keyed_94 rfl h
theorem sX16_keyed_142 {d n : Nat} {w : bW} {Q : Int → bW → Prop} {X : String → bW → Prop} (hn : 143 ≤ n) (a1 : Int) (a2 : Int) (a5 : Int) (a6 : Int) (a7 : Int) (a8 : Int) (s0 : Int) (h : if a5 = 0 then (if a2 = 0 then (LX16_keyed_179 d n Q X a1 a6 a7 a8 s0 w) else (b_K d mX16_at [(2, 65), (0, 1)] n w (fun r1 w2 => if a5 = 0 then (if r1 = 1 then (LX16_keyed_179 d n Q X a1 a6 a7 a8 s0 w2) else (Q 0 w2)) else (if r1 = a8 then (LX16_keyed_179 d n Q X a1 a6 a7 a8 s0 w2) else (Q 0 w2))) X)) else (if a8 < 0 then (Q 0 w) else (if a2 = 0 then (LX16_keyed_179 d n Q X a1 a6 a7 a8 s0 w) else (b_K d mX16_at [(2, 65), (0, 1)] n w (fun r3 w4 => if a5 = 0 then (if r3 = 1 then (LX16_keyed_179 d n Q X a1 a6 a7 a8 s0 w4) else (Q 0 w4)) else (if r3 = a8 then (LX16_keyed_179 d n Q X a1 a6 a7 a8 s0 w4) else (Q 0 w4))) X)))) : LX16_keyed_142 d n Q X a1 a2 a5 a6 a7 a8 s0 w := by
  have i65 := iz65 (Nat.le_trans (Nat.le_of_ble_eq_true rfl) hn)
  refine x_istore 9 (ls' := [(2, 65), (0, a1), (0, a2), (9, 0), (9, 0), (0, a5), (0, a6), (0, a7), (0, a8), (0, s0)]) dX16_keyed_142 rfl rfl rfl ?_
  refine x_iload 5 dX16_keyed_144 rfl rfl ?_
  refine x_if_eq (t := 154) 8 dX16_keyed_146 rfl rfl (b_ite h (fun hc h => ?_) (fun hc h => ?_))
  · refine x_iload_n 2 dX16_keyed_154 rfl rfl rfl ?_
    refine x_if_eq (t := 179) 24 dX16_keyed_155 rfl rfl (b_ite h (fun hc h => ?_) (fun hc h => ?_))
    · exact x_fg (fgk (fgk (fgd (fgk (fgk (fgd (fgk (fgk (fgk (fgk (fg0))))))))))) h
    · refine x_aload_n 0 dX16_keyed_158 rfl rfl rfl rfl rfl ?_
      refine x_iconst 1 (z := 1) dX16_keyed_159 rfl (by decide) rfl ?_
      refine y_Vi 209 (M := mX16_at) (As := [(0, 1)]) (st := []) dX16_keyed_160 i65 rfl q2171 q2173 qs54 q383 q2174 rfl hmX16_at rfl rfl rfl rfl rfl rfl rfl rfl (k_mono h (fun r1 w2 h => ?_))
      refine x_iload 5 dX16_keyed_163 rfl rfl ?_
      refine x_if_eq (t := 173) 8 dX16_keyed_165 rfl rfl (b_ite h (fun hc h => ?_) (fun hc h => ?_))
      · refine x_iconst 1 (z := 1) dX16_keyed_173 rfl (by decide) rfl ?_
        refine x_icmp_eq (t := 179) 5 dX16_keyed_174 rfl rfl (b_ite h (fun hc h => ?_) (fun hc h => ?_))
        · exact x_fg (fgk (fgk (fgd (fgk (fgk (fgd (fgk (fgk (fgk (fgk (fg0))))))))))) h
        · refine x_iconst 0 (z := 0) dX16_keyed_177 rfl (by decide) rfl ?_
          exact y_iret dX16_keyed_178 rfl h
      · refine x_iload 8 dX16_keyed_168 rfl rfl ?_
        refine x_goto 4 (q := 174) dX16_keyed_170 rfl ?_
        refine x_icmp_eq (t := 179) 5 dX16_keyed_174 rfl rfl (b_ite h (fun hc h => ?_) (fun hc h => ?_))
        · exact x_fg (fgk (fgk (fgd (fgk (fgk (fgd (fgk (fgk (fgk (fgk (fg0))))))))))) h
        · refine x_iconst 0 (z := 0) dX16_keyed_177 rfl (by decide) rfl ?_
          exact y_iret dX16_keyed_178 rfl h
  · refine x_iload 8 dX16_keyed_149 rfl rfl ?_
    refine x_if_lt (t := 177) 26 dX16_keyed_151 rfl rfl (b_ite h (fun hc h => ?_) (fun hc h => ?_))
    · refine x_iconst 0 (z := 0) dX16_keyed_177 rfl (by decide) rfl ?_
      exact y_iret dX16_keyed_178 rfl h
    · refine x_iload_n 2 dX16_keyed_154 rfl rfl rfl ?_
      refine x_if_eq (t := 179) 24 dX16_keyed_155 rfl rfl (b_ite h (fun hc h => ?_) (fun hc h => ?_))
      · exact x_fg (fgk (fgk (fgd (fgk (fgk (fgd (fgk (fgk (fgk (fgk (fg0))))))))))) h
      · refine x_aload_n 0 dX16_keyed_158 rfl rfl rfl rfl rfl ?_
        refine x_iconst 1 (z := 1) dX16_keyed_159 rfl (by decide) rfl ?_
        refine y_Vi 209 (M := mX16_at) (As := [(0, 1)]) (st := []) dX16_keyed_160 i65 rfl q2171 q2173 qs54 q383 q2174 rfl hmX16_at rfl rfl rfl rfl rfl rfl rfl rfl (k_mono h (fun r3 w4 h => ?_))
        refine x_iload 5 dX16_keyed_163 rfl rfl ?_
        refine x_if_eq (t := 173) 8 dX16_keyed_165 rfl rfl (b_ite h (fun hc h => ?_) (fun hc h => ?_))
        · refine x_iconst 1 (z := 1) dX16_keyed_173 rfl (by decide) rfl ?_
          refine x_icmp_eq (t := 179) 5 dX16_keyed_174 rfl rfl (b_ite h (fun hc h => ?_) (fun hc h => ?_))
          · exact x_fg (fgk (fgk (fgd (fgk (fgk (fgd (fgk (fgk (fgk (fgk (fg0))))))))))) h
          · refine x_iconst 0 (z := 0) dX16_keyed_177 rfl (by decide) rfl ?_
            exact y_iret dX16_keyed_178 rfl h
        · refine x_iload 8 dX16_keyed_168 rfl rfl ?_
          refine x_goto 4 (q := 174) dX16_keyed_170 rfl ?_
          refine x_icmp_eq (t := 179) 5 dX16_keyed_174 rfl rfl (b_ite h (fun hc h => ?_) (fun hc h => ?_))
          · exact x_fg (fgk (fgk (fgd (fgk (fgk (fgd (fgk (fgk (fgk (fgk (fg0))))))))))) h
          · refine x_iconst 0 (z := 0) dX16_keyed_177 rfl (by decide) rfl ?_
            exact y_iret dX16_keyed_178 rfl h
theorem sX16_keyed_179 {d n : Nat} {w : bW} {Q : Int → bW → Prop} {X : String → bW → Prop} (hn : 143 ≤ n) (a1 : Int) (a6 : Int) (a7 : Int) (a8 : Int) (a9 : Int) (h : if a1 = 89 then (b_K d mX16_become [(2, 65), (0, 2), (0, 1)] n w (fun r1 w2 => b_K d mX16_done [(2, 65), (0, r1), (0, a1), (0, a7), (0, a9), (0, 0)] n w2 (fun r3 w4 => Q r3 w4) X) X) else (if a1 = 90 then (b_K d mX16_become [(2, 65), (0, 2), (0, a8)] n w (fun r5 w6 => b_K d mX16_done [(2, 65), (0, r5), (0, a1), (0, a7), (0, a9), (0, 0)] n w6 (fun r7 w8 => Q r7 w8) X) X) else (if a1 = 91 then (b_K d mX16_become [(2, 65), (0, 3), (0, a6)] n w (fun r9 w10 => b_K d mX16_done [(2, 65), (0, r9), (0, a1), (0, a7), (0, a9), (0, 0)] n w10 (fun r11 w12 => Q r11 w12) X) X) else ((b_K d mX16_become [(2, 65), (0, 0), (0, a6)] n (b_up w 65 8 (b_i ((w 65 8) - 3))) (fun r13 w14 => if r13 = 0 then (b_K d mX16_done [(2, 65), (0, 0), (0, a1), (0, a7), (0, a9), (0, 0)] n w14 (fun r15 w16 => Q r15 w16) X) else (b_K d mX16_become [(2, 65), (0, 0), (0, a8)] n w14 (fun r17 w18 => if r17 = 0 then (b_K d mX16_done [(2, 65), (0, 0), (0, a1), (0, a7), (0, a9), (0, 0)] n w18 (fun r19 w20 => Q r19 w20) X) else (b_K d mX16_done [(2, 65), (0, 1), (0, a1), (0, a7), (0, a9), (0, 0)] n w18 (fun r21 w22 => Q r21 w22) X)) X)) X))))) : LX16_keyed_179 d n Q X a1 a6 a7 a8 a9 w := by
  have i65 := iz65 (Nat.le_trans (Nat.le_of_ble_eq_true rfl) hn)
  refine x_iload_n 1 dX16_keyed_179 rfl rfl rfl ?_
  refine b_itc h (fun hc h => ?_) (fun hn0 h => ?_)
  · have key : b_Y (d + 1) mX16_keyed n Q X 208 [(2, 65), (0, a1), (9, 0), (9, 0), (9, 0), (9, 0), (0, a6), (0, a7), (0, a8), (0, a9)] [] w := by
      refine x_aload_n 0 dX16_keyed_208 rfl rfl rfl rfl rfl ?_
      refine x_aload_n 0 dX16_keyed_209 rfl rfl rfl rfl rfl ?_
      refine x_iconst 2 (z := 2) dX16_keyed_210 rfl (by decide) rfl ?_
      refine x_iconst 1 (z := 1) dX16_keyed_211 rfl (by decide) rfl ?_
      refine y_Vi 278 (M := mX16_become) (As := [(0, 2), (0, 1)]) (st := [(2, 65)]) dX16_keyed_212 i65 rfl q2143 q2145 qs49 q383 q2146 rfl hmX16_become rfl rfl rfl rfl rfl rfl rfl rfl (k_mono h (fun r1 w2 h => ?_))
      refine x_iload_n 1 dX16_keyed_215 rfl rfl rfl ?_
      refine x_iload 7 dX16_keyed_216 rfl rfl ?_
      refine x_iload 9 dX16_keyed_218 rfl rfl ?_
      refine x_iconst 0 (z := 0) dX16_keyed_220 rfl (by decide) rfl ?_
      refine y_Vi 274 (M := mX16_done) (As := [(0, r1), (0, a1), (0, a7), (0, a9), (0, 0)]) (st := []) dX16_keyed_221 i65 rfl q2147 q2149 qs50 q383 q2150 rfl hmX16_done rfl rfl rfl rfl rfl rfl rfl rfl (k_mono h (fun r3 w4 h => ?_))
      exact y_iret dX16_keyed_224 rfl h
    have e := hc
    exact x_tsI (off := 28) (t := 208) dX16_keyed_180 (by rw [e]; decide) (by rw [e]; decide) (by rw [e]; rfl) rfl key
  · refine b_itc h (fun hc h => ?_) (fun hn1 h => ?_)
    · have key : b_Y (d + 1) mX16_keyed n Q X 225 [(2, 65), (0, a1), (9, 0), (9, 0), (9, 0), (9, 0), (0, a6), (0, a7), (0, a8), (0, a9)] [] w := by
        refine x_aload_n 0 dX16_keyed_225 rfl rfl rfl rfl rfl ?_
        refine x_aload_n 0 dX16_keyed_226 rfl rfl rfl rfl rfl ?_
        refine x_iconst 2 (z := 2) dX16_keyed_227 rfl (by decide) rfl ?_
        refine x_iload 8 dX16_keyed_228 rfl rfl ?_
        refine y_Vi 278 (M := mX16_become) (As := [(0, 2), (0, a8)]) (st := [(2, 65)]) dX16_keyed_230 i65 rfl q2143 q2145 qs49 q383 q2146 rfl hmX16_become rfl rfl rfl rfl rfl rfl rfl rfl (k_mono h (fun r5 w6 h => ?_))
        refine x_iload_n 1 dX16_keyed_233 rfl rfl rfl ?_
        refine x_iload 7 dX16_keyed_234 rfl rfl ?_
        refine x_iload 9 dX16_keyed_236 rfl rfl ?_
        refine x_iconst 0 (z := 0) dX16_keyed_238 rfl (by decide) rfl ?_
        refine y_Vi 274 (M := mX16_done) (As := [(0, r5), (0, a1), (0, a7), (0, a9), (0, 0)]) (st := []) dX16_keyed_239 i65 rfl q2147 q2149 qs50 q383 q2150 rfl hmX16_done rfl rfl rfl rfl rfl rfl rfl rfl (k_mono h (fun r7 w8 h => ?_))
        exact y_iret dX16_keyed_242 rfl h
      have e := hc
      exact x_tsI (off := 45) (t := 225) dX16_keyed_180 (by rw [e]; decide) (by rw [e]; decide) (by rw [e]; rfl) rfl key
    · refine b_itc h (fun hc h => ?_) (fun hn2 h => ?_)
      · have key : b_Y (d + 1) mX16_keyed n Q X 243 [(2, 65), (0, a1), (9, 0), (9, 0), (9, 0), (9, 0), (0, a6), (0, a7), (0, a8), (0, a9)] [] w := by
          refine x_aload_n 0 dX16_keyed_243 rfl rfl rfl rfl rfl ?_
          refine x_aload_n 0 dX16_keyed_244 rfl rfl rfl rfl rfl ?_
          refine x_iconst 3 (z := 3) dX16_keyed_245 rfl (by decide) rfl ?_
          refine x_iload 6 dX16_keyed_246 rfl rfl ?_
          refine y_Vi 278 (M := mX16_become) (As := [(0, 3), (0, a6)]) (st := [(2, 65)]) dX16_keyed_248 i65 rfl q2143 q2145 qs49 q383 q2146 rfl hmX16_become rfl rfl rfl rfl rfl rfl rfl rfl (k_mono h (fun r9 w10 h => ?_))
          refine x_iload_n 1 dX16_keyed_251 rfl rfl rfl ?_
          refine x_iload 7 dX16_keyed_252 rfl rfl ?_
          refine x_iload 9 dX16_keyed_254 rfl rfl ?_
          refine x_iconst 0 (z := 0) dX16_keyed_256 rfl (by decide) rfl ?_
          refine y_Vi 274 (M := mX16_done) (As := [(0, r9), (0, a1), (0, a7), (0, a9), (0, 0)]) (st := []) dX16_keyed_257 i65 rfl q2147 q2149 qs50 q383 q2150 rfl hmX16_done rfl rfl rfl rfl rfl rfl rfl rfl (k_mono h (fun r11 w12 h => ?_))
          exact y_iret dX16_keyed_260 rfl h
        have e := hc
        exact x_tsI (off := 63) (t := 243) dX16_keyed_180 (by rw [e]; decide) (by rw [e]; decide) (by rw [e]; rfl) rfl key
      · have key : b_Y (d + 1) mX16_keyed n Q X 261 [(2, 65), (0, a1), (9, 0), (9, 0), (9, 0), (9, 0), (0, a6), (0, a7), (0, a8), (0, a9)] [] w := by
          refine x_aload_n 0 dX16_keyed_261 rfl rfl rfl rfl rfl ?_
          refine x_dup dX16_keyed_262 rfl rfl ?_
          refine y_get 56 8 (c := 15) (z := w 65 8) dX16_keyed_263 i65 rfl in_X16 q1107 rfl rfl rfl rfl rfl ?_
          refine x_iconst 3 (z := 3) dX16_keyed_266 rfl (by decide) rfl ?_
          refine x_isub dX16_keyed_267 rfl ?_
          refine x_put 56 8 (c := 15) dX16_keyed_268 i65 rfl in_X16 tyX16_ok nmX16 q1107 rfl rfl rfl (Or.inl rfl) (Or.inl ⟨rfl, rfl⟩) rfl ?_
          refine x_aload_n 0 dX16_keyed_271 rfl rfl rfl rfl rfl ?_
          refine x_aload_n 0 dX16_keyed_272 rfl rfl rfl rfl rfl ?_
          refine x_iconst 0 (z := 0) dX16_keyed_273 rfl (by decide) rfl ?_
          refine x_iload 6 dX16_keyed_274 rfl rfl ?_
          refine y_Vi 278 (M := mX16_become) (As := [(0, 0), (0, a6)]) (st := [(2, 65)]) dX16_keyed_276 i65 rfl q2143 q2145 qs49 q383 q2146 rfl hmX16_become rfl rfl rfl rfl rfl rfl rfl rfl (k_mono h (fun r13 w14 h => ?_))
          refine x_if_eq (t := 296) 17 dX16_keyed_279 rfl rfl (b_ite h (fun hc h => ?_) (fun hc h => ?_))
          · refine x_iconst 0 (z := 0) dX16_keyed_296 rfl (by decide) rfl ?_
            refine x_iload_n 1 dX16_keyed_297 rfl rfl rfl ?_
            refine x_iload 7 dX16_keyed_298 rfl rfl ?_
            refine x_iload 9 dX16_keyed_300 rfl rfl ?_
            refine x_iconst 0 (z := 0) dX16_keyed_302 rfl (by decide) rfl ?_
            refine y_Vi 274 (M := mX16_done) (As := [(0, 0), (0, a1), (0, a7), (0, a9), (0, 0)]) (st := []) dX16_keyed_303 i65 rfl q2147 q2149 qs50 q383 q2150 rfl hmX16_done rfl rfl rfl rfl rfl rfl rfl rfl (k_mono h (fun r15 w16 h => ?_))
            exact y_iret dX16_keyed_306 rfl h
          · refine x_aload_n 0 dX16_keyed_282 rfl rfl rfl rfl rfl ?_
            refine x_iconst 0 (z := 0) dX16_keyed_283 rfl (by decide) rfl ?_
            refine x_iload 8 dX16_keyed_284 rfl rfl ?_
            refine y_Vi 278 (M := mX16_become) (As := [(0, 0), (0, a8)]) (st := [(2, 65)]) dX16_keyed_286 i65 rfl q2143 q2145 qs49 q383 q2146 rfl hmX16_become rfl rfl rfl rfl rfl rfl rfl rfl (k_mono h (fun r17 w18 h => ?_))
            refine x_if_eq (t := 296) 7 dX16_keyed_289 rfl rfl (b_ite h (fun hc h => ?_) (fun hc h => ?_))
            · refine x_iconst 0 (z := 0) dX16_keyed_296 rfl (by decide) rfl ?_
              refine x_iload_n 1 dX16_keyed_297 rfl rfl rfl ?_
              refine x_iload 7 dX16_keyed_298 rfl rfl ?_
              refine x_iload 9 dX16_keyed_300 rfl rfl ?_
              refine x_iconst 0 (z := 0) dX16_keyed_302 rfl (by decide) rfl ?_
              refine y_Vi 274 (M := mX16_done) (As := [(0, 0), (0, a1), (0, a7), (0, a9), (0, 0)]) (st := []) dX16_keyed_303 i65 rfl q2147 q2149 qs50 q383 q2150 rfl hmX16_done rfl rfl rfl rfl rfl rfl rfl rfl (k_mono h (fun r19 w20 h => ?_))
              exact y_iret dX16_keyed_306 rfl h
            · refine x_iconst 1 (z := 1) dX16_keyed_292 rfl (by decide) rfl ?_
              refine x_goto 4 (q := 297) dX16_keyed_293 rfl ?_
              refine x_iload_n 1 dX16_keyed_297 rfl rfl rfl ?_
              refine x_iload 7 dX16_keyed_298 rfl rfl ?_
              refine x_iload 9 dX16_keyed_300 rfl rfl ?_
              refine x_iconst 0 (z := 0) dX16_keyed_302 rfl (by decide) rfl ?_
              refine y_Vi 274 (M := mX16_done) (As := [(0, 1), (0, a1), (0, a7), (0, a9), (0, 0)]) (st := []) dX16_keyed_303 i65 rfl q2147 q2149 qs50 q383 q2150 rfl hmX16_done rfl rfl rfl rfl rfl rfl rfl rfl (k_mono h (fun r21 w22 h => ?_))
              exact y_iret dX16_keyed_306 rfl h
        exact x_tsO (t := 261) dX16_keyed_180 (by omega) rfl key
theorem rX16_ledger {d n : Nat} {w : bW} {Q : Int → bW → Prop} {X : String → bW → Prop} (hn : 143 ≤ n) (a1 : Int) (a2 : Int) (a3 : Int) (h : if a2 = 95 ∨ a2 = 96 then (if a3 ≠ 0 then (b_K d mX16_done [(2, 65), (0, 0), (0, a2), (0, 0), (0, 0), (0, 0)] n w (fun r1 w2 => Q r1 w2) X) else (b_K d mX16_become [(2, 65), (0, 0), (0, 4)] n w (fun r3 w4 => if r3 = 0 then (b_K d mX16_done [(2, 65), (0, 0), (0, a2), (0, 0), (0, 0), (0, 0)] n w4 (fun r5 w6 => Q r5 w6) X) else (b_K d mX16_done [(2, 65), (0, 1), (0, a2), (0, 0), (0, 0), (0, 0)] n w4 (fun r7 w8 => Q r7 w8) X)) X)) else (if a2 = 97 ∨ a2 = 98 ∨ a2 = 99 then (if a3 ≠ 0 then (b_K d mX16_done [(2, 65), (0, 0), (0, a2), (0, 0), (0, 0), (0, 0)] n w (fun r9 w10 => Q r9 w10) X) else (b_K d mX16_become [(2, 65), (0, 0), (0, 7)] n w (fun r11 w12 => if r11 = 0 then (b_K d mX16_done [(2, 65), (0, 0), (0, a2), (0, 0), (0, 0), (0, 0)] n w12 (fun r13 w14 => Q r13 w14) X) else (b_K d mX16_done [(2, 65), (0, 1), (0, a2), (0, 0), (0, 0), (0, 0)] n w12 (fun r15 w16 => Q r15 w16) X)) X)) else (if a2 = 100 then (if a3 ≠ 0 then (b_K d mX16_done [(2, 65), (0, 0), (0, a2), (0, 0), (0, 0), (0, 0)] n w (fun r17 w18 => Q r17 w18) X) else (b_K d mX16_become [(2, 65), (0, 0), (0, 8)] n w (fun r19 w20 => if r19 = 0 then (b_K d mX16_done [(2, 65), (0, 0), (0, a2), (0, 0), (0, 0), (0, 0)] n w20 (fun r21 w22 => Q r21 w22) X) else (b_K d mX16_done [(2, 65), (0, 1), (0, a2), (0, 0), (0, 0), (0, 0)] n w20 (fun r23 w24 => Q r23 w24) X)) X)) else (if a2 = 101 then (if a3 ≠ 0 then (b_K d mX16_done [(2, 65), (0, 0), (0, a2), (0, 0), (0, 0), (0, 0)] n w (fun r25 w26 => Q r25 w26) X) else (b_K d mX16_become [(2, 65), (0, 0), (0, 3)] n w (fun r27 w28 => if r27 = 0 then (b_K d mX16_done [(2, 65), (0, 0), (0, a2), (0, 0), (0, 0), (0, 0)] n w28 (fun r29 w30 => Q r29 w30) X) else (b_K d mX16_done [(2, 65), (0, 1), (0, a2), (0, 0), (0, 0), (0, 0)] n w28 (fun r31 w32 => Q r31 w32) X)) X)) else (if a2 = 102 then (if a3 ≠ 0 then (Q 0 w) else (if w 65 14 ≠ 0 then (Q 0 w) else (b_K d mX16_self [(2, 65), (0, a1)] n w (fun r33 w34 => Q r33 w34) X))) else (if a2 = 103 then (if a3 ≠ 0 then (b_K d mX16_done [(2, 65), (0, 0), (0, a2), (0, 0), (0, 0), (0, 0)] n w (fun r35 w36 => Q r35 w36) X) else (b_K d mX16_word [(2, 65), (0, 0)] n w (fun r37 w38 => if r37 ≠ 13 then (b_K d mX16_done [(2, 65), (0, 0), (0, a2), (0, 0), (0, 0), (0, 0)] n w38 (fun r39 w40 => Q r39 w40) X) else (b_K d mX16_become [(2, 65), (0, 1), (0, 7)] n w38 (fun r41 w42 => if r41 = 0 then (b_K d mX16_done [(2, 65), (0, 0), (0, a2), (0, 0), (0, 0), (0, 0)] n w42 (fun r43 w44 => Q r43 w44) X) else (b_K d mX16_done [(2, 65), (0, 1), (0, a2), (0, 0), (0, 0), (0, 0)] n w42 (fun r45 w46 => Q r45 w46) X)) X)) X)) else (if a2 = 104 then (if a3 ≠ 1 then (Q 0 w) else (b_K d mX16_contract [(2, 65), (0, a1)] n w (fun r47 w48 => Q r47 w48) X)) else (if a2 = 105 then (if a3 ≠ 0 then (b_K d mX16_done [(2, 65), (0, 0), (0, a2), (0, 0), (0, 0), (0, 0)] n w (fun r49 w50 => Q r49 w50) X) else (b_K d mX16_word [(2, 65), (0, 1)] n w (fun r51 w52 => if r51 ≠ 4 then (b_K d mX16_done [(2, 65), (0, 0), (0, a2), (0, 0), (0, 0), (0, 0)] n w52 (fun r53 w54 => Q r53 w54) X) else (b_K d mX16_word [(2, 65), (0, 2)] n w52 (fun r55 w56 => if r55 ≠ 13 then (b_K d mX16_done [(2, 65), (0, 0), (0, a2), (0, 0), (0, 0), (0, 0)] n w56 (fun r57 w58 => Q r57 w58) X) else (b_K d mX16_left [(2, 65), (0, 2)] n w56 (fun r59 w60 => b_K d mX16_at [(2, 65), (0, 0)] n w60 (fun r61 w62 => if r59 ≠ r61 then (b_K d mX16_done [(2, 65), (0, 0), (0, a2), (0, 0), (0, 0), (0, 0)] n w62 (fun r63 w64 => Q r63 w64) X) else (b_K d mX16_at [(2, 65), (0, 0)] n w62 (fun r65 w66 => b_K d mX7_is [(2, 19), (0, r65), (0, 2)] n w66 (fun r67 w68 => if r67 = 0 then (b_K d mX16_done [(2, 65), (0, 0), (0, a2), (0, 0), (0, 0), (0, 0)] n w68 (fun r69 w70 => Q r69 w70) X) else (b_K d mX16_become [(2, 65), (0, 3), (0, 9)] n w68 (fun r71 w72 => if r71 = 0 then (b_K d mX16_done [(2, 65), (0, 0), (0, a2), (0, 0), (0, 0), (0, 0)] n w72 (fun r73 w74 => Q r73 w74) X) else (b_K d mX16_done [(2, 65), (0, 1), (0, a2), (0, 0), (0, 0), (0, 0)] n w72 (fun r75 w76 => Q r75 w76) X)) X)) X) X)) X) X)) X)) X)) else ((if a3 ≠ 1 then (Q 0 w) else (b_K d mX16_create [(2, 65), (0, a1)] n w (fun r77 w78 => Q r77 w78) X))))))))))) : b_K (d + 1) mX16_ledger [(2, 65), (0, a1), (0, a2), (0, a3)] n w Q X := by
  have i19 := iz19 (Nat.le_trans (Nat.le_of_ble_eq_true rfl) hn)
  have i65 := iz65 (Nat.le_trans (Nat.le_of_ble_eq_true rfl) hn)
  refine k_of (by decide) rfl rfl rfl (ls := [(2, 65), (0, a1), (0, a2), (0, a3), (9, 0)]) rfl ?_
  refine x_iload_n 2 dX16_ledger_0 rfl rfl rfl ?_
  refine b_itc h (fun hc h => ?_) (fun hn0 h => ?_)
  · have key : b_Y (d + 1) mX16_ledger n Q X 60 [(2, 65), (0, a1), (0, a2), (0, a3), (9, 0)] [] w := by
      refine x_aload_n 0 dX16_ledger_60 rfl rfl rfl rfl rfl ?_
      refine x_iload_n 3 dX16_ledger_61 rfl rfl rfl ?_
      refine x_if_ne (t := 78) 16 dX16_ledger_62 rfl rfl (b_ite h (fun hc h => ?_) (fun hc h => ?_))
      · refine x_iconst 0 (z := 0) dX16_ledger_78 rfl (by decide) rfl ?_
        refine x_iload_n 2 dX16_ledger_79 rfl rfl rfl ?_
        refine x_iconst 0 (z := 0) dX16_ledger_80 rfl (by decide) rfl ?_
        refine x_iconst 0 (z := 0) dX16_ledger_81 rfl (by decide) rfl ?_
        refine x_iconst 0 (z := 0) dX16_ledger_82 rfl (by decide) rfl ?_
        refine y_Vi 274 (M := mX16_done) (As := [(0, 0), (0, a2), (0, 0), (0, 0), (0, 0)]) (st := []) dX16_ledger_83 i65 rfl q2147 q2149 qs50 q383 q2150 rfl hmX16_done rfl rfl rfl rfl rfl rfl rfl rfl (k_mono h (fun r1 w2 h => ?_))
        exact y_iret dX16_ledger_86 rfl h
      · refine x_aload_n 0 dX16_ledger_65 rfl rfl rfl rfl rfl ?_
        refine x_iconst 0 (z := 0) dX16_ledger_66 rfl (by decide) rfl ?_
        refine x_iconst 4 (z := 4) dX16_ledger_67 rfl (by decide) rfl ?_
        refine y_Vi 278 (M := mX16_become) (As := [(0, 0), (0, 4)]) (st := [(2, 65)]) dX16_ledger_68 i65 rfl q2143 q2145 qs49 q383 q2146 rfl hmX16_become rfl rfl rfl rfl rfl rfl rfl rfl (k_mono h (fun r3 w4 h => ?_))
        refine x_if_eq (t := 78) 7 dX16_ledger_71 rfl rfl (b_ite h (fun hc h => ?_) (fun hc h => ?_))
        · refine x_iconst 0 (z := 0) dX16_ledger_78 rfl (by decide) rfl ?_
          refine x_iload_n 2 dX16_ledger_79 rfl rfl rfl ?_
          refine x_iconst 0 (z := 0) dX16_ledger_80 rfl (by decide) rfl ?_
          refine x_iconst 0 (z := 0) dX16_ledger_81 rfl (by decide) rfl ?_
          refine x_iconst 0 (z := 0) dX16_ledger_82 rfl (by decide) rfl ?_
          refine y_Vi 274 (M := mX16_done) (As := [(0, 0), (0, a2), (0, 0), (0, 0), (0, 0)]) (st := []) dX16_ledger_83 i65 rfl q2147 q2149 qs50 q383 q2150 rfl hmX16_done rfl rfl rfl rfl rfl rfl rfl rfl (k_mono h (fun r5 w6 h => ?_))
          exact y_iret dX16_ledger_86 rfl h
        · refine x_iconst 1 (z := 1) dX16_ledger_74 rfl (by decide) rfl ?_
          refine x_goto 4 (q := 79) dX16_ledger_75 rfl ?_
          refine x_iload_n 2 dX16_ledger_79 rfl rfl rfl ?_
          refine x_iconst 0 (z := 0) dX16_ledger_80 rfl (by decide) rfl ?_
          refine x_iconst 0 (z := 0) dX16_ledger_81 rfl (by decide) rfl ?_
          refine x_iconst 0 (z := 0) dX16_ledger_82 rfl (by decide) rfl ?_
          refine y_Vi 274 (M := mX16_done) (As := [(0, 1), (0, a2), (0, 0), (0, 0), (0, 0)]) (st := []) dX16_ledger_83 i65 rfl q2147 q2149 qs50 q383 q2150 rfl hmX16_done rfl rfl rfl rfl rfl rfl rfl rfl (k_mono h (fun r7 w8 h => ?_))
          exact y_iret dX16_ledger_86 rfl h
    rcases hc with e | e
    · exact x_tsI (off := 59) (t := 60) dX16_ledger_1 (by rw [e]; decide) (by rw [e]; decide) (by rw [e]; rfl) rfl key
    · exact x_tsI (off := 59) (t := 60) dX16_ledger_1 (by rw [e]; decide) (by rw [e]; decide) (by rw [e]; rfl) rfl key
  · refine b_itc h (fun hc h => ?_) (fun hn1 h => ?_)
    · have key : b_Y (d + 1) mX16_ledger n Q X 87 [(2, 65), (0, a1), (0, a2), (0, a3), (9, 0)] [] w := by
        refine x_aload_n 0 dX16_ledger_87 rfl rfl rfl rfl rfl ?_
        refine x_iload_n 3 dX16_ledger_88 rfl rfl rfl ?_
        refine x_if_ne (t := 106) 17 dX16_ledger_89 rfl rfl (b_ite h (fun hc h => ?_) (fun hc h => ?_))
        · refine x_iconst 0 (z := 0) dX16_ledger_106 rfl (by decide) rfl ?_
          refine x_iload_n 2 dX16_ledger_107 rfl rfl rfl ?_
          refine x_iconst 0 (z := 0) dX16_ledger_108 rfl (by decide) rfl ?_
          refine x_iconst 0 (z := 0) dX16_ledger_109 rfl (by decide) rfl ?_
          refine x_iconst 0 (z := 0) dX16_ledger_110 rfl (by decide) rfl ?_
          refine y_Vi 274 (M := mX16_done) (As := [(0, 0), (0, a2), (0, 0), (0, 0), (0, 0)]) (st := []) dX16_ledger_111 i65 rfl q2147 q2149 qs50 q383 q2150 rfl hmX16_done rfl rfl rfl rfl rfl rfl rfl rfl (k_mono h (fun r9 w10 h => ?_))
          exact y_iret dX16_ledger_114 rfl h
        · refine x_aload_n 0 dX16_ledger_92 rfl rfl rfl rfl rfl ?_
          refine x_iconst 0 (z := 0) dX16_ledger_93 rfl (by decide) rfl ?_
          refine x_bipush 7 (z := 7) dX16_ledger_94 rfl (by decide) rfl ?_
          refine y_Vi 278 (M := mX16_become) (As := [(0, 0), (0, 7)]) (st := [(2, 65)]) dX16_ledger_96 i65 rfl q2143 q2145 qs49 q383 q2146 rfl hmX16_become rfl rfl rfl rfl rfl rfl rfl rfl (k_mono h (fun r11 w12 h => ?_))
          refine x_if_eq (t := 106) 7 dX16_ledger_99 rfl rfl (b_ite h (fun hc h => ?_) (fun hc h => ?_))
          · refine x_iconst 0 (z := 0) dX16_ledger_106 rfl (by decide) rfl ?_
            refine x_iload_n 2 dX16_ledger_107 rfl rfl rfl ?_
            refine x_iconst 0 (z := 0) dX16_ledger_108 rfl (by decide) rfl ?_
            refine x_iconst 0 (z := 0) dX16_ledger_109 rfl (by decide) rfl ?_
            refine x_iconst 0 (z := 0) dX16_ledger_110 rfl (by decide) rfl ?_
            refine y_Vi 274 (M := mX16_done) (As := [(0, 0), (0, a2), (0, 0), (0, 0), (0, 0)]) (st := []) dX16_ledger_111 i65 rfl q2147 q2149 qs50 q383 q2150 rfl hmX16_done rfl rfl rfl rfl rfl rfl rfl rfl (k_mono h (fun r13 w14 h => ?_))
            exact y_iret dX16_ledger_114 rfl h
          · refine x_iconst 1 (z := 1) dX16_ledger_102 rfl (by decide) rfl ?_
            refine x_goto 4 (q := 107) dX16_ledger_103 rfl ?_
            refine x_iload_n 2 dX16_ledger_107 rfl rfl rfl ?_
            refine x_iconst 0 (z := 0) dX16_ledger_108 rfl (by decide) rfl ?_
            refine x_iconst 0 (z := 0) dX16_ledger_109 rfl (by decide) rfl ?_
            refine x_iconst 0 (z := 0) dX16_ledger_110 rfl (by decide) rfl ?_
            refine y_Vi 274 (M := mX16_done) (As := [(0, 1), (0, a2), (0, 0), (0, 0), (0, 0)]) (st := []) dX16_ledger_111 i65 rfl q2147 q2149 qs50 q383 q2150 rfl hmX16_done rfl rfl rfl rfl rfl rfl rfl rfl (k_mono h (fun r15 w16 h => ?_))
            exact y_iret dX16_ledger_114 rfl h
      rcases hc with e | e | e
      · exact x_tsI (off := 86) (t := 87) dX16_ledger_1 (by rw [e]; decide) (by rw [e]; decide) (by rw [e]; rfl) rfl key
      · exact x_tsI (off := 86) (t := 87) dX16_ledger_1 (by rw [e]; decide) (by rw [e]; decide) (by rw [e]; rfl) rfl key
      · exact x_tsI (off := 86) (t := 87) dX16_ledger_1 (by rw [e]; decide) (by rw [e]; decide) (by rw [e]; rfl) rfl key
    · refine b_itc h (fun hc h => ?_) (fun hn2 h => ?_)
      · have key : b_Y (d + 1) mX16_ledger n Q X 115 [(2, 65), (0, a1), (0, a2), (0, a3), (9, 0)] [] w := by
          refine x_aload_n 0 dX16_ledger_115 rfl rfl rfl rfl rfl ?_
          refine x_iload_n 3 dX16_ledger_116 rfl rfl rfl ?_
          refine x_if_ne (t := 134) 17 dX16_ledger_117 rfl rfl (b_ite h (fun hc h => ?_) (fun hc h => ?_))
          · refine x_iconst 0 (z := 0) dX16_ledger_134 rfl (by decide) rfl ?_
            refine x_iload_n 2 dX16_ledger_135 rfl rfl rfl ?_
            refine x_iconst 0 (z := 0) dX16_ledger_136 rfl (by decide) rfl ?_
            refine x_iconst 0 (z := 0) dX16_ledger_137 rfl (by decide) rfl ?_
            refine x_iconst 0 (z := 0) dX16_ledger_138 rfl (by decide) rfl ?_
            refine y_Vi 274 (M := mX16_done) (As := [(0, 0), (0, a2), (0, 0), (0, 0), (0, 0)]) (st := []) dX16_ledger_139 i65 rfl q2147 q2149 qs50 q383 q2150 rfl hmX16_done rfl rfl rfl rfl rfl rfl rfl rfl (k_mono h (fun r17 w18 h => ?_))
            exact y_iret dX16_ledger_142 rfl h
          · refine x_aload_n 0 dX16_ledger_120 rfl rfl rfl rfl rfl ?_
            refine x_iconst 0 (z := 0) dX16_ledger_121 rfl (by decide) rfl ?_
            refine x_bipush 8 (z := 8) dX16_ledger_122 rfl (by decide) rfl ?_
            refine y_Vi 278 (M := mX16_become) (As := [(0, 0), (0, 8)]) (st := [(2, 65)]) dX16_ledger_124 i65 rfl q2143 q2145 qs49 q383 q2146 rfl hmX16_become rfl rfl rfl rfl rfl rfl rfl rfl (k_mono h (fun r19 w20 h => ?_))
            refine x_if_eq (t := 134) 7 dX16_ledger_127 rfl rfl (b_ite h (fun hc h => ?_) (fun hc h => ?_))
            · refine x_iconst 0 (z := 0) dX16_ledger_134 rfl (by decide) rfl ?_
              refine x_iload_n 2 dX16_ledger_135 rfl rfl rfl ?_
              refine x_iconst 0 (z := 0) dX16_ledger_136 rfl (by decide) rfl ?_
              refine x_iconst 0 (z := 0) dX16_ledger_137 rfl (by decide) rfl ?_
              refine x_iconst 0 (z := 0) dX16_ledger_138 rfl (by decide) rfl ?_
              refine y_Vi 274 (M := mX16_done) (As := [(0, 0), (0, a2), (0, 0), (0, 0), (0, 0)]) (st := []) dX16_ledger_139 i65 rfl q2147 q2149 qs50 q383 q2150 rfl hmX16_done rfl rfl rfl rfl rfl rfl rfl rfl (k_mono h (fun r21 w22 h => ?_))
              exact y_iret dX16_ledger_142 rfl h
            · refine x_iconst 1 (z := 1) dX16_ledger_130 rfl (by decide) rfl ?_
              refine x_goto 4 (q := 135) dX16_ledger_131 rfl ?_
              refine x_iload_n 2 dX16_ledger_135 rfl rfl rfl ?_
              refine x_iconst 0 (z := 0) dX16_ledger_136 rfl (by decide) rfl ?_
              refine x_iconst 0 (z := 0) dX16_ledger_137 rfl (by decide) rfl ?_
              refine x_iconst 0 (z := 0) dX16_ledger_138 rfl (by decide) rfl ?_
              refine y_Vi 274 (M := mX16_done) (As := [(0, 1), (0, a2), (0, 0), (0, 0), (0, 0)]) (st := []) dX16_ledger_139 i65 rfl q2147 q2149 qs50 q383 q2150 rfl hmX16_done rfl rfl rfl rfl rfl rfl rfl rfl (k_mono h (fun r23 w24 h => ?_))
              exact y_iret dX16_ledger_142 rfl h
        have e := hc
        exact x_tsI (off := 114) (t := 115) dX16_ledger_1 (by rw [e]; decide) (by rw [e]; decide) (by rw [e]; rfl) rfl key
      · refine b_itc h (fun hc h => ?_) (fun hn3 h => ?_)
        · have key : b_Y (d + 1) mX16_ledger n Q X 143 [(2, 65), (0, a1), (0, a2), (0, a3), (9, 0)] [] w := by
            refine x_aload_n 0 dX16_ledger_143 rfl rfl rfl rfl rfl ?_
            refine x_iload_n 3 dX16_ledger_144 rfl rfl rfl ?_
            refine x_if_ne (t := 161) 16 dX16_ledger_145 rfl rfl (b_ite h (fun hc h => ?_) (fun hc h => ?_))
            · refine x_iconst 0 (z := 0) dX16_ledger_161 rfl (by decide) rfl ?_
              refine x_iload_n 2 dX16_ledger_162 rfl rfl rfl ?_
              refine x_iconst 0 (z := 0) dX16_ledger_163 rfl (by decide) rfl ?_
              refine x_iconst 0 (z := 0) dX16_ledger_164 rfl (by decide) rfl ?_
              refine x_iconst 0 (z := 0) dX16_ledger_165 rfl (by decide) rfl ?_
              refine y_Vi 274 (M := mX16_done) (As := [(0, 0), (0, a2), (0, 0), (0, 0), (0, 0)]) (st := []) dX16_ledger_166 i65 rfl q2147 q2149 qs50 q383 q2150 rfl hmX16_done rfl rfl rfl rfl rfl rfl rfl rfl (k_mono h (fun r25 w26 h => ?_))
              exact y_iret dX16_ledger_169 rfl h
            · refine x_aload_n 0 dX16_ledger_148 rfl rfl rfl rfl rfl ?_
              refine x_iconst 0 (z := 0) dX16_ledger_149 rfl (by decide) rfl ?_
              refine x_iconst 3 (z := 3) dX16_ledger_150 rfl (by decide) rfl ?_
              refine y_Vi 278 (M := mX16_become) (As := [(0, 0), (0, 3)]) (st := [(2, 65)]) dX16_ledger_151 i65 rfl q2143 q2145 qs49 q383 q2146 rfl hmX16_become rfl rfl rfl rfl rfl rfl rfl rfl (k_mono h (fun r27 w28 h => ?_))
              refine x_if_eq (t := 161) 7 dX16_ledger_154 rfl rfl (b_ite h (fun hc h => ?_) (fun hc h => ?_))
              · refine x_iconst 0 (z := 0) dX16_ledger_161 rfl (by decide) rfl ?_
                refine x_iload_n 2 dX16_ledger_162 rfl rfl rfl ?_
                refine x_iconst 0 (z := 0) dX16_ledger_163 rfl (by decide) rfl ?_
                refine x_iconst 0 (z := 0) dX16_ledger_164 rfl (by decide) rfl ?_
                refine x_iconst 0 (z := 0) dX16_ledger_165 rfl (by decide) rfl ?_
                refine y_Vi 274 (M := mX16_done) (As := [(0, 0), (0, a2), (0, 0), (0, 0), (0, 0)]) (st := []) dX16_ledger_166 i65 rfl q2147 q2149 qs50 q383 q2150 rfl hmX16_done rfl rfl rfl rfl rfl rfl rfl rfl (k_mono h (fun r29 w30 h => ?_))
                exact y_iret dX16_ledger_169 rfl h
              · refine x_iconst 1 (z := 1) dX16_ledger_157 rfl (by decide) rfl ?_
                refine x_goto 4 (q := 162) dX16_ledger_158 rfl ?_
                refine x_iload_n 2 dX16_ledger_162 rfl rfl rfl ?_
                refine x_iconst 0 (z := 0) dX16_ledger_163 rfl (by decide) rfl ?_
                refine x_iconst 0 (z := 0) dX16_ledger_164 rfl (by decide) rfl ?_
                refine x_iconst 0 (z := 0) dX16_ledger_165 rfl (by decide) rfl ?_
                refine y_Vi 274 (M := mX16_done) (As := [(0, 1), (0, a2), (0, 0), (0, 0), (0, 0)]) (st := []) dX16_ledger_166 i65 rfl q2147 q2149 qs50 q383 q2150 rfl hmX16_done rfl rfl rfl rfl rfl rfl rfl rfl (k_mono h (fun r31 w32 h => ?_))
                exact y_iret dX16_ledger_169 rfl h
          have e := hc
          exact x_tsI (off := 142) (t := 143) dX16_ledger_1 (by rw [e]; decide) (by rw [e]; decide) (by rw [e]; rfl) rfl key
        · refine b_itc h (fun hc h => ?_) (fun hn4 h => ?_)
          · have key : b_Y (d + 1) mX16_ledger n Q X 170 [(2, 65), (0, a1), (0, a2), (0, a3), (9, 0)] [] w := by
              refine x_iload_n 3 dX16_ledger_170 rfl rfl rfl ?_
              refine x_if_ne (t := 189) 18 dX16_ledger_171 rfl rfl (b_ite h (fun hc h => ?_) (fun hc h => ?_))
              · refine x_iconst 0 (z := 0) dX16_ledger_189 rfl (by decide) rfl ?_
                exact y_iret dX16_ledger_190 rfl h
              · refine x_aload_n 0 dX16_ledger_174 rfl rfl rfl rfl rfl ?_
                refine y_get 62 14 (c := 15) (z := w 65 14) dX16_ledger_175 i65 rfl in_X16 q1113 rfl rfl rfl rfl rfl ?_
                refine x_if_ne (t := 189) 11 dX16_ledger_178 rfl rfl (b_ite h (fun hc h => ?_) (fun hc h => ?_))
                · refine x_iconst 0 (z := 0) dX16_ledger_189 rfl (by decide) rfl ?_
                  exact y_iret dX16_ledger_190 rfl h
                · refine x_aload_n 0 dX16_ledger_181 rfl rfl rfl rfl rfl ?_
                  refine x_iload_n 1 dX16_ledger_182 rfl rfl rfl ?_
                  refine y_Vi 384 (M := mX16_self) (As := [(0, a1)]) (st := []) dX16_ledger_183 i65 rfl q2297 q2299 qs80 q383 q2300 rfl hmX16_self rfl rfl rfl rfl rfl rfl rfl rfl (k_mono h (fun r33 w34 h => ?_))
                  refine x_goto 4 (q := 190) dX16_ledger_186 rfl ?_
                  exact y_iret dX16_ledger_190 rfl h
            have e := hc
            exact x_tsI (off := 169) (t := 170) dX16_ledger_1 (by rw [e]; decide) (by rw [e]; decide) (by rw [e]; rfl) rfl key
          · refine b_itc h (fun hc h => ?_) (fun hn5 h => ?_)
            · have key : b_Y (d + 1) mX16_ledger n Q X 191 [(2, 65), (0, a1), (0, a2), (0, a3), (9, 0)] [] w := by
                refine x_aload_n 0 dX16_ledger_191 rfl rfl rfl rfl rfl ?_
                refine x_iload_n 3 dX16_ledger_192 rfl rfl rfl ?_
                refine x_if_ne (t := 220) 27 dX16_ledger_193 rfl rfl (b_ite h (fun hc h => ?_) (fun hc h => ?_))
                · refine x_iconst 0 (z := 0) dX16_ledger_220 rfl (by decide) rfl ?_
                  refine x_iload_n 2 dX16_ledger_221 rfl rfl rfl ?_
                  refine x_iconst 0 (z := 0) dX16_ledger_222 rfl (by decide) rfl ?_
                  refine x_iconst 0 (z := 0) dX16_ledger_223 rfl (by decide) rfl ?_
                  refine x_iconst 0 (z := 0) dX16_ledger_224 rfl (by decide) rfl ?_
                  refine y_Vi 274 (M := mX16_done) (As := [(0, 0), (0, a2), (0, 0), (0, 0), (0, 0)]) (st := []) dX16_ledger_225 i65 rfl q2147 q2149 qs50 q383 q2150 rfl hmX16_done rfl rfl rfl rfl rfl rfl rfl rfl (k_mono h (fun r35 w36 h => ?_))
                  exact y_iret dX16_ledger_228 rfl h
                · refine x_aload_n 0 dX16_ledger_196 rfl rfl rfl rfl rfl ?_
                  refine x_iconst 0 (z := 0) dX16_ledger_197 rfl (by decide) rfl ?_
                  refine y_Vi 304 (M := mX16_word) (As := [(0, 0)]) (st := [(2, 65)]) dX16_ledger_198 i65 rfl q2187 q2189 qs58 q383 q2190 rfl hmX16_word rfl rfl rfl rfl rfl rfl rfl rfl (k_mono h (fun r37 w38 h => ?_))
                  refine x_bipush 13 (z := 13) dX16_ledger_201 rfl (by decide) rfl ?_
                  refine x_icmp_ne (t := 220) 17 dX16_ledger_203 rfl rfl (b_ite h (fun hc h => ?_) (fun hc h => ?_))
                  · refine x_iconst 0 (z := 0) dX16_ledger_220 rfl (by decide) rfl ?_
                    refine x_iload_n 2 dX16_ledger_221 rfl rfl rfl ?_
                    refine x_iconst 0 (z := 0) dX16_ledger_222 rfl (by decide) rfl ?_
                    refine x_iconst 0 (z := 0) dX16_ledger_223 rfl (by decide) rfl ?_
                    refine x_iconst 0 (z := 0) dX16_ledger_224 rfl (by decide) rfl ?_
                    refine y_Vi 274 (M := mX16_done) (As := [(0, 0), (0, a2), (0, 0), (0, 0), (0, 0)]) (st := []) dX16_ledger_225 i65 rfl q2147 q2149 qs50 q383 q2150 rfl hmX16_done rfl rfl rfl rfl rfl rfl rfl rfl (k_mono h (fun r39 w40 h => ?_))
                    exact y_iret dX16_ledger_228 rfl h
                  · refine x_aload_n 0 dX16_ledger_206 rfl rfl rfl rfl rfl ?_
                    refine x_iconst 1 (z := 1) dX16_ledger_207 rfl (by decide) rfl ?_
                    refine x_bipush 7 (z := 7) dX16_ledger_208 rfl (by decide) rfl ?_
                    refine y_Vi 278 (M := mX16_become) (As := [(0, 1), (0, 7)]) (st := [(2, 65)]) dX16_ledger_210 i65 rfl q2143 q2145 qs49 q383 q2146 rfl hmX16_become rfl rfl rfl rfl rfl rfl rfl rfl (k_mono h (fun r41 w42 h => ?_))
                    refine x_if_eq (t := 220) 7 dX16_ledger_213 rfl rfl (b_ite h (fun hc h => ?_) (fun hc h => ?_))
                    · refine x_iconst 0 (z := 0) dX16_ledger_220 rfl (by decide) rfl ?_
                      refine x_iload_n 2 dX16_ledger_221 rfl rfl rfl ?_
                      refine x_iconst 0 (z := 0) dX16_ledger_222 rfl (by decide) rfl ?_
                      refine x_iconst 0 (z := 0) dX16_ledger_223 rfl (by decide) rfl ?_
                      refine x_iconst 0 (z := 0) dX16_ledger_224 rfl (by decide) rfl ?_
                      refine y_Vi 274 (M := mX16_done) (As := [(0, 0), (0, a2), (0, 0), (0, 0), (0, 0)]) (st := []) dX16_ledger_225 i65 rfl q2147 q2149 qs50 q383 q2150 rfl hmX16_done rfl rfl rfl rfl rfl rfl rfl rfl (k_mono h (fun r43 w44 h => ?_))
                      exact y_iret dX16_ledger_228 rfl h
                    · refine x_iconst 1 (z := 1) dX16_ledger_216 rfl (by decide) rfl ?_
                      refine x_goto 4 (q := 221) dX16_ledger_217 rfl ?_
                      refine x_iload_n 2 dX16_ledger_221 rfl rfl rfl ?_
                      refine x_iconst 0 (z := 0) dX16_ledger_222 rfl (by decide) rfl ?_
                      refine x_iconst 0 (z := 0) dX16_ledger_223 rfl (by decide) rfl ?_
                      refine x_iconst 0 (z := 0) dX16_ledger_224 rfl (by decide) rfl ?_
                      refine y_Vi 274 (M := mX16_done) (As := [(0, 1), (0, a2), (0, 0), (0, 0), (0, 0)]) (st := []) dX16_ledger_225 i65 rfl q2147 q2149 qs50 q383 q2150 rfl hmX16_done rfl rfl rfl rfl rfl rfl rfl rfl (k_mono h (fun r45 w46 h => ?_))
                      exact y_iret dX16_ledger_228 rfl h
              have e := hc
              exact x_tsI (off := 190) (t := 191) dX16_ledger_1 (by rw [e]; decide) (by rw [e]; decide) (by rw [e]; rfl) rfl key
            · refine b_itc h (fun hc h => ?_) (fun hn6 h => ?_)
              · have key : b_Y (d + 1) mX16_ledger n Q X 229 [(2, 65), (0, a1), (0, a2), (0, a3), (9, 0)] [] w := by
                  refine x_iload_n 3 dX16_ledger_229 rfl rfl rfl ?_
                  refine x_iconst 1 (z := 1) dX16_ledger_230 rfl (by decide) rfl ?_
                  refine x_icmp_ne (t := 242) 11 dX16_ledger_231 rfl rfl (b_ite h (fun hc h => ?_) (fun hc h => ?_))
                  · refine x_iconst 0 (z := 0) dX16_ledger_242 rfl (by decide) rfl ?_
                    exact y_iret dX16_ledger_243 rfl h
                  · refine x_aload_n 0 dX16_ledger_234 rfl rfl rfl rfl rfl ?_
                    refine x_iload_n 1 dX16_ledger_235 rfl rfl rfl ?_
                    refine y_Vi 387 (M := mX16_contract) (As := [(0, a1)]) (st := []) dX16_ledger_236 i65 rfl q2302 q2304 qs81 q383 q2305 rfl hmX16_contract rfl rfl rfl rfl rfl rfl rfl rfl (k_mono h (fun r47 w48 h => ?_))
                    refine x_goto 4 (q := 243) dX16_ledger_239 rfl ?_
                    exact y_iret dX16_ledger_243 rfl h
                have e := hc
                exact x_tsI (off := 228) (t := 229) dX16_ledger_1 (by rw [e]; decide) (by rw [e]; decide) (by rw [e]; rfl) rfl key
              · refine b_itc h (fun hc h => ?_) (fun hn7 h => ?_)
                · have key : b_Y (d + 1) mX16_ledger n Q X 244 [(2, 65), (0, a1), (0, a2), (0, a3), (9, 0)] [] w := by
                    refine x_iload_n 3 dX16_ledger_244 rfl rfl rfl ?_
                    refine x_if_ne (t := 300) 55 dX16_ledger_245 rfl rfl (b_ite h (fun hc h => ?_) (fun hc h => ?_))
                    · refine x_iconst 0 (z := 0) dX16_ledger_300 rfl (by decide) rfl ?_
                      refine x_istore 4 (ls' := [(2, 65), (0, a1), (0, a2), (0, a3), (0, 0)]) dX16_ledger_301 rfl rfl rfl ?_
                      refine x_aload_n 0 dX16_ledger_303 rfl rfl rfl rfl rfl ?_
                      refine x_iload 4 dX16_ledger_304 rfl rfl ?_
                      refine x_if_eq (t := 323) 17 dX16_ledger_306 rfl rfl (b_ifT (by decide) ?_)
                      refine x_iconst 0 (z := 0) dX16_ledger_323 rfl (by decide) rfl ?_
                      refine x_iload_n 2 dX16_ledger_324 rfl rfl rfl ?_
                      refine x_iconst 0 (z := 0) dX16_ledger_325 rfl (by decide) rfl ?_
                      refine x_iconst 0 (z := 0) dX16_ledger_326 rfl (by decide) rfl ?_
                      refine x_iconst 0 (z := 0) dX16_ledger_327 rfl (by decide) rfl ?_
                      refine y_Vi 274 (M := mX16_done) (As := [(0, 0), (0, a2), (0, 0), (0, 0), (0, 0)]) (st := []) dX16_ledger_328 i65 rfl q2147 q2149 qs50 q383 q2150 rfl hmX16_done rfl rfl rfl rfl rfl rfl rfl rfl (k_mono h (fun r49 w50 h => ?_))
                      exact y_iret dX16_ledger_331 rfl h
                    · refine x_aload_n 0 dX16_ledger_248 rfl rfl rfl rfl rfl ?_
                      refine x_iconst 1 (z := 1) dX16_ledger_249 rfl (by decide) rfl ?_
                      refine y_Vi 304 (M := mX16_word) (As := [(0, 1)]) (st := []) dX16_ledger_250 i65 rfl q2187 q2189 qs58 q383 q2190 rfl hmX16_word rfl rfl rfl rfl rfl rfl rfl rfl (k_mono h (fun r51 w52 h => ?_))
                      refine x_iconst 4 (z := 4) dX16_ledger_253 rfl (by decide) rfl ?_
                      refine x_icmp_ne (t := 300) 46 dX16_ledger_254 rfl rfl (b_ite h (fun hc h => ?_) (fun hc h => ?_))
                      · refine x_iconst 0 (z := 0) dX16_ledger_300 rfl (by decide) rfl ?_
                        refine x_istore 4 (ls' := [(2, 65), (0, a1), (0, a2), (0, a3), (0, 0)]) dX16_ledger_301 rfl rfl rfl ?_
                        refine x_aload_n 0 dX16_ledger_303 rfl rfl rfl rfl rfl ?_
                        refine x_iload 4 dX16_ledger_304 rfl rfl ?_
                        refine x_if_eq (t := 323) 17 dX16_ledger_306 rfl rfl (b_ifT (by decide) ?_)
                        refine x_iconst 0 (z := 0) dX16_ledger_323 rfl (by decide) rfl ?_
                        refine x_iload_n 2 dX16_ledger_324 rfl rfl rfl ?_
                        refine x_iconst 0 (z := 0) dX16_ledger_325 rfl (by decide) rfl ?_
                        refine x_iconst 0 (z := 0) dX16_ledger_326 rfl (by decide) rfl ?_
                        refine x_iconst 0 (z := 0) dX16_ledger_327 rfl (by decide) rfl ?_
                        refine y_Vi 274 (M := mX16_done) (As := [(0, 0), (0, a2), (0, 0), (0, 0), (0, 0)]) (st := []) dX16_ledger_328 i65 rfl q2147 q2149 qs50 q383 q2150 rfl hmX16_done rfl rfl rfl rfl rfl rfl rfl rfl (k_mono h (fun r53 w54 h => ?_))
                        exact y_iret dX16_ledger_331 rfl h
                      · refine x_aload_n 0 dX16_ledger_257 rfl rfl rfl rfl rfl ?_
                        refine x_iconst 2 (z := 2) dX16_ledger_258 rfl (by decide) rfl ?_
                        refine y_Vi 304 (M := mX16_word) (As := [(0, 2)]) (st := []) dX16_ledger_259 i65 rfl q2187 q2189 qs58 q383 q2190 rfl hmX16_word rfl rfl rfl rfl rfl rfl rfl rfl (k_mono h (fun r55 w56 h => ?_))
                        refine x_bipush 13 (z := 13) dX16_ledger_262 rfl (by decide) rfl ?_
                        refine x_icmp_ne (t := 300) 36 dX16_ledger_264 rfl rfl (b_ite h (fun hc h => ?_) (fun hc h => ?_))
                        · refine x_iconst 0 (z := 0) dX16_ledger_300 rfl (by decide) rfl ?_
                          refine x_istore 4 (ls' := [(2, 65), (0, a1), (0, a2), (0, a3), (0, 0)]) dX16_ledger_301 rfl rfl rfl ?_
                          refine x_aload_n 0 dX16_ledger_303 rfl rfl rfl rfl rfl ?_
                          refine x_iload 4 dX16_ledger_304 rfl rfl ?_
                          refine x_if_eq (t := 323) 17 dX16_ledger_306 rfl rfl (b_ifT (by decide) ?_)
                          refine x_iconst 0 (z := 0) dX16_ledger_323 rfl (by decide) rfl ?_
                          refine x_iload_n 2 dX16_ledger_324 rfl rfl rfl ?_
                          refine x_iconst 0 (z := 0) dX16_ledger_325 rfl (by decide) rfl ?_
                          refine x_iconst 0 (z := 0) dX16_ledger_326 rfl (by decide) rfl ?_
                          refine x_iconst 0 (z := 0) dX16_ledger_327 rfl (by decide) rfl ?_
                          refine y_Vi 274 (M := mX16_done) (As := [(0, 0), (0, a2), (0, 0), (0, 0), (0, 0)]) (st := []) dX16_ledger_328 i65 rfl q2147 q2149 qs50 q383 q2150 rfl hmX16_done rfl rfl rfl rfl rfl rfl rfl rfl (k_mono h (fun r57 w58 h => ?_))
                          exact y_iret dX16_ledger_331 rfl h
                        · refine x_aload_n 0 dX16_ledger_267 rfl rfl rfl rfl rfl ?_
                          refine x_iconst 2 (z := 2) dX16_ledger_268 rfl (by decide) rfl ?_
                          refine y_Vi 307 (M := mX16_left) (As := [(0, 2)]) (st := []) dX16_ledger_269 i65 rfl q2191 q2193 qs59 q383 q2194 rfl hmX16_left rfl rfl rfl rfl rfl rfl rfl rfl (k_mono h (fun r59 w60 h => ?_))
                          refine x_aload_n 0 dX16_ledger_272 rfl rfl rfl rfl rfl ?_
                          refine x_iconst 0 (z := 0) dX16_ledger_273 rfl (by decide) rfl ?_
                          refine y_Vi 209 (M := mX16_at) (As := [(0, 0)]) (st := [(0, r59)]) dX16_ledger_274 i65 rfl q2171 q2173 qs54 q383 q2174 rfl hmX16_at rfl rfl rfl rfl rfl rfl rfl rfl (k_mono h (fun r61 w62 h => ?_))
                          refine x_icmp_ne (t := 300) 23 dX16_ledger_277 rfl rfl (b_ite h (fun hc h => ?_) (fun hc h => ?_))
                          · refine x_iconst 0 (z := 0) dX16_ledger_300 rfl (by decide) rfl ?_
                            refine x_istore 4 (ls' := [(2, 65), (0, a1), (0, a2), (0, a3), (0, 0)]) dX16_ledger_301 rfl rfl rfl ?_
                            refine x_aload_n 0 dX16_ledger_303 rfl rfl rfl rfl rfl ?_
                            refine x_iload 4 dX16_ledger_304 rfl rfl ?_
                            refine x_if_eq (t := 323) 17 dX16_ledger_306 rfl rfl (b_ifT (by decide) ?_)
                            refine x_iconst 0 (z := 0) dX16_ledger_323 rfl (by decide) rfl ?_
                            refine x_iload_n 2 dX16_ledger_324 rfl rfl rfl ?_
                            refine x_iconst 0 (z := 0) dX16_ledger_325 rfl (by decide) rfl ?_
                            refine x_iconst 0 (z := 0) dX16_ledger_326 rfl (by decide) rfl ?_
                            refine x_iconst 0 (z := 0) dX16_ledger_327 rfl (by decide) rfl ?_
                            refine y_Vi 274 (M := mX16_done) (As := [(0, 0), (0, a2), (0, 0), (0, 0), (0, 0)]) (st := []) dX16_ledger_328 i65 rfl q2147 q2149 qs50 q383 q2150 rfl hmX16_done rfl rfl rfl rfl rfl rfl rfl rfl (k_mono h (fun r63 w64 h => ?_))
                            exact y_iret dX16_ledger_331 rfl h
                          · refine x_aload_n 0 dX16_ledger_280 rfl rfl rfl rfl rfl ?_
                            refine y_getF 32 1 (c := 15) (z := 19) dX16_ledger_281 i65 rfl in_X16 q1100 rfl rfl rfl fn_65_1 (Nat.le_trans (Nat.le_of_ble_eq_true rfl) hn) rfl ?_
                            refine x_aload_n 0 dX16_ledger_284 rfl rfl rfl rfl rfl ?_
                            refine x_iconst 0 (z := 0) dX16_ledger_285 rfl (by decide) rfl ?_
                            refine y_Vi 209 (M := mX16_at) (As := [(0, 0)]) (st := [(2, 19)]) dX16_ledger_286 i65 rfl q2171 q2173 qs54 q383 q2174 rfl hmX16_at rfl rfl rfl rfl rfl rfl rfl rfl (k_mono h (fun r65 w66 h => ?_))
                            refine x_iconst 2 (z := 2) dX16_ledger_289 rfl (by decide) rfl ?_
                            refine y_Vi 120 (M := mX7_is) (As := [(0, r65), (0, 2)]) (st := []) dX16_ledger_290 i19 rfl q1866 q744 q745 q374 q746 rfl hmX7_is rfl rfl rfl rfl rfl rfl rfl rfl (k_mono h (fun r67 w68 h => ?_))
                            refine x_if_eq (t := 300) 7 dX16_ledger_293 rfl rfl (b_ite h (fun hc h => ?_) (fun hc h => ?_))
                            · refine x_iconst 0 (z := 0) dX16_ledger_300 rfl (by decide) rfl ?_
                              refine x_istore 4 (ls' := [(2, 65), (0, a1), (0, a2), (0, a3), (0, 0)]) dX16_ledger_301 rfl rfl rfl ?_
                              refine x_aload_n 0 dX16_ledger_303 rfl rfl rfl rfl rfl ?_
                              refine x_iload 4 dX16_ledger_304 rfl rfl ?_
                              refine x_if_eq (t := 323) 17 dX16_ledger_306 rfl rfl (b_ifT (by decide) ?_)
                              refine x_iconst 0 (z := 0) dX16_ledger_323 rfl (by decide) rfl ?_
                              refine x_iload_n 2 dX16_ledger_324 rfl rfl rfl ?_
                              refine x_iconst 0 (z := 0) dX16_ledger_325 rfl (by decide) rfl ?_
                              refine x_iconst 0 (z := 0) dX16_ledger_326 rfl (by decide) rfl ?_
                              refine x_iconst 0 (z := 0) dX16_ledger_327 rfl (by decide) rfl ?_
                              refine y_Vi 274 (M := mX16_done) (As := [(0, 0), (0, a2), (0, 0), (0, 0), (0, 0)]) (st := []) dX16_ledger_328 i65 rfl q2147 q2149 qs50 q383 q2150 rfl hmX16_done rfl rfl rfl rfl rfl rfl rfl rfl (k_mono h (fun r69 w70 h => ?_))
                              exact y_iret dX16_ledger_331 rfl h
                            · refine x_iconst 1 (z := 1) dX16_ledger_296 rfl (by decide) rfl ?_
                              refine x_goto 4 (q := 301) dX16_ledger_297 rfl ?_
                              refine x_istore 4 (ls' := [(2, 65), (0, a1), (0, a2), (0, a3), (0, 1)]) dX16_ledger_301 rfl rfl rfl ?_
                              refine x_aload_n 0 dX16_ledger_303 rfl rfl rfl rfl rfl ?_
                              refine x_iload 4 dX16_ledger_304 rfl rfl ?_
                              refine x_if_eq (t := 323) 17 dX16_ledger_306 rfl rfl (b_ifF (by decide) ?_)
                              refine x_aload_n 0 dX16_ledger_309 rfl rfl rfl rfl rfl ?_
                              refine x_iconst 3 (z := 3) dX16_ledger_310 rfl (by decide) rfl ?_
                              refine x_bipush 9 (z := 9) dX16_ledger_311 rfl (by decide) rfl ?_
                              refine y_Vi 278 (M := mX16_become) (As := [(0, 3), (0, 9)]) (st := [(2, 65)]) dX16_ledger_313 i65 rfl q2143 q2145 qs49 q383 q2146 rfl hmX16_become rfl rfl rfl rfl rfl rfl rfl rfl (k_mono h (fun r71 w72 h => ?_))
                              refine x_if_eq (t := 323) 7 dX16_ledger_316 rfl rfl (b_ite h (fun hc h => ?_) (fun hc h => ?_))
                              · refine x_iconst 0 (z := 0) dX16_ledger_323 rfl (by decide) rfl ?_
                                refine x_iload_n 2 dX16_ledger_324 rfl rfl rfl ?_
                                refine x_iconst 0 (z := 0) dX16_ledger_325 rfl (by decide) rfl ?_
                                refine x_iconst 0 (z := 0) dX16_ledger_326 rfl (by decide) rfl ?_
                                refine x_iconst 0 (z := 0) dX16_ledger_327 rfl (by decide) rfl ?_
                                refine y_Vi 274 (M := mX16_done) (As := [(0, 0), (0, a2), (0, 0), (0, 0), (0, 0)]) (st := []) dX16_ledger_328 i65 rfl q2147 q2149 qs50 q383 q2150 rfl hmX16_done rfl rfl rfl rfl rfl rfl rfl rfl (k_mono h (fun r73 w74 h => ?_))
                                exact y_iret dX16_ledger_331 rfl h
                              · refine x_iconst 1 (z := 1) dX16_ledger_319 rfl (by decide) rfl ?_
                                refine x_goto 4 (q := 324) dX16_ledger_320 rfl ?_
                                refine x_iload_n 2 dX16_ledger_324 rfl rfl rfl ?_
                                refine x_iconst 0 (z := 0) dX16_ledger_325 rfl (by decide) rfl ?_
                                refine x_iconst 0 (z := 0) dX16_ledger_326 rfl (by decide) rfl ?_
                                refine x_iconst 0 (z := 0) dX16_ledger_327 rfl (by decide) rfl ?_
                                refine y_Vi 274 (M := mX16_done) (As := [(0, 1), (0, a2), (0, 0), (0, 0), (0, 0)]) (st := []) dX16_ledger_328 i65 rfl q2147 q2149 qs50 q383 q2150 rfl hmX16_done rfl rfl rfl rfl rfl rfl rfl rfl (k_mono h (fun r75 w76 h => ?_))
                                exact y_iret dX16_ledger_331 rfl h
                  have e := hc
                  exact x_tsI (off := 243) (t := 244) dX16_ledger_1 (by rw [e]; decide) (by rw [e]; decide) (by rw [e]; rfl) rfl key
                · have key : b_Y (d + 1) mX16_ledger n Q X 332 [(2, 65), (0, a1), (0, a2), (0, a3), (9, 0)] [] w := by
                    refine x_iload_n 3 dX16_ledger_332 rfl rfl rfl ?_
                    refine x_iconst 1 (z := 1) dX16_ledger_333 rfl (by decide) rfl ?_
                    refine x_icmp_ne (t := 345) 11 dX16_ledger_334 rfl rfl (b_ite h (fun hc h => ?_) (fun hc h => ?_))
                    · refine x_iconst 0 (z := 0) dX16_ledger_345 rfl (by decide) rfl ?_
                      exact y_iret dX16_ledger_346 rfl h
                    · refine x_aload_n 0 dX16_ledger_337 rfl rfl rfl rfl rfl ?_
                      refine x_iload_n 1 dX16_ledger_338 rfl rfl rfl ?_
                      refine y_Vi 390 (M := mX16_create) (As := [(0, a1)]) (st := []) dX16_ledger_339 i65 rfl q2306 q2308 qs82 q383 q2309 rfl hmX16_create rfl rfl rfl rfl rfl rfl rfl rfl (k_mono h (fun r77 w78 h => ?_))
                      refine x_goto 4 (q := 346) dX16_ledger_342 rfl ?_
                      exact y_iret dX16_ledger_346 rfl h
                  exact x_tsO (t := 332) dX16_ledger_1 (by omega) rfl key
abbrev LX16_self_48 (d n : Nat) (Q : Int → bW → Prop) (X : String → bW → Prop) (s0 : Int) (w : bW) : Prop := b_Y (d + 1) mX16_self n Q X 48 [(2, 65), (9, 0), (9, 0), (9, 0)] [(0, s0)] w
theorem rX16_self {d n : Nat} {w : bW} {Q : Int → bW → Prop} {X : String → bW → Prop} (hn : 143 ≤ n) (a1 : Int) (h : (0 ≤ a1 ∧ a1 < 4096) ∧ (if w 14 a1 ≠ 0 then (b_K d mX4_text [(2, 6)] n w (fun r2 w3 => (0 ≤ a1 ∧ a1 < 4096) ∧ (b_K d mX14_find [(2, 50), (2, r2), (0, w3 14 a1), (0, w3 15 a1)] n w3 (fun r5 w6 => LX16_self_48 d n Q X r5 w6) X)) X) else (LX16_self_48 d n Q X 0 w))) : b_K (d + 1) mX16_self [(2, 65), (0, a1)] n w Q X := by
  have i6 := iz6 (Nat.le_trans (Nat.le_of_ble_eq_true rfl) hn)
  have i14 := iz14 (Nat.le_trans (Nat.le_of_ble_eq_true rfl) hn)
  have i15 := iz15 (Nat.le_trans (Nat.le_of_ble_eq_true rfl) hn)
  have i50 := iz50 (Nat.le_trans (Nat.le_of_ble_eq_true rfl) hn)
  have i65 := iz65 (Nat.le_trans (Nat.le_of_ble_eq_true rfl) hn)
  refine k_of (by decide) rfl rfl rfl (ls := [(2, 65), (0, a1), (9, 0), (9, 0)]) rfl ?_
  refine x_aload_n 0 dX16_self_0 rfl rfl rfl rfl rfl ?_
  refine y_getF 28 0 (c := 15) (z := 6) dX16_self_1 i65 rfl in_X16 q1099 rfl rfl rfl fn_65_0 (Nat.le_trans (Nat.le_of_ble_eq_true rfl) hn) rfl ?_
  refine y_getF 172 7 (c := 3) (z := 14) dX16_self_4 i6 rfl in_X4 q669 rfl rfl rfl fn_6_7 (Nat.le_trans (Nat.le_of_ble_eq_true rfl) hn) rfl ?_
  refine x_iload_n 1 dX16_self_7 rfl rfl rfl ?_
  obtain ⟨e1, h⟩ := h
  refine y_iald (z := w 14 a1) dX16_self_8 ⟨4096, i14, e1⟩ rfl rfl ?_
  refine x_if_ne (t := 16) 7 dX16_self_9 rfl rfl (b_ite h (fun hc h => ?_) (fun hc h => ?_))
  · refine x_aload_n 0 dX16_self_16 rfl rfl rfl rfl rfl ?_
    refine y_getF 36 2 (c := 15) (z := 50) dX16_self_17 i65 rfl in_X16 q1101 rfl rfl rfl fn_65_2 (Nat.le_trans (Nat.le_of_ble_eq_true rfl) hn) rfl ?_
    refine x_aload_n 0 dX16_self_20 rfl rfl rfl rfl rfl ?_
    refine y_getF 28 0 (c := 15) (z := 6) dX16_self_21 i65 rfl in_X16 q1099 rfl rfl rfl fn_65_0 (Nat.le_trans (Nat.le_of_ble_eq_true rfl) hn) rfl ?_
    refine y_Vr 175 (M := mX4_text) (As := []) (st := [(2, 50)]) dX16_self_24 i6 rfl q1871 q1872 q1873 q371 q1874 rfl hmX4_text rfl rfl rfl rfl rfl rfl rfl rfl (k_mono h (fun r2 w3 h => ?_))
    refine x_aload_n 0 dX16_self_27 rfl rfl rfl rfl rfl ?_
    refine y_getF 28 0 (c := 15) (z := 6) dX16_self_28 i65 rfl in_X16 q1099 rfl rfl rfl fn_65_0 (Nat.le_trans (Nat.le_of_ble_eq_true rfl) hn) rfl ?_
    refine y_getF 172 7 (c := 3) (z := 14) dX16_self_31 i6 rfl in_X4 q669 rfl rfl rfl fn_6_7 (Nat.le_trans (Nat.le_of_ble_eq_true rfl) hn) rfl ?_
    refine x_iload_n 1 dX16_self_34 rfl rfl rfl ?_
    refine y_iald (z := w3 14 a1) dX16_self_35 ⟨4096, i14, e1⟩ rfl rfl ?_
    refine x_aload_n 0 dX16_self_36 rfl rfl rfl rfl rfl ?_
    refine y_getF 28 0 (c := 15) (z := 6) dX16_self_37 i65 rfl in_X16 q1099 rfl rfl rfl fn_65_0 (Nat.le_trans (Nat.le_of_ble_eq_true rfl) hn) rfl ?_
    refine y_getF 179 8 (c := 3) (z := 15) dX16_self_40 i6 rfl in_X4 q671 rfl rfl rfl fn_6_8 (Nat.le_trans (Nat.le_of_ble_eq_true rfl) hn) rfl ?_
    refine x_iload_n 1 dX16_self_43 rfl rfl rfl ?_
    obtain ⟨e4, h⟩ := h
    refine y_iald (z := w3 15 a1) dX16_self_44 ⟨4096, i15, e4⟩ rfl rfl ?_
    refine y_Vi 393 (M := mX14_find) (As := [(2, r2), (0, w3 14 a1), (0, w3 15 a1)]) (st := []) dX16_self_45 i50 rfl q2301 q1880 q1881 q381 q1882 rfl hmX14_find rfl rfl rfl rfl rfl rfl rfl rfl (k_mono h (fun r5 w6 h => ?_))
    exact x_fg (fgk (fgd (fgk (fgk (fg0))))) h
  · refine x_iconst 0 (z := 0) dX16_self_12 rfl (by decide) rfl ?_
    refine x_goto 35 (q := 48) dX16_self_13 rfl ?_
    exact x_fg (fgk (fgd (fgk (fgk (fg0))))) h
theorem sX16_self_48 {d n : Nat} {w : bW} {Q : Int → bW → Prop} {X : String → bW → Prop} (hn : 143 ≤ n) (s0 : Int) (h : if 0 ≤ s0 then (b_K d mX15_entry [(2, 53), (0, w 65 13), (0, s0)] n w (fun r1 w2 => if 0 ≤ r1 then ((0 ≤ r1 ∧ r1 < 12000) ∧ (b_K d mX7_make [(2, 19), (0, 13), (0, w2 61 r1), (0, (-1))] n w2 (fun r4 w5 => b_K d mX16_become [(2, 65), (0, 0), (0, r4)] n w5 (fun r6 w7 => b_K d mX16_done [(2, 65), (0, r6), (0, 102), (0, s0), (0, 0), (0, 0)] n w7 (fun r8 w9 => Q r8 w9) X) X) X)) else (Q 0 w2)) X) else (Q 0 w)) : LX16_self_48 d n Q X s0 w := by
  have i19 := iz19 (Nat.le_trans (Nat.le_of_ble_eq_true rfl) hn)
  have i53 := iz53 (Nat.le_trans (Nat.le_of_ble_eq_true rfl) hn)
  have i61 := iz61 (Nat.le_trans (Nat.le_of_ble_eq_true rfl) hn)
  have i65 := iz65 (Nat.le_trans (Nat.le_of_ble_eq_true rfl) hn)
  refine x_istore_n 2 (ls' := [(2, 65), (9, 0), (0, s0), (9, 0)]) dX16_self_48 rfl rfl rfl rfl ?_
  refine x_iload_n 2 dX16_self_49 rfl rfl rfl ?_
  refine x_if_ge (t := 57) 7 dX16_self_50 rfl rfl (b_ite h (fun hc h => ?_) (fun hc h => ?_))
  · refine x_aload_n 0 dX16_self_57 rfl rfl rfl rfl rfl ?_
    refine y_getF 40 3 (c := 15) (z := 53) dX16_self_58 i65 rfl in_X16 q1102 rfl rfl rfl fn_65_3 (Nat.le_trans (Nat.le_of_ble_eq_true rfl) hn) rfl ?_
    refine x_aload_n 0 dX16_self_61 rfl rfl rfl rfl rfl ?_
    refine y_get 189 13 (c := 15) (z := w 65 13) dX16_self_62 i65 rfl in_X16 q1112 rfl rfl rfl rfl rfl ?_
    refine x_iload_n 2 dX16_self_65 rfl rfl rfl ?_
    refine y_Vi 128 (M := mX15_entry) (As := [(0, w 65 13), (0, s0)]) (st := []) dX16_self_66 i53 rfl q1894 q1895 q1896 q382 q1897 rfl hmX15_entry rfl rfl rfl rfl rfl rfl rfl rfl (k_mono h (fun r1 w2 h => ?_))
    refine x_istore_n 3 (ls' := [(2, 65), (9, 0), (0, s0), (0, r1)]) dX16_self_69 rfl rfl rfl rfl ?_
    refine x_iload_n 3 dX16_self_70 rfl rfl rfl ?_
    refine x_if_ge (t := 78) 7 dX16_self_71 rfl rfl (b_ite h (fun hc h => ?_) (fun hc h => ?_))
    · refine x_aload_n 0 dX16_self_78 rfl rfl rfl rfl rfl ?_
      refine x_aload_n 0 dX16_self_79 rfl rfl rfl rfl rfl ?_
      refine x_iconst 0 (z := 0) dX16_self_80 rfl (by decide) rfl ?_
      refine x_aload_n 0 dX16_self_81 rfl rfl rfl rfl rfl ?_
      refine y_getF 32 1 (c := 15) (z := 19) dX16_self_82 i65 rfl in_X16 q1100 rfl rfl rfl fn_65_1 (Nat.le_trans (Nat.le_of_ble_eq_true rfl) hn) rfl ?_
      refine x_bipush 13 (z := 13) dX16_self_85 rfl (by decide) rfl ?_
      refine x_aload_n 0 dX16_self_87 rfl rfl rfl rfl rfl ?_
      refine y_getF 40 3 (c := 15) (z := 53) dX16_self_88 i65 rfl in_X16 q1102 rfl rfl rfl fn_65_3 (Nat.le_trans (Nat.le_of_ble_eq_true rfl) hn) rfl ?_
      refine y_getF 153 8 (c := 14) (z := 61) dX16_self_91 i53 rfl in_X15 q1043 rfl rfl rfl fn_53_8 (Nat.le_trans (Nat.le_of_ble_eq_true rfl) hn) rfl ?_
      refine x_iload_n 3 dX16_self_94 rfl rfl rfl ?_
      obtain ⟨e3, h⟩ := h
      refine y_iald (z := w2 61 r1) dX16_self_95 ⟨12000, i61, e3⟩ rfl rfl ?_
      refine x_iconst (-1) (z := (-1)) dX16_self_96 rfl (by decide) rfl ?_
      refine y_Vi 195 (M := mX7_make) (As := [(0, 13), (0, w2 61 r1), (0, (-1))]) (st := [(0, 0), (2, 65), (2, 65)]) dX16_self_97 i19 rfl q1911 q728 q729 q374 q730 rfl hmX7_make rfl rfl rfl rfl rfl rfl rfl rfl (k_mono h (fun r4 w5 h => ?_))
      refine y_Vi 278 (M := mX16_become) (As := [(0, 0), (0, r4)]) (st := [(2, 65)]) dX16_self_100 i65 rfl q2143 q2145 qs49 q383 q2146 rfl hmX16_become rfl rfl rfl rfl rfl rfl rfl rfl (k_mono h (fun r6 w7 h => ?_))
      refine x_bipush 102 (z := 102) dX16_self_103 rfl (by decide) rfl ?_
      refine x_iload_n 2 dX16_self_105 rfl rfl rfl ?_
      refine x_iconst 0 (z := 0) dX16_self_106 rfl (by decide) rfl ?_
      refine x_iconst 0 (z := 0) dX16_self_107 rfl (by decide) rfl ?_
      refine y_Vi 274 (M := mX16_done) (As := [(0, r6), (0, 102), (0, s0), (0, 0), (0, 0)]) (st := []) dX16_self_108 i65 rfl q2147 q2149 qs50 q383 q2150 rfl hmX16_done rfl rfl rfl rfl rfl rfl rfl rfl (k_mono h (fun r8 w9 h => ?_))
      exact y_iret dX16_self_111 rfl h
    · refine x_iconst 0 (z := 0) dX16_self_74 rfl (by decide) rfl ?_
      refine x_goto 36 (q := 111) dX16_self_75 rfl ?_
      exact y_iret dX16_self_111 rfl h
  · refine x_iconst (-1) (z := (-1)) dX16_self_53 rfl (by decide) rfl ?_
    refine x_goto 15 (q := 69) dX16_self_54 rfl ?_
    refine x_istore_n 3 (ls' := [(2, 65), (9, 0), (0, s0), (0, (-1))]) dX16_self_69 rfl rfl rfl rfl ?_
    refine x_iload_n 3 dX16_self_70 rfl rfl rfl ?_
    refine x_if_ge (t := 78) 7 dX16_self_71 rfl rfl (b_ifF (by decide) ?_)
    refine x_iconst 0 (z := 0) dX16_self_74 rfl (by decide) rfl ?_
    refine x_goto 36 (q := 111) dX16_self_75 rfl ?_
    exact y_iret dX16_self_111 rfl h
abbrev LX16_contract_63 (d n : Nat) (Q : Int → bW → Prop) (X : String → bW → Prop) (a1 : Int) (a2 : Int) (s0 : Int) (w : bW) : Prop := b_Y (d + 1) mX16_contract n Q X 63 [(2, 65), (0, a1), (0, a2), (9, 0), (9, 0), (9, 0)] [(0, s0)] w
theorem rX16_contract {d n : Nat} {w : bW} {Q : Int → bW → Prop} {X : String → bW → Prop} (hn : 143 ≤ n) (a1 : Int) (h : b_K d mX16_typeAt [(2, 65), (0, a1), (0, 0)] n w (fun r1 w2 => if r1 < 0 then (Q 0 w2) else (b_K d mX7_is [(2, 19), (0, r1), (0, 2)] n w2 (fun r3 w4 => if r3 = 0 then (Q 0 w4) else (b_K d mX16_word [(2, 65), (0, 0)] n w4 (fun r5 w6 => if r5 = 7 then (b_K d mX7_make [(2, 19), (0, 13), (0, r1), (0, (-1))] n w6 (fun r7 w8 => if 0 ≤ r7 then (b_K d mX7_option [(2, 19), (0, r7)] n w8 (fun r9 w10 => LX16_contract_63 d n Q X a1 r1 r9 w10) X) else (LX16_contract_63 d n Q X a1 r1 (-1) w8)) X) else (Q 0 w6)) X)) X)) X) : b_K (d + 1) mX16_contract [(2, 65), (0, a1)] n w Q X := by
  have i19 := iz19 (Nat.le_trans (Nat.le_of_ble_eq_true rfl) hn)
  have i65 := iz65 (Nat.le_trans (Nat.le_of_ble_eq_true rfl) hn)
  refine k_of (by decide) rfl rfl rfl (ls := [(2, 65), (0, a1), (9, 0), (9, 0), (9, 0), (9, 0)]) rfl ?_
  refine x_aload_n 0 dX16_contract_0 rfl rfl rfl rfl rfl ?_
  refine x_iload_n 1 dX16_contract_1 rfl rfl rfl ?_
  refine x_iconst 0 (z := 0) dX16_contract_2 rfl (by decide) rfl ?_
  refine y_Vi 285 (M := mX16_typeAt) (As := [(0, a1), (0, 0)]) (st := []) dX16_contract_3 i65 rfl q1928 q1930 qs34 q383 q1931 rfl hmX16_typeAt rfl rfl rfl rfl rfl rfl rfl rfl (k_mono h (fun r1 w2 h => ?_))
  refine x_istore_n 2 (ls' := [(2, 65), (0, a1), (0, r1), (9, 0), (9, 0), (9, 0)]) dX16_contract_6 rfl rfl rfl rfl ?_
  refine x_iload_n 2 dX16_contract_7 rfl rfl rfl ?_
  refine x_if_lt (t := 33) 25 dX16_contract_8 rfl rfl (b_ite h (fun hc h => ?_) (fun hc h => ?_))
  · refine x_iconst 0 (z := 0) dX16_contract_33 rfl (by decide) rfl ?_
    exact y_iret dX16_contract_34 rfl h
  · refine x_aload_n 0 dX16_contract_11 rfl rfl rfl rfl rfl ?_
    refine y_getF 32 1 (c := 15) (z := 19) dX16_contract_12 i65 rfl in_X16 q1100 rfl rfl rfl fn_65_1 (Nat.le_trans (Nat.le_of_ble_eq_true rfl) hn) rfl ?_
    refine x_iload_n 2 dX16_contract_15 rfl rfl rfl ?_
    refine x_iconst 2 (z := 2) dX16_contract_16 rfl (by decide) rfl ?_
    refine y_Vi 120 (M := mX7_is) (As := [(0, r1), (0, 2)]) (st := []) dX16_contract_17 i19 rfl q1866 q744 q745 q374 q746 rfl hmX7_is rfl rfl rfl rfl rfl rfl rfl rfl (k_mono h (fun r3 w4 h => ?_))
    refine x_if_eq (t := 33) 13 dX16_contract_20 rfl rfl (b_ite h (fun hc h => ?_) (fun hc h => ?_))
    · refine x_iconst 0 (z := 0) dX16_contract_33 rfl (by decide) rfl ?_
      exact y_iret dX16_contract_34 rfl h
    · refine x_aload_n 0 dX16_contract_23 rfl rfl rfl rfl rfl ?_
      refine x_iconst 0 (z := 0) dX16_contract_24 rfl (by decide) rfl ?_
      refine y_Vi 304 (M := mX16_word) (As := [(0, 0)]) (st := []) dX16_contract_25 i65 rfl q2187 q2189 qs58 q383 q2190 rfl hmX16_word rfl rfl rfl rfl rfl rfl rfl rfl (k_mono h (fun r5 w6 h => ?_))
      refine x_bipush 7 (z := 7) dX16_contract_28 rfl (by decide) rfl ?_
      refine x_icmp_eq (t := 35) 5 dX16_contract_30 rfl rfl (b_ite h (fun hc h => ?_) (fun hc h => ?_))
      · refine x_aload_n 0 dX16_contract_35 rfl rfl rfl rfl rfl ?_
        refine y_getF 32 1 (c := 15) (z := 19) dX16_contract_36 i65 rfl in_X16 q1100 rfl rfl rfl fn_65_1 (Nat.le_trans (Nat.le_of_ble_eq_true rfl) hn) rfl ?_
        refine x_bipush 13 (z := 13) dX16_contract_39 rfl (by decide) rfl ?_
        refine x_iload_n 2 dX16_contract_41 rfl rfl rfl ?_
        refine x_iconst (-1) (z := (-1)) dX16_contract_42 rfl (by decide) rfl ?_
        refine y_Vi 195 (M := mX7_make) (As := [(0, 13), (0, r1), (0, (-1))]) (st := []) dX16_contract_43 i19 rfl q1911 q728 q729 q374 q730 rfl hmX7_make rfl rfl rfl rfl rfl rfl rfl rfl (k_mono h (fun r7 w8 h => ?_))
        refine x_istore_n 3 (ls' := [(2, 65), (0, a1), (0, r1), (0, r7), (9, 0), (9, 0)]) dX16_contract_46 rfl rfl rfl rfl ?_
        refine x_iload_n 3 dX16_contract_47 rfl rfl rfl ?_
        refine x_if_ge (t := 55) 7 dX16_contract_48 rfl rfl (b_ite h (fun hc h => ?_) (fun hc h => ?_))
        · refine x_aload_n 0 dX16_contract_55 rfl rfl rfl rfl rfl ?_
          refine y_getF 32 1 (c := 15) (z := 19) dX16_contract_56 i65 rfl in_X16 q1100 rfl rfl rfl fn_65_1 (Nat.le_trans (Nat.le_of_ble_eq_true rfl) hn) rfl ?_
          refine x_iload_n 3 dX16_contract_59 rfl rfl rfl ?_
          refine y_Vi 313 (M := mX7_option) (As := [(0, r7)]) (st := []) dX16_contract_60 i19 rfl q2199 q2200 q2201 q374 q2202 rfl hmX7_option rfl rfl rfl rfl rfl rfl rfl rfl (k_mono h (fun r9 w10 h => ?_))
          exact x_fg (fgk (fgk (fgk (fgd (fgk (fgk (fg0))))))) h
        · refine x_iconst (-1) (z := (-1)) dX16_contract_51 rfl (by decide) rfl ?_
          refine x_goto 11 (q := 63) dX16_contract_52 rfl ?_
          exact x_fg (fgk (fgk (fgk (fgd (fgk (fgk (fg0))))))) h
      · refine x_iconst 0 (z := 0) dX16_contract_33 rfl (by decide) rfl ?_
        exact y_iret dX16_contract_34 rfl h
theorem sX16_contract_63 {d n : Nat} {w : bW} {Q : Int → bW → Prop} {X : String → bW → Prop} (hn : 143 ≤ n) (a1 : Int) (a2 : Int) (s0 : Int) (h : if 0 ≤ s0 then ((0 ≤ a1 ∧ a1 < 4096) ∧ (if w 14 a1 ≠ 0 then (b_K d mX4_text [(2, 6)] n w (fun r2 w3 => (0 ≤ a1 ∧ a1 < 4096) ∧ (b_K d mX14_keep [(2, 50), (2, r2), (0, w3 14 a1), (0, w3 15 a1)] n w3 (fun r5 w6 => b_K d mX16_become [(2, 65), (0, 1), (0, s0)] n w6 (fun r7 w8 => b_K d mX16_done [(2, 65), (0, r7), (0, 104), (0, a2), (0, r5), (0, 0)] n w8 (fun r9 w10 => Q r9 w10) X) X) X)) X) else (b_K d mX16_become [(2, 65), (0, 1), (0, s0)] n w (fun r11 w12 => b_K d mX16_done [(2, 65), (0, r11), (0, 104), (0, a2), (0, (-1)), (0, 0)] n w12 (fun r13 w14 => Q r13 w14) X) X))) else (Q 0 w)) : LX16_contract_63 d n Q X a1 a2 s0 w := by
  have i6 := iz6 (Nat.le_trans (Nat.le_of_ble_eq_true rfl) hn)
  have i14 := iz14 (Nat.le_trans (Nat.le_of_ble_eq_true rfl) hn)
  have i15 := iz15 (Nat.le_trans (Nat.le_of_ble_eq_true rfl) hn)
  have i50 := iz50 (Nat.le_trans (Nat.le_of_ble_eq_true rfl) hn)
  have i65 := iz65 (Nat.le_trans (Nat.le_of_ble_eq_true rfl) hn)
  refine x_istore 4 (ls' := [(2, 65), (0, a1), (0, a2), (9, 0), (0, s0), (9, 0)]) dX16_contract_63 rfl rfl rfl ?_
  refine x_iload 4 dX16_contract_65 rfl rfl ?_
  refine x_if_ge (t := 72) 5 dX16_contract_67 rfl rfl (b_ite h (fun hc h => ?_) (fun hc h => ?_))
  · refine x_aload_n 0 dX16_contract_72 rfl rfl rfl rfl rfl ?_
    refine y_getF 28 0 (c := 15) (z := 6) dX16_contract_73 i65 rfl in_X16 q1099 rfl rfl rfl fn_65_0 (Nat.le_trans (Nat.le_of_ble_eq_true rfl) hn) rfl ?_
    refine y_getF 172 7 (c := 3) (z := 14) dX16_contract_76 i6 rfl in_X4 q669 rfl rfl rfl fn_6_7 (Nat.le_trans (Nat.le_of_ble_eq_true rfl) hn) rfl ?_
    refine x_iload_n 1 dX16_contract_79 rfl rfl rfl ?_
    obtain ⟨e1, h⟩ := h
    refine y_iald (z := w 14 a1) dX16_contract_80 ⟨4096, i14, e1⟩ rfl rfl ?_
    refine x_if_ne (t := 88) 7 dX16_contract_81 rfl rfl (b_ite h (fun hc h => ?_) (fun hc h => ?_))
    · refine x_aload_n 0 dX16_contract_88 rfl rfl rfl rfl rfl ?_
      refine y_getF 36 2 (c := 15) (z := 50) dX16_contract_89 i65 rfl in_X16 q1101 rfl rfl rfl fn_65_2 (Nat.le_trans (Nat.le_of_ble_eq_true rfl) hn) rfl ?_
      refine x_aload_n 0 dX16_contract_92 rfl rfl rfl rfl rfl ?_
      refine y_getF 28 0 (c := 15) (z := 6) dX16_contract_93 i65 rfl in_X16 q1099 rfl rfl rfl fn_65_0 (Nat.le_trans (Nat.le_of_ble_eq_true rfl) hn) rfl ?_
      refine y_Vr 175 (M := mX4_text) (As := []) (st := [(2, 50)]) dX16_contract_96 i6 rfl q1871 q1872 q1873 q371 q1874 rfl hmX4_text rfl rfl rfl rfl rfl rfl rfl rfl (k_mono h (fun r2 w3 h => ?_))
      refine x_aload_n 0 dX16_contract_99 rfl rfl rfl rfl rfl ?_
      refine y_getF 28 0 (c := 15) (z := 6) dX16_contract_100 i65 rfl in_X16 q1099 rfl rfl rfl fn_65_0 (Nat.le_trans (Nat.le_of_ble_eq_true rfl) hn) rfl ?_
      refine y_getF 172 7 (c := 3) (z := 14) dX16_contract_103 i6 rfl in_X4 q669 rfl rfl rfl fn_6_7 (Nat.le_trans (Nat.le_of_ble_eq_true rfl) hn) rfl ?_
      refine x_iload_n 1 dX16_contract_106 rfl rfl rfl ?_
      refine y_iald (z := w3 14 a1) dX16_contract_107 ⟨4096, i14, e1⟩ rfl rfl ?_
      refine x_aload_n 0 dX16_contract_108 rfl rfl rfl rfl rfl ?_
      refine y_getF 28 0 (c := 15) (z := 6) dX16_contract_109 i65 rfl in_X16 q1099 rfl rfl rfl fn_65_0 (Nat.le_trans (Nat.le_of_ble_eq_true rfl) hn) rfl ?_
      refine y_getF 179 8 (c := 3) (z := 15) dX16_contract_112 i6 rfl in_X4 q671 rfl rfl rfl fn_6_8 (Nat.le_trans (Nat.le_of_ble_eq_true rfl) hn) rfl ?_
      refine x_iload_n 1 dX16_contract_115 rfl rfl rfl ?_
      obtain ⟨e4, h⟩ := h
      refine y_iald (z := w3 15 a1) dX16_contract_116 ⟨4096, i15, e4⟩ rfl rfl ?_
      refine y_Vi 182 (M := mX14_keep) (As := [(2, r2), (0, w3 14 a1), (0, w3 15 a1)]) (st := []) dX16_contract_117 i50 rfl q1875 q1876 q1877 q381 q1878 rfl hmX14_keep rfl rfl rfl rfl rfl rfl rfl rfl (k_mono h (fun r5 w6 h => ?_))
      refine x_istore 5 (ls' := [(2, 65), (0, a1), (0, a2), (9, 0), (0, s0), (0, r5)]) dX16_contract_120 rfl rfl rfl ?_
      refine x_aload_n 0 dX16_contract_122 rfl rfl rfl rfl rfl ?_
      refine x_aload_n 0 dX16_contract_123 rfl rfl rfl rfl rfl ?_
      refine x_iconst 1 (z := 1) dX16_contract_124 rfl (by decide) rfl ?_
      refine x_iload 4 dX16_contract_125 rfl rfl ?_
      refine y_Vi 278 (M := mX16_become) (As := [(0, 1), (0, s0)]) (st := [(2, 65)]) dX16_contract_127 i65 rfl q2143 q2145 qs49 q383 q2146 rfl hmX16_become rfl rfl rfl rfl rfl rfl rfl rfl (k_mono h (fun r7 w8 h => ?_))
      refine x_bipush 104 (z := 104) dX16_contract_130 rfl (by decide) rfl ?_
      refine x_iload_n 2 dX16_contract_132 rfl rfl rfl ?_
      refine x_iload 5 dX16_contract_133 rfl rfl ?_
      refine x_iconst 0 (z := 0) dX16_contract_135 rfl (by decide) rfl ?_
      refine y_Vi 274 (M := mX16_done) (As := [(0, r7), (0, 104), (0, a2), (0, r5), (0, 0)]) (st := []) dX16_contract_136 i65 rfl q2147 q2149 qs50 q383 q2150 rfl hmX16_done rfl rfl rfl rfl rfl rfl rfl rfl (k_mono h (fun r9 w10 h => ?_))
      exact y_iret dX16_contract_139 rfl h
    · refine x_iconst (-1) (z := (-1)) dX16_contract_84 rfl (by decide) rfl ?_
      refine x_goto 35 (q := 120) dX16_contract_85 rfl ?_
      refine x_istore 5 (ls' := [(2, 65), (0, a1), (0, a2), (9, 0), (0, s0), (0, (-1))]) dX16_contract_120 rfl rfl rfl ?_
      refine x_aload_n 0 dX16_contract_122 rfl rfl rfl rfl rfl ?_
      refine x_aload_n 0 dX16_contract_123 rfl rfl rfl rfl rfl ?_
      refine x_iconst 1 (z := 1) dX16_contract_124 rfl (by decide) rfl ?_
      refine x_iload 4 dX16_contract_125 rfl rfl ?_
      refine y_Vi 278 (M := mX16_become) (As := [(0, 1), (0, s0)]) (st := [(2, 65)]) dX16_contract_127 i65 rfl q2143 q2145 qs49 q383 q2146 rfl hmX16_become rfl rfl rfl rfl rfl rfl rfl rfl (k_mono h (fun r11 w12 h => ?_))
      refine x_bipush 104 (z := 104) dX16_contract_130 rfl (by decide) rfl ?_
      refine x_iload_n 2 dX16_contract_132 rfl rfl rfl ?_
      refine x_iload 5 dX16_contract_133 rfl rfl ?_
      refine x_iconst 0 (z := 0) dX16_contract_135 rfl (by decide) rfl ?_
      refine y_Vi 274 (M := mX16_done) (As := [(0, r11), (0, 104), (0, a2), (0, (-1)), (0, 0)]) (st := []) dX16_contract_136 i65 rfl q2147 q2149 qs50 q383 q2150 rfl hmX16_done rfl rfl rfl rfl rfl rfl rfl rfl (k_mono h (fun r13 w14 h => ?_))
      exact y_iret dX16_contract_139 rfl h
  · refine x_iconst 0 (z := 0) dX16_contract_70 rfl (by decide) rfl ?_
    exact y_iret dX16_contract_71 rfl h
abbrev LX16_create_87 (d n : Nat) (Q : Int → bW → Prop) (X : String → bW → Prop) (a1 : Int) (a2 : Int) (a4 : Int) (s0 : Int) (w : bW) : Prop := b_Y (d + 1) mX16_create n Q X 87 [(2, 65), (0, a1), (0, a2), (9, 0), (0, a4), (9, 0), (9, 0), (9, 0)] [(0, s0)] w
theorem rX16_create {d n : Nat} {w : bW} {Q : Int → bW → Prop} {X : String → bW → Prop} (hn : 143 ≤ n) (a1 : Int) (h : b_K d mX16_argument [(2, 65), (0, a1), (0, 0)] n w (fun r1 w2 => b_K d mX16_open [(2, 65), (0, r1)] n w2 (fun r3 w4 => if 0 ≤ r3 then (b_K d mX16_word [(2, 65), (0, 0)] n w4 (fun r5 w6 => if r5 ≠ 4 then (LX16_create_87 d n Q X a1 r1 r3 0 w6) else (if w6 65 8 ≤ 1 then (LX16_create_87 d n Q X a1 r1 r3 0 w6) else (b_K d mX16_at [(2, 65), (0, 1)] n w6 (fun r7 w8 => (0 ≤ r3 ∧ r3 < 2000) ∧ (if r7 ≠ w8 55 r3 then (LX16_create_87 d n Q X a1 r1 r3 0 w8) else (b_K d mX16_at [(2, 65), (0, 1)] n w8 (fun r10 w11 => b_K d mX7_is [(2, 19), (0, r10), (0, 2)] n w11 (fun r12 w13 => if r12 = 0 then (LX16_create_87 d n Q X a1 r1 r3 0 w13) else (LX16_create_87 d n Q X a1 r1 r3 1 w13)) X) X))) X))) X) else (Q 0 (b_up w4 65 15 (w2 65 15)))) X) X) : b_K (d + 1) mX16_create [(2, 65), (0, a1)] n w Q X := by
  have i19 := iz19 (Nat.le_trans (Nat.le_of_ble_eq_true rfl) hn)
  have i53 := iz53 (Nat.le_trans (Nat.le_of_ble_eq_true rfl) hn)
  have i55 := iz55 (Nat.le_trans (Nat.le_of_ble_eq_true rfl) hn)
  have i65 := iz65 (Nat.le_trans (Nat.le_of_ble_eq_true rfl) hn)
  refine k_of (by decide) rfl rfl rfl (ls := [(2, 65), (0, a1), (9, 0), (9, 0), (9, 0), (9, 0), (9, 0), (9, 0)]) rfl ?_
  refine x_aload_n 0 dX16_create_0 rfl rfl rfl rfl rfl ?_
  refine x_iload_n 1 dX16_create_1 rfl rfl rfl ?_
  refine x_iconst 0 (z := 0) dX16_create_2 rfl (by decide) rfl ?_
  refine y_Vi 226 (M := mX16_argument) (As := [(0, a1), (0, 0)]) (st := []) dX16_create_3 i65 rfl q1932 q1934 qs35 q383 q1935 rfl hmX16_argument rfl rfl rfl rfl rfl rfl rfl rfl (k_mono h (fun r1 w2 h => ?_))
  refine x_istore_n 2 (ls' := [(2, 65), (0, a1), (0, r1), (9, 0), (9, 0), (9, 0), (9, 0), (9, 0)]) dX16_create_6 rfl rfl rfl rfl ?_
  refine x_aload_n 0 dX16_create_7 rfl rfl rfl rfl rfl ?_
  refine y_get 52 15 (c := 15) (z := w2 65 15) dX16_create_8 i65 rfl in_X16 q1114 rfl rfl rfl rfl rfl ?_
  refine x_istore_n 3 (ls' := [(2, 65), (0, a1), (0, r1), (0, w2 65 15), (9, 0), (9, 0), (9, 0), (9, 0)]) dX16_create_11 rfl rfl rfl rfl ?_
  refine x_aload_n 0 dX16_create_12 rfl rfl rfl rfl rfl ?_
  refine x_iload_n 2 dX16_create_13 rfl rfl rfl ?_
  refine y_Vi 65 (M := mX16_open) (As := [(0, r1)]) (st := []) dX16_create_14 i65 rfl q1821 q1823 qs22 q383 q1824 rfl hmX16_open rfl rfl rfl rfl rfl rfl rfl rfl (k_mono h (fun r3 w4 h => ?_))
  refine x_istore 4 (ls' := [(2, 65), (0, a1), (0, r1), (0, w2 65 15), (0, r3), (9, 0), (9, 0), (9, 0)]) dX16_create_17 rfl rfl rfl ?_
  refine x_iload 4 dX16_create_19 rfl rfl ?_
  refine x_if_ge (t := 31) 10 dX16_create_21 rfl rfl (b_ite h (fun hc h => ?_) (fun hc h => ?_))
  · refine x_aload_n 0 dX16_create_31 rfl rfl rfl rfl rfl ?_
    refine x_iconst 0 (z := 0) dX16_create_32 rfl (by decide) rfl ?_
    refine y_Vi 304 (M := mX16_word) (As := [(0, 0)]) (st := []) dX16_create_33 i65 rfl q2187 q2189 qs58 q383 q2190 rfl hmX16_word rfl rfl rfl rfl rfl rfl rfl rfl (k_mono h (fun r5 w6 h => ?_))
    refine x_iconst 4 (z := 4) dX16_create_36 rfl (by decide) rfl ?_
    refine x_icmp_ne (t := 86) 49 dX16_create_37 rfl rfl (b_ite h (fun hc h => ?_) (fun hc h => ?_))
    · refine x_iconst 0 (z := 0) dX16_create_86 rfl (by decide) rfl ?_
      exact x_fg (fgk (fgk (fgk (fgd (fgk (fgk (fgk (fgk (fg0))))))))) h
    · refine x_aload_n 0 dX16_create_40 rfl rfl rfl rfl rfl ?_
      refine y_get 56 8 (c := 15) (z := w6 65 8) dX16_create_41 i65 rfl in_X16 q1107 rfl rfl rfl rfl rfl ?_
      refine x_iconst 1 (z := 1) dX16_create_44 rfl (by decide) rfl ?_
      refine x_icmp_le (t := 86) 41 dX16_create_45 rfl rfl (b_ite h (fun hc h => ?_) (fun hc h => ?_))
      · refine x_iconst 0 (z := 0) dX16_create_86 rfl (by decide) rfl ?_
        exact x_fg (fgk (fgk (fgk (fgd (fgk (fgk (fgk (fgk (fg0))))))))) h
      · refine x_aload_n 0 dX16_create_48 rfl rfl rfl rfl rfl ?_
        refine x_iconst 1 (z := 1) dX16_create_49 rfl (by decide) rfl ?_
        refine y_Vi 209 (M := mX16_at) (As := [(0, 1)]) (st := []) dX16_create_50 i65 rfl q2171 q2173 qs54 q383 q2174 rfl hmX16_at rfl rfl rfl rfl rfl rfl rfl rfl (k_mono h (fun r7 w8 h => ?_))
        refine x_aload_n 0 dX16_create_53 rfl rfl rfl rfl rfl ?_
        refine y_getF 40 3 (c := 15) (z := 53) dX16_create_54 i65 rfl in_X16 q1102 rfl rfl rfl fn_65_3 (Nat.le_trans (Nat.le_of_ble_eq_true rfl) hn) rfl ?_
        refine y_getF 134 1 (c := 14) (z := 55) dX16_create_57 i53 rfl in_X15 q1023 rfl rfl rfl fn_53_1 (Nat.le_trans (Nat.le_of_ble_eq_true rfl) hn) rfl ?_
        refine x_iload 4 dX16_create_60 rfl rfl ?_
        obtain ⟨e9, h⟩ := h
        refine y_iald (z := w8 55 r3) dX16_create_62 ⟨2000, i55, e9⟩ rfl rfl ?_
        refine x_icmp_ne (t := 86) 23 dX16_create_63 rfl rfl (b_ite h (fun hc h => ?_) (fun hc h => ?_))
        · refine x_iconst 0 (z := 0) dX16_create_86 rfl (by decide) rfl ?_
          exact x_fg (fgk (fgk (fgk (fgd (fgk (fgk (fgk (fgk (fg0))))))))) h
        · refine x_aload_n 0 dX16_create_66 rfl rfl rfl rfl rfl ?_
          refine y_getF 32 1 (c := 15) (z := 19) dX16_create_67 i65 rfl in_X16 q1100 rfl rfl rfl fn_65_1 (Nat.le_trans (Nat.le_of_ble_eq_true rfl) hn) rfl ?_
          refine x_aload_n 0 dX16_create_70 rfl rfl rfl rfl rfl ?_
          refine x_iconst 1 (z := 1) dX16_create_71 rfl (by decide) rfl ?_
          refine y_Vi 209 (M := mX16_at) (As := [(0, 1)]) (st := [(2, 19)]) dX16_create_72 i65 rfl q2171 q2173 qs54 q383 q2174 rfl hmX16_at rfl rfl rfl rfl rfl rfl rfl rfl (k_mono h (fun r10 w11 h => ?_))
          refine x_iconst 2 (z := 2) dX16_create_75 rfl (by decide) rfl ?_
          refine y_Vi 120 (M := mX7_is) (As := [(0, r10), (0, 2)]) (st := []) dX16_create_76 i19 rfl q1866 q744 q745 q374 q746 rfl hmX7_is rfl rfl rfl rfl rfl rfl rfl rfl (k_mono h (fun r12 w13 h => ?_))
          refine x_if_eq (t := 86) 7 dX16_create_79 rfl rfl (b_ite h (fun hc h => ?_) (fun hc h => ?_))
          · refine x_iconst 0 (z := 0) dX16_create_86 rfl (by decide) rfl ?_
            exact x_fg (fgk (fgk (fgk (fgd (fgk (fgk (fgk (fgk (fg0))))))))) h
          · refine x_iconst 1 (z := 1) dX16_create_82 rfl (by decide) rfl ?_
            refine x_goto 4 (q := 87) dX16_create_83 rfl ?_
            exact x_fg (fgk (fgk (fgk (fgd (fgk (fgk (fgk (fgk (fg0))))))))) h
  · refine x_aload_n 0 dX16_create_24 rfl rfl rfl rfl rfl ?_
    refine x_iload_n 3 dX16_create_25 rfl rfl rfl ?_
    refine x_put 52 15 (c := 15) dX16_create_26 i65 rfl in_X16 tyX16_ok nmX16 q1114 rfl rfl rfl (Or.inl rfl) (Or.inl ⟨rfl, rfl⟩) rfl ?_
    refine x_iconst 0 (z := 0) dX16_create_29 rfl (by decide) rfl ?_
    exact y_iret dX16_create_30 rfl h
theorem sX16_create_87 {d n : Nat} {w : bW} {Q : Int → bW → Prop} {X : String → bW → Prop} (hn : 143 ≤ n) (a1 : Int) (a2 : Int) (a4 : Int) (s0 : Int) (h : if s0 ≠ 0 then (b_K d mX16_save [(2, 65)] n w (fun r1 w2 => b_K d mX16_body [(2, 65), (0, a4), (0, a2), (0, a1)] n w2 (fun r3 w4 => if w4 65 15 < 0 then (b_K d mX16_load [(2, 65), (0, w2 65 10)] n (b_up w4 65 11 0) (fun r5 w6 => b_K d mX16_become [(2, 65), (0, 0), (0, 7)] n (b_up (b_up w6 65 10 (w 65 10)) 65 8 (b_i ((w6 65 8) - 2))) (fun r7 w8 => if r7 = 0 then (b_K d mX16_done [(2, 65), (0, 0), (0, 106), (0, a4), (0, 0), (0, 0)] n w8 (fun r9 w10 => Q r9 w10) X) else (b_K d mX16_become [(2, 65), (0, 0), (0, 9)] n w8 (fun r11 w12 => if r11 = 0 then (b_K d mX16_done [(2, 65), (0, 0), (0, 106), (0, a4), (0, 0), (0, 0)] n w12 (fun r13 w14 => Q r13 w14) X) else (b_K d mX16_done [(2, 65), (0, 1), (0, 106), (0, a4), (0, 0), (0, 0)] n w12 (fun r15 w16 => Q r15 w16) X)) X)) X) X) else (Q 0 w4)) X) X) else (Q 0 w)) : LX16_create_87 d n Q X a1 a2 a4 s0 w := by
  have i65 := iz65 (Nat.le_trans (Nat.le_of_ble_eq_true rfl) hn)
  refine x_istore 5 (ls' := [(2, 65), (0, a1), (0, a2), (9, 0), (0, a4), (0, s0), (9, 0), (9, 0)]) dX16_create_87 rfl rfl rfl ?_
  refine x_iload 5 dX16_create_89 rfl rfl ?_
  refine x_if_ne (t := 96) 5 dX16_create_91 rfl rfl (b_ite h (fun hc h => ?_) (fun hc h => ?_))
  · refine x_aload_n 0 dX16_create_96 rfl rfl rfl rfl rfl ?_
    refine y_get 59 10 (c := 15) (z := w 65 10) dX16_create_97 i65 rfl in_X16 q1109 rfl rfl rfl rfl rfl ?_
    refine x_istore 6 (ls' := [(2, 65), (0, a1), (0, a2), (9, 0), (0, a4), (0, s0), (0, w 65 10), (9, 0)]) dX16_create_100 rfl rfl rfl ?_
    refine x_aload_n 0 dX16_create_102 rfl rfl rfl rfl rfl ?_
    refine y_Vv 330 (M := mX16_save) (As := []) (st := []) dX16_create_103 i65 rfl q2215 q2217 qs64 q383 q2218 rfl hmX16_save rfl rfl rfl rfl rfl rfl rfl (k_mono h (fun r1 w2 h => ?_))
    refine x_aload_n 0 dX16_create_106 rfl rfl rfl rfl rfl ?_
    refine y_get 59 10 (c := 15) (z := w2 65 10) dX16_create_107 i65 rfl in_X16 q1109 rfl rfl rfl rfl rfl ?_
    refine x_istore 7 (ls' := [(2, 65), (0, a1), (0, a2), (9, 0), (0, a4), (0, s0), (0, w 65 10), (0, w2 65 10)]) dX16_create_110 rfl rfl rfl ?_
    refine x_aload_n 0 dX16_create_112 rfl rfl rfl rfl rfl ?_
    refine x_iload 4 dX16_create_113 rfl rfl ?_
    refine x_iload_n 2 dX16_create_115 rfl rfl rfl ?_
    refine x_iload_n 1 dX16_create_116 rfl rfl rfl ?_
    refine y_Vv 75 (M := mX16_body) (As := [(0, a4), (0, a2), (0, a1)]) (st := []) dX16_create_117 i65 rfl q1906 q1908 qs29 q383 q1909 rfl hmX16_body rfl rfl rfl rfl rfl rfl rfl (k_mono h (fun r3 w4 h => ?_))
    refine x_aload_n 0 dX16_create_120 rfl rfl rfl rfl rfl ?_
    refine y_get 52 15 (c := 15) (z := w4 65 15) dX16_create_121 i65 rfl in_X16 q1114 rfl rfl rfl rfl rfl ?_
    refine x_if_lt (t := 129) 5 dX16_create_124 rfl rfl (b_ite h (fun hc h => ?_) (fun hc h => ?_))
    · refine x_aload_n 0 dX16_create_129 rfl rfl rfl rfl rfl ?_
      refine x_iconst 0 (z := 0) dX16_create_130 rfl (by decide) rfl ?_
      refine x_put 199 11 (c := 15) dX16_create_131 i65 rfl in_X16 tyX16_ok nmX16 q1110 rfl rfl rfl (Or.inl rfl) (Or.inr (Or.inl ⟨rfl, rfl, by decide⟩)) rfl ?_
      refine x_aload_n 0 dX16_create_134 rfl rfl rfl rfl rfl ?_
      refine x_iload 7 dX16_create_135 rfl rfl ?_
      refine y_Vv 333 (M := mX16_load) (As := [(0, w2 65 10)]) (st := []) dX16_create_137 i65 rfl q2219 q2221 qs65 q383 q2222 rfl hmX16_load rfl rfl rfl rfl rfl rfl rfl (k_mono h (fun r5 w6 h => ?_))
      refine x_aload_n 0 dX16_create_140 rfl rfl rfl rfl rfl ?_
      refine x_iload 6 dX16_create_141 rfl rfl ?_
      refine x_put 59 10 (c := 15) dX16_create_143 i65 rfl in_X16 tyX16_ok nmX16 q1109 rfl rfl rfl (Or.inl rfl) (Or.inl ⟨rfl, rfl⟩) rfl ?_
      refine x_aload_n 0 dX16_create_146 rfl rfl rfl rfl rfl ?_
      refine x_dup dX16_create_147 rfl rfl ?_
      refine y_get 56 8 (c := 15) (z := w6 65 8) dX16_create_148 i65 rfl in_X16 q1107 rfl rfl rfl rfl rfl ?_
      refine x_iconst 2 (z := 2) dX16_create_151 rfl (by decide) rfl ?_
      refine x_isub dX16_create_152 rfl ?_
      refine x_put 56 8 (c := 15) dX16_create_153 i65 rfl in_X16 tyX16_ok nmX16 q1107 rfl rfl rfl (Or.inl rfl) (Or.inl ⟨rfl, rfl⟩) rfl ?_
      refine x_aload_n 0 dX16_create_156 rfl rfl rfl rfl rfl ?_
      refine x_aload_n 0 dX16_create_157 rfl rfl rfl rfl rfl ?_
      refine x_iconst 0 (z := 0) dX16_create_158 rfl (by decide) rfl ?_
      refine x_bipush 7 (z := 7) dX16_create_159 rfl (by decide) rfl ?_
      refine y_Vi 278 (M := mX16_become) (As := [(0, 0), (0, 7)]) (st := [(2, 65)]) dX16_create_161 i65 rfl q2143 q2145 qs49 q383 q2146 rfl hmX16_become rfl rfl rfl rfl rfl rfl rfl rfl (k_mono h (fun r7 w8 h => ?_))
      refine x_if_eq (t := 181) 17 dX16_create_164 rfl rfl (b_ite h (fun hc h => ?_) (fun hc h => ?_))
      · refine x_iconst 0 (z := 0) dX16_create_181 rfl (by decide) rfl ?_
        refine x_bipush 106 (z := 106) dX16_create_182 rfl (by decide) rfl ?_
        refine x_iload 4 dX16_create_184 rfl rfl ?_
        refine x_iconst 0 (z := 0) dX16_create_186 rfl (by decide) rfl ?_
        refine x_iconst 0 (z := 0) dX16_create_187 rfl (by decide) rfl ?_
        refine y_Vi 274 (M := mX16_done) (As := [(0, 0), (0, 106), (0, a4), (0, 0), (0, 0)]) (st := []) dX16_create_188 i65 rfl q2147 q2149 qs50 q383 q2150 rfl hmX16_done rfl rfl rfl rfl rfl rfl rfl rfl (k_mono h (fun r9 w10 h => ?_))
        exact y_iret dX16_create_191 rfl h
      · refine x_aload_n 0 dX16_create_167 rfl rfl rfl rfl rfl ?_
        refine x_iconst 0 (z := 0) dX16_create_168 rfl (by decide) rfl ?_
        refine x_bipush 9 (z := 9) dX16_create_169 rfl (by decide) rfl ?_
        refine y_Vi 278 (M := mX16_become) (As := [(0, 0), (0, 9)]) (st := [(2, 65)]) dX16_create_171 i65 rfl q2143 q2145 qs49 q383 q2146 rfl hmX16_become rfl rfl rfl rfl rfl rfl rfl rfl (k_mono h (fun r11 w12 h => ?_))
        refine x_if_eq (t := 181) 7 dX16_create_174 rfl rfl (b_ite h (fun hc h => ?_) (fun hc h => ?_))
        · refine x_iconst 0 (z := 0) dX16_create_181 rfl (by decide) rfl ?_
          refine x_bipush 106 (z := 106) dX16_create_182 rfl (by decide) rfl ?_
          refine x_iload 4 dX16_create_184 rfl rfl ?_
          refine x_iconst 0 (z := 0) dX16_create_186 rfl (by decide) rfl ?_
          refine x_iconst 0 (z := 0) dX16_create_187 rfl (by decide) rfl ?_
          refine y_Vi 274 (M := mX16_done) (As := [(0, 0), (0, 106), (0, a4), (0, 0), (0, 0)]) (st := []) dX16_create_188 i65 rfl q2147 q2149 qs50 q383 q2150 rfl hmX16_done rfl rfl rfl rfl rfl rfl rfl rfl (k_mono h (fun r13 w14 h => ?_))
          exact y_iret dX16_create_191 rfl h
        · refine x_iconst 1 (z := 1) dX16_create_177 rfl (by decide) rfl ?_
          refine x_goto 4 (q := 182) dX16_create_178 rfl ?_
          refine x_bipush 106 (z := 106) dX16_create_182 rfl (by decide) rfl ?_
          refine x_iload 4 dX16_create_184 rfl rfl ?_
          refine x_iconst 0 (z := 0) dX16_create_186 rfl (by decide) rfl ?_
          refine x_iconst 0 (z := 0) dX16_create_187 rfl (by decide) rfl ?_
          refine y_Vi 274 (M := mX16_done) (As := [(0, 1), (0, 106), (0, a4), (0, 0), (0, 0)]) (st := []) dX16_create_188 i65 rfl q2147 q2149 qs50 q383 q2150 rfl hmX16_done rfl rfl rfl rfl rfl rfl rfl rfl (k_mono h (fun r15 w16 h => ?_))
          exact y_iret dX16_create_191 rfl h
    · refine x_iconst 0 (z := 0) dX16_create_127 rfl (by decide) rfl ?_
      exact y_iret dX16_create_128 rfl h
  · refine x_iconst 0 (z := 0) dX16_create_94 rfl (by decide) rfl ?_
    exact y_iret dX16_create_95 rfl h
end RulesX16
