section RulesJ
set_option maxRecDepth 100000
abbrev LJ11_numberOfLeadingZeros_48 (d n : Nat) (Q : Int → bW → Prop) (X : String → bW → Prop) (a0 : Int) (a1 : Int) (w : bW) : Prop := b_Y (d + 1) mJ11_numberOfLeadingZeros n Q X 48 [(0, a0), (0, a1)] [] w
theorem rJ11_numberOfLeadingZeros {d n : Nat} {w : bW} {Q : Int → bW → Prop} {X : String → bW → Prop} (a0 : Int) (h : if 0 < a0 then (if a0 < 65536 then (if a0 < 256 then (LJ11_numberOfLeadingZeros_48 d n Q X a0 31 w) else (LJ11_numberOfLeadingZeros_48 d n Q X (b_ush a0 8) (b_i (31 + (-8))) w)) else (if b_ush a0 16 < 256 then (LJ11_numberOfLeadingZeros_48 d n Q X (b_ush a0 16) (b_i (31 + (-16))) w) else (LJ11_numberOfLeadingZeros_48 d n Q X (b_ush (b_ush a0 16) 8) (b_i ((b_i (31 + (-16))) + (-8))) w))) else (if a0 ≠ 0 then (Q 0 w) else (Q 32 w))) : b_K (d + 1) mJ11_numberOfLeadingZeros [(0, a0)] n w Q X := by
  refine k_of (by decide) rfl rfl rfl (ls := [(0, a0), (9, 0)]) rfl ?_
  refine x_iload_n 0 dJ11_numberOfLeadingZeros_0 rfl rfl rfl ?_
  refine x_if_gt (t := 15) 14 dJ11_numberOfLeadingZeros_1 rfl rfl (b_ite h (fun hc h => ?_) (fun hc h => ?_))
  · refine x_bipush 31 (z := 31) dJ11_numberOfLeadingZeros_15 rfl (by decide) rfl ?_
    refine x_istore_n 1 (ls' := [(0, a0), (0, 31)]) dJ11_numberOfLeadingZeros_17 rfl rfl rfl rfl ?_
    refine x_iload_n 0 dJ11_numberOfLeadingZeros_18 rfl rfl rfl ?_
    refine x_ldcw 264 (x := 65536) dJ11_numberOfLeadingZeros_19 q1758 rfl (by decide) rfl ?_
    refine x_icmp_lt (t := 33) 11 dJ11_numberOfLeadingZeros_22 rfl rfl (b_ite h (fun hc h => ?_) (fun hc h => ?_))
    · refine x_iload_n 0 dJ11_numberOfLeadingZeros_33 rfl rfl rfl ?_
      refine x_sipush 256 (z := 256) dJ11_numberOfLeadingZeros_34 rfl (by decide) rfl ?_
      refine x_icmp_lt (t := 48) 11 dJ11_numberOfLeadingZeros_37 rfl rfl (b_ite h (fun hc h => ?_) (fun hc h => ?_))
      · exact x_fg (fgk (fgk (fg0))) h
      · refine x_iinc 1 (-8) (ls' := [(0, a0), (0, b_i (31 + (-8)))]) dJ11_numberOfLeadingZeros_40 rfl rfl rfl rfl ?_
        refine x_iload_n 0 dJ11_numberOfLeadingZeros_43 rfl rfl rfl ?_
        refine x_bipush 8 (z := 8) dJ11_numberOfLeadingZeros_44 rfl (by decide) rfl ?_
        refine x_iushr dJ11_numberOfLeadingZeros_46 rfl ?_
        refine x_istore_n 0 (ls' := [(0, b_ush a0 8), (0, b_i (31 + (-8)))]) dJ11_numberOfLeadingZeros_47 rfl rfl rfl rfl ?_
        exact x_fg (fgk (fgk (fg0))) h
    · refine x_iinc 1 (-16) (ls' := [(0, a0), (0, b_i (31 + (-16)))]) dJ11_numberOfLeadingZeros_25 rfl rfl rfl rfl ?_
      refine x_iload_n 0 dJ11_numberOfLeadingZeros_28 rfl rfl rfl ?_
      refine x_bipush 16 (z := 16) dJ11_numberOfLeadingZeros_29 rfl (by decide) rfl ?_
      refine x_iushr dJ11_numberOfLeadingZeros_31 rfl ?_
      refine x_istore_n 0 (ls' := [(0, b_ush a0 16), (0, b_i (31 + (-16)))]) dJ11_numberOfLeadingZeros_32 rfl rfl rfl rfl ?_
      refine x_iload_n 0 dJ11_numberOfLeadingZeros_33 rfl rfl rfl ?_
      refine x_sipush 256 (z := 256) dJ11_numberOfLeadingZeros_34 rfl (by decide) rfl ?_
      refine x_icmp_lt (t := 48) 11 dJ11_numberOfLeadingZeros_37 rfl rfl (b_ite h (fun hc h => ?_) (fun hc h => ?_))
      · exact x_fg (fgk (fgk (fg0))) h
      · refine x_iinc 1 (-8) (ls' := [(0, b_ush a0 16), (0, b_i ((b_i (31 + (-16))) + (-8)))]) dJ11_numberOfLeadingZeros_40 rfl rfl rfl rfl ?_
        refine x_iload_n 0 dJ11_numberOfLeadingZeros_43 rfl rfl rfl ?_
        refine x_bipush 8 (z := 8) dJ11_numberOfLeadingZeros_44 rfl (by decide) rfl ?_
        refine x_iushr dJ11_numberOfLeadingZeros_46 rfl ?_
        refine x_istore_n 0 (ls' := [(0, b_ush (b_ush a0 16) 8), (0, b_i ((b_i (31 + (-16))) + (-8)))]) dJ11_numberOfLeadingZeros_47 rfl rfl rfl rfl ?_
        exact x_fg (fgk (fgk (fg0))) h
  · refine x_iload_n 0 dJ11_numberOfLeadingZeros_4 rfl rfl rfl ?_
    refine x_if_ne (t := 13) 8 dJ11_numberOfLeadingZeros_5 rfl rfl (b_ite h (fun hc h => ?_) (fun hc h => ?_))
    · refine x_iconst 0 (z := 0) dJ11_numberOfLeadingZeros_13 rfl (by decide) rfl ?_
      exact y_iret dJ11_numberOfLeadingZeros_14 rfl h
    · refine x_bipush 32 (z := 32) dJ11_numberOfLeadingZeros_8 rfl (by decide) rfl ?_
      refine x_goto 4 (q := 14) dJ11_numberOfLeadingZeros_10 rfl ?_
      exact y_iret dJ11_numberOfLeadingZeros_14 rfl h
theorem sJ11_numberOfLeadingZeros_48 {d n : Nat} {w : bW} {Q : Int → bW → Prop} {X : String → bW → Prop} (a0 : Int) (a1 : Int) (h : if a0 < 16 then (if a0 < 4 then (Q (b_i (a1 - (b_ush a0 1))) w) else (Q (b_i ((b_i (a1 + (-2))) - (b_ush (b_ush a0 2) 1))) w)) else (if b_ush a0 4 < 4 then (Q (b_i ((b_i (a1 + (-4))) - (b_ush (b_ush a0 4) 1))) w) else (Q (b_i ((b_i ((b_i (a1 + (-4))) + (-2))) - (b_ush (b_ush (b_ush a0 4) 2) 1))) w))) : LJ11_numberOfLeadingZeros_48 d n Q X a0 a1 w := by
  refine x_iload_n 0 dJ11_numberOfLeadingZeros_48 rfl rfl rfl ?_
  refine x_bipush 16 (z := 16) dJ11_numberOfLeadingZeros_49 rfl (by decide) rfl ?_
  refine x_icmp_lt (t := 61) 10 dJ11_numberOfLeadingZeros_51 rfl rfl (b_ite h (fun hc h => ?_) (fun hc h => ?_))
  · refine x_iload_n 0 dJ11_numberOfLeadingZeros_61 rfl rfl rfl ?_
    refine x_iconst 4 (z := 4) dJ11_numberOfLeadingZeros_62 rfl (by decide) rfl ?_
    refine x_icmp_lt (t := 73) 10 dJ11_numberOfLeadingZeros_63 rfl rfl (b_ite h (fun hc h => ?_) (fun hc h => ?_))
    · refine x_iload_n 1 dJ11_numberOfLeadingZeros_73 rfl rfl rfl ?_
      refine x_iload_n 0 dJ11_numberOfLeadingZeros_74 rfl rfl rfl ?_
      refine x_iconst 1 (z := 1) dJ11_numberOfLeadingZeros_75 rfl (by decide) rfl ?_
      refine x_iushr dJ11_numberOfLeadingZeros_76 rfl ?_
      refine x_isub dJ11_numberOfLeadingZeros_77 rfl ?_
      exact y_iret dJ11_numberOfLeadingZeros_78 rfl h
    · refine x_iinc 1 (-2) (ls' := [(0, a0), (0, b_i (a1 + (-2)))]) dJ11_numberOfLeadingZeros_66 rfl rfl rfl rfl ?_
      refine x_iload_n 0 dJ11_numberOfLeadingZeros_69 rfl rfl rfl ?_
      refine x_iconst 2 (z := 2) dJ11_numberOfLeadingZeros_70 rfl (by decide) rfl ?_
      refine x_iushr dJ11_numberOfLeadingZeros_71 rfl ?_
      refine x_istore_n 0 (ls' := [(0, b_ush a0 2), (0, b_i (a1 + (-2)))]) dJ11_numberOfLeadingZeros_72 rfl rfl rfl rfl ?_
      refine x_iload_n 1 dJ11_numberOfLeadingZeros_73 rfl rfl rfl ?_
      refine x_iload_n 0 dJ11_numberOfLeadingZeros_74 rfl rfl rfl ?_
      refine x_iconst 1 (z := 1) dJ11_numberOfLeadingZeros_75 rfl (by decide) rfl ?_
      refine x_iushr dJ11_numberOfLeadingZeros_76 rfl ?_
      refine x_isub dJ11_numberOfLeadingZeros_77 rfl ?_
      exact y_iret dJ11_numberOfLeadingZeros_78 rfl h
  · refine x_iinc 1 (-4) (ls' := [(0, a0), (0, b_i (a1 + (-4)))]) dJ11_numberOfLeadingZeros_54 rfl rfl rfl rfl ?_
    refine x_iload_n 0 dJ11_numberOfLeadingZeros_57 rfl rfl rfl ?_
    refine x_iconst 4 (z := 4) dJ11_numberOfLeadingZeros_58 rfl (by decide) rfl ?_
    refine x_iushr dJ11_numberOfLeadingZeros_59 rfl ?_
    refine x_istore_n 0 (ls' := [(0, b_ush a0 4), (0, b_i (a1 + (-4)))]) dJ11_numberOfLeadingZeros_60 rfl rfl rfl rfl ?_
    refine x_iload_n 0 dJ11_numberOfLeadingZeros_61 rfl rfl rfl ?_
    refine x_iconst 4 (z := 4) dJ11_numberOfLeadingZeros_62 rfl (by decide) rfl ?_
    refine x_icmp_lt (t := 73) 10 dJ11_numberOfLeadingZeros_63 rfl rfl (b_ite h (fun hc h => ?_) (fun hc h => ?_))
    · refine x_iload_n 1 dJ11_numberOfLeadingZeros_73 rfl rfl rfl ?_
      refine x_iload_n 0 dJ11_numberOfLeadingZeros_74 rfl rfl rfl ?_
      refine x_iconst 1 (z := 1) dJ11_numberOfLeadingZeros_75 rfl (by decide) rfl ?_
      refine x_iushr dJ11_numberOfLeadingZeros_76 rfl ?_
      refine x_isub dJ11_numberOfLeadingZeros_77 rfl ?_
      exact y_iret dJ11_numberOfLeadingZeros_78 rfl h
    · refine x_iinc 1 (-2) (ls' := [(0, b_ush a0 4), (0, b_i ((b_i (a1 + (-4))) + (-2)))]) dJ11_numberOfLeadingZeros_66 rfl rfl rfl rfl ?_
      refine x_iload_n 0 dJ11_numberOfLeadingZeros_69 rfl rfl rfl ?_
      refine x_iconst 2 (z := 2) dJ11_numberOfLeadingZeros_70 rfl (by decide) rfl ?_
      refine x_iushr dJ11_numberOfLeadingZeros_71 rfl ?_
      refine x_istore_n 0 (ls' := [(0, b_ush (b_ush a0 4) 2), (0, b_i ((b_i (a1 + (-4))) + (-2)))]) dJ11_numberOfLeadingZeros_72 rfl rfl rfl rfl ?_
      refine x_iload_n 1 dJ11_numberOfLeadingZeros_73 rfl rfl rfl ?_
      refine x_iload_n 0 dJ11_numberOfLeadingZeros_74 rfl rfl rfl ?_
      refine x_iconst 1 (z := 1) dJ11_numberOfLeadingZeros_75 rfl (by decide) rfl ?_
      refine x_iushr dJ11_numberOfLeadingZeros_76 rfl ?_
      refine x_isub dJ11_numberOfLeadingZeros_77 rfl ?_
      exact y_iret dJ11_numberOfLeadingZeros_78 rfl h
theorem rJ4_length {d n : Nat} {w : bW} {Q : Int → bW → Prop} {X : String → bW → Prop} (k : Int) (hk : 0 ≤ k ∧ k < 6) (h : b_K d mJ4_coder [(4, k)] n w (fun r1 w2 => Q (b_shr (b_tlen k) r1) w2) X) : b_K (d + 1) mJ4_length [(4, k)] n w Q X := by
  refine k_of (by decide) rfl rfl rfl (ls := [(4, k)]) rfl ?_
  refine x_aload_n 0 dJ4_length_0 rfl rfl rfl rfl rfl ?_
  refine x_sval 9 dJ4_length_1 hk q4701 rfl ?_
  refine x_lst dJ4_length_4 hk rfl ?_
  refine x_aload_n 0 dJ4_length_5 rfl rfl rfl rfl rfl ?_
  refine y_Ti 335 (M := mJ4_coder) (As := []) (st := [(0, b_tlen k)]) dJ4_length_6 hk q501 q502 q503 q365 q504 rfl hmJ4_coder rfl rfl rfl rfl rfl rfl rfl rfl (k_mono h (fun r1 w2 h => ?_))
  refine x_ishr dJ4_length_9 rfl ?_
  exact y_iret dJ4_length_10 rfl h
theorem rJ4_coder {d n : Nat} {w : bW} {Q : Int → bW → Prop} {X : String → bW → Prop} (k : Int) (hk : 0 ≤ k ∧ k < 6) (h : (b_b8 0 = 0) ∧ Q 0 w) : b_K (d + 1) mJ4_coder [(4, k)] n w Q X := by
  refine k_of (by decide) rfl rfl rfl (ls := [(4, k)]) rfl ?_
  refine x_gcs 38 dJ4_coder_0 q505 rfl ?_
  refine x_if_eq (t := 13) 10 dJ4_coder_3 rfl rfl (b_ifF (by decide) ?_)
  refine x_aload_n 0 dJ4_coder_6 rfl rfl rfl rfl rfl ?_
  refine x_scod 15 dJ4_coder_7 hk q4702 rfl ?_
  refine x_goto 4 (q := 14) dJ4_coder_10 rfl ?_
  exact y_bret dJ4_coder_14 rfl h.1 h.2
theorem rJ4_indexOf {d n : Nat} {w : bW} {Q : Int → bW → Prop} {X : String → bW → Prop} (k : Int) (a1 : Int) (a2 : Int) (hk : 0 ≤ k ∧ k < 6) (h : b_K d mJ4_isLatin1 [(4, k)] n w (fun r1 w2 => if r1 = 0 then (b_K d mJ4_length [(4, k)] n w2 (fun r3 w4 => b_K d mJ7_indexOf [(5, k), (0, a1), (0, a2), (0, r3)] n w4 (fun r5 w6 => Q r5 w6) X) X) else (b_K d mJ4_length [(4, k)] n w2 (fun r7 w8 => b_K d mJ5_indexOf [(5, k), (0, a1), (0, a2), (0, r7)] n w8 (fun r9 w10 => Q r9 w10) X) X)) X) : b_K (d + 1) mJ4_indexOf [(4, k), (0, a1), (0, a2)] n w Q X := by
  refine k_of (by decide) rfl rfl rfl (ls := [(4, k), (0, a1), (0, a2)]) rfl ?_
  refine x_aload_n 0 dJ4_indexOf_0 rfl rfl rfl rfl rfl ?_
  refine y_Ti 492 (M := mJ4_isLatin1) (As := []) (st := []) dJ4_indexOf_1 hk q511 q512 q513 q365 q514 rfl hmJ4_isLatin1 rfl rfl rfl rfl rfl rfl rfl rfl (k_mono h (fun r1 w2 h => ?_))
  refine x_if_eq (t := 23) 19 dJ4_indexOf_4 rfl rfl (b_ite h (fun hc h => ?_) (fun hc h => ?_))
  · refine x_aload_n 0 dJ4_indexOf_23 rfl rfl rfl rfl rfl ?_
    refine x_sval 9 dJ4_indexOf_24 hk q4701 rfl ?_
    refine x_iload_n 1 dJ4_indexOf_27 rfl rfl rfl ?_
    refine x_iload_n 2 dJ4_indexOf_28 rfl rfl rfl ?_
    refine x_aload_n 0 dJ4_indexOf_29 rfl rfl rfl rfl rfl ?_
    refine y_Ti 505 (M := mJ4_length) (As := []) (st := [(0, a2), (0, a1), (5, k)]) dJ4_indexOf_30 hk q515 q498 q499 q365 q500 rfl hmJ4_length rfl rfl rfl rfl rfl rfl rfl rfl (k_mono h (fun r3 w4 h => ?_))
    refine y_Si 640 (M := mJ7_indexOf) (As := [(5, k), (0, a1), (0, a2), (0, r3)]) (st := []) dJ4_indexOf_33 q531 q532 q368 q533 hmJ7_indexOf rfl rfl rfl rfl rfl rfl rfl rfl (k_mono h (fun r5 w6 h => ?_))
    exact y_iret dJ4_indexOf_36 rfl h
  · refine x_aload_n 0 dJ4_indexOf_7 rfl rfl rfl rfl rfl ?_
    refine x_sval 9 dJ4_indexOf_8 hk q4701 rfl ?_
    refine x_iload_n 1 dJ4_indexOf_11 rfl rfl rfl ?_
    refine x_iload_n 2 dJ4_indexOf_12 rfl rfl rfl ?_
    refine x_aload_n 0 dJ4_indexOf_13 rfl rfl rfl rfl rfl ?_
    refine y_Ti 505 (M := mJ4_length) (As := []) (st := [(0, a2), (0, a1), (5, k)]) dJ4_indexOf_14 hk q515 q498 q499 q365 q500 rfl hmJ4_length rfl rfl rfl rfl rfl rfl rfl rfl (k_mono h (fun r7 w8 h => ?_))
    refine y_Si 637 (M := mJ5_indexOf) (As := [(5, k), (0, a1), (0, a2), (0, r7)]) (st := []) dJ4_indexOf_17 q516 q517 q366 q518 hmJ5_indexOf rfl rfl rfl rfl rfl rfl rfl rfl (k_mono h (fun r9 w10 h => ?_))
    refine x_goto 16 (q := 36) dJ4_indexOf_20 rfl ?_
    exact y_iret dJ4_indexOf_36 rfl h
theorem rJ4_isLatin1 {d n : Nat} {w : bW} {Q : Int → bW → Prop} {X : String → bW → Prop} (k : Int) (hk : 0 ≤ k ∧ k < 6) (h : Q 1 w) : b_K (d + 1) mJ4_isLatin1 [(4, k)] n w Q X := by
  refine k_of (by decide) rfl rfl rfl (ls := [(4, k)]) rfl ?_
  refine x_gcs 38 dJ4_isLatin1_0 q505 rfl ?_
  refine x_if_eq (t := 17) 14 dJ4_isLatin1_3 rfl rfl (b_ifF (by decide) ?_)
  refine x_aload_n 0 dJ4_isLatin1_6 rfl rfl rfl rfl rfl ?_
  refine x_scod 15 dJ4_isLatin1_7 hk q4702 rfl ?_
  refine x_if_ne (t := 17) 7 dJ4_isLatin1_10 rfl rfl (b_ifF (by decide) ?_)
  refine x_iconst 1 (z := 1) dJ4_isLatin1_13 rfl (by decide) rfl ?_
  refine x_goto 4 (q := 18) dJ4_isLatin1_14 rfl ?_
  exact y_zret dJ4_isLatin1_18 rfl (by decide) h
theorem rJ4_checkBoundsBeginEnd {d n : Nat} {w : bW} {Q : Int → bW → Prop} {X : String → bW → Prop} (a0 : Int) (a1 : Int) (a2 : Int) (h : (b_K d mJ8_checkFromToIndex [(0, a0), (0, a1), (0, a2), (2, (-1))] n w (fun r1 w2 => Q 0 w2) X) ∧ (∀ a9 : Int, b_K d mJ8_checkFromToIndex [(0, a0), (0, a1), (0, a2), (7, a9)] n w (fun r3 w4 => Q 0 w4) X)) : b_K (d + 1) mJ4_checkBoundsBeginEnd [(0, a0), (0, a1), (0, a2)] n w Q X := by
  refine k_of (by decide) rfl rfl rfl (ls := [(0, a0), (0, a1), (0, a2)]) rfl ?_
  refine x_iload_n 0 dJ4_checkBoundsBeginEnd_0 rfl rfl rfl ?_
  refine x_iload_n 1 dJ4_checkBoundsBeginEnd_1 rfl rfl rfl ?_
  refine x_iload_n 2 dJ4_checkBoundsBeginEnd_2 rfl rfl rfl ?_
  refine x_gfm 1053 dJ4_checkBoundsBeginEnd_3 q549 rfl ?_ (fun a9 => ?_)
  · replace h := h.1
    refine y_Si 1062 (M := mJ8_checkFromToIndex) (As := [(0, a0), (0, a1), (0, a2), (2, (-1))]) (st := []) dJ4_checkBoundsBeginEnd_6 q551 q552 q369 q553 hmJ8_checkFromToIndex rfl rfl rfl rfl rfl rfl rfl rfl (k_mono h (fun r1 w2 h => ?_))
    refine x_pop dJ4_checkBoundsBeginEnd_9 rfl rfl ?_
    exact y_vret dJ4_checkBoundsBeginEnd_10 rfl h
  · replace h := h.2 a9
    refine y_Si 1062 (M := mJ8_checkFromToIndex) (As := [(0, a0), (0, a1), (0, a2), (7, a9)]) (st := []) dJ4_checkBoundsBeginEnd_6 q551 q552 q369 q553 hmJ8_checkFromToIndex rfl rfl rfl rfl rfl rfl rfl rfl (k_mono h (fun r3 w4 h => ?_))
    refine x_pop dJ4_checkBoundsBeginEnd_9 rfl rfl ?_
    exact y_vret dJ4_checkBoundsBeginEnd_10 rfl h
theorem rJ4_charAt {d n : Nat} {w : bW} {Q : Int → bW → Prop} {X : String → bW → Prop} (k : Int) (a1 : Int) (hk : 0 ≤ k ∧ k < 6) (h : b_K d mJ4_isLatin1 [(4, k)] n w (fun r1 w2 => if r1 = 0 then (b_K d mJ7_charAt [(5, k), (0, a1)] n w2 (fun r3 w4 => (0 ≤ r3 ∧ r3 ≤ 65535) ∧ Q r3 w4) X) else (b_K d mJ5_charAt [(5, k), (0, a1)] n w2 (fun r5 w6 => (0 ≤ r5 ∧ r5 ≤ 65535) ∧ Q r5 w6) X)) X) : b_K (d + 1) mJ4_charAt [(4, k), (0, a1)] n w Q X := by
  refine k_of (by decide) rfl rfl rfl (ls := [(4, k), (0, a1)]) rfl ?_
  refine x_aload_n 0 dJ4_charAt_0 rfl rfl rfl rfl rfl ?_
  refine y_Ti 492 (M := mJ4_isLatin1) (As := []) (st := []) dJ4_charAt_1 hk q511 q512 q513 q365 q514 rfl hmJ4_isLatin1 rfl rfl rfl rfl rfl rfl rfl rfl (k_mono h (fun r1 w2 h => ?_))
  refine x_if_eq (t := 16) 12 dJ4_charAt_4 rfl rfl (b_ite h (fun hc h => ?_) (fun hc h => ?_))
  · refine x_aload_n 0 dJ4_charAt_16 rfl rfl rfl rfl rfl ?_
    refine x_sval 9 dJ4_charAt_17 hk q4701 rfl ?_
    refine x_iload_n 1 dJ4_charAt_20 rfl rfl rfl ?_
    refine y_Si 498 (M := mJ7_charAt) (As := [(5, k), (0, a1)]) (st := []) dJ4_charAt_21 q993 q994 q368 q995 hmJ7_charAt rfl rfl rfl rfl rfl rfl rfl rfl (k_mono h (fun r3 w4 h => ?_))
    exact y_cret dJ4_charAt_24 rfl h.1 h.2
  · refine x_aload_n 0 dJ4_charAt_7 rfl rfl rfl rfl rfl ?_
    refine x_sval 9 dJ4_charAt_8 hk q4701 rfl ?_
    refine x_iload_n 1 dJ4_charAt_11 rfl rfl rfl ?_
    refine y_Si 495 (M := mJ5_charAt) (As := [(5, k), (0, a1)]) (st := []) dJ4_charAt_12 q984 q985 q366 q986 hmJ5_charAt rfl rfl rfl rfl rfl rfl rfl rfl (k_mono h (fun r5 w6 h => ?_))
    exact y_cret dJ4_charAt_15 rfl h.1 h.2
theorem rJ4_checkIndex {d n : Nat} {w : bW} {Q : Int → bW → Prop} {X : String → bW → Prop} (a0 : Int) (a1 : Int) (h : (b_K d mJ8_checkIndex [(0, a0), (0, a1), (2, (-1))] n w (fun r1 w2 => Q 0 w2) X) ∧ (∀ a9 : Int, b_K d mJ8_checkIndex [(0, a0), (0, a1), (7, a9)] n w (fun r3 w4 => Q 0 w4) X)) : b_K (d + 1) mJ4_checkIndex [(0, a0), (0, a1)] n w Q X := by
  refine k_of (by decide) rfl rfl rfl (ls := [(0, a0), (0, a1)]) rfl ?_
  refine x_iload_n 0 dJ4_checkIndex_0 rfl rfl rfl ?_
  refine x_iload_n 1 dJ4_checkIndex_1 rfl rfl rfl ?_
  refine x_gfm 1053 dJ4_checkIndex_2 q549 rfl ?_ (fun a9 => ?_)
  · replace h := h.1
    refine y_Si 1059 (M := mJ8_checkIndex) (As := [(0, a0), (0, a1), (2, (-1))]) (st := []) dJ4_checkIndex_5 q990 q991 q369 q992 hmJ8_checkIndex rfl rfl rfl rfl rfl rfl rfl rfl (k_mono h (fun r1 w2 h => ?_))
    refine x_pop dJ4_checkIndex_8 rfl rfl ?_
    exact y_vret dJ4_checkIndex_9 rfl h
  · replace h := h.2 a9
    refine y_Si 1059 (M := mJ8_checkIndex) (As := [(0, a0), (0, a1), (7, a9)]) (st := []) dJ4_checkIndex_5 q990 q991 q369 q992 hmJ8_checkIndex rfl rfl rfl rfl rfl rfl rfl rfl (k_mono h (fun r3 w4 h => ?_))
    refine x_pop dJ4_checkIndex_8 rfl rfl ?_
    exact y_vret dJ4_checkIndex_9 rfl h
theorem rJ5_indexOf {d n : Nat} {w : bW} {Q : Int → bW → Prop} {X : String → bW → Prop} (a0 : Int) (a1 : Int) (a2 : Int) (a3 : Int) (hk : 0 ≤ a0 ∧ a0 < 6) (h : b_K d mJ5_canEncode [(0, a1)] n w (fun r1 w2 => if r1 ≠ 0 then (if (max a2 0) < (min a3 (b_tlen a0)) then (b_K d mJ5_indexOfChar [(5, a0), (0, a1), (0, (max a2 0)), (0, (min a3 (b_tlen a0)))] n w2 (fun r3 w4 => Q r3 w4) X) else (Q (-1) w2)) else (Q (-1) w2)) X) : b_K (d + 1) mJ5_indexOf [(5, a0), (0, a1), (0, a2), (0, a3)] n w Q X := by
  refine k_of (by decide) rfl rfl rfl (ls := [(5, a0), (0, a1), (0, a2), (0, a3)]) rfl ?_
  refine x_iload_n 1 dJ5_indexOf_0 rfl rfl rfl ?_
  refine y_Si 88 (M := mJ5_canEncode) (As := [(0, a1)]) (st := []) dJ5_indexOf_1 q519 q520 q366 q521 hmJ5_canEncode rfl rfl rfl rfl rfl rfl rfl rfl (k_mono h (fun r1 w2 h => ?_))
  refine x_if_ne (t := 9) 5 dJ5_indexOf_4 rfl rfl (b_ite h (fun hc h => ?_) (fun hc h => ?_))
  · refine x_iload_n 2 dJ5_indexOf_9 rfl rfl rfl ?_
    refine x_iconst 0 (z := 0) dJ5_indexOf_10 rfl (by decide) rfl ?_
    refine y_mmax 92 dJ5_indexOf_11 q522 q523 q367 q524 rfl rfl ?_
    refine x_istore_n 2 (ls' := [(5, a0), (0, a1), (0, (max a2 0)), (0, a3)]) dJ5_indexOf_14 rfl rfl rfl rfl ?_
    refine x_iload_n 3 dJ5_indexOf_15 rfl rfl rfl ?_
    refine x_aload_n 0 dJ5_indexOf_16 rfl rfl rfl rfl rfl ?_
    refine x_lst dJ5_indexOf_17 hk rfl ?_
    refine y_mmin 38 dJ5_indexOf_18 q525 q526 q367 q527 rfl rfl ?_
    refine x_istore_n 3 (ls' := [(5, a0), (0, a1), (0, (max a2 0)), (0, (min a3 (b_tlen a0)))]) dJ5_indexOf_21 rfl rfl rfl rfl ?_
    refine x_iload_n 2 dJ5_indexOf_22 rfl rfl rfl ?_
    refine x_iload_n 3 dJ5_indexOf_23 rfl rfl rfl ?_
    refine x_icmp_lt (t := 29) 5 dJ5_indexOf_24 rfl rfl (b_ite h (fun hc h => ?_) (fun hc h => ?_))
    · refine x_aload_n 0 dJ5_indexOf_29 rfl rfl rfl rfl rfl ?_
      refine x_iload_n 1 dJ5_indexOf_30 rfl rfl rfl ?_
      refine x_iload_n 2 dJ5_indexOf_31 rfl rfl rfl ?_
      refine x_iload_n 3 dJ5_indexOf_32 rfl rfl rfl ?_
      refine y_Si 95 (M := mJ5_indexOfChar) (As := [(5, a0), (0, a1), (0, (max a2 0)), (0, (min a3 (b_tlen a0)))]) (st := []) dJ5_indexOf_33 q528 q529 q366 q530 hmJ5_indexOfChar rfl rfl rfl rfl rfl rfl rfl rfl (k_mono h (fun r3 w4 h => ?_))
      exact y_iret dJ5_indexOf_36 rfl h
    · refine x_iconst (-1) (z := (-1)) dJ5_indexOf_27 rfl (by decide) rfl ?_
      exact y_iret dJ5_indexOf_28 rfl h
  · refine x_iconst (-1) (z := (-1)) dJ5_indexOf_7 rfl (by decide) rfl ?_
    exact y_iret dJ5_indexOf_8 rfl h
theorem rJ5_canEncode {d n : Nat} {w : bW} {Q : Int → bW → Prop} {X : String → bW → Prop} (a0 : Int) (h : if a0 < 0 then (Q 0 w) else (if 255 < a0 then (Q 0 w) else (Q 1 w))) : b_K (d + 1) mJ5_canEncode [(0, a0)] n w Q X := by
  refine k_of (by decide) rfl rfl rfl (ls := [(0, a0)]) rfl ?_
  refine x_iload_n 0 dJ5_canEncode_0 rfl rfl rfl ?_
  refine x_if_lt (t := 15) 14 dJ5_canEncode_1 rfl rfl (b_ite h (fun hc h => ?_) (fun hc h => ?_))
  · refine x_iconst 0 (z := 0) dJ5_canEncode_15 rfl (by decide) rfl ?_
    exact y_zret dJ5_canEncode_16 rfl (by decide) h
  · refine x_iload_n 0 dJ5_canEncode_4 rfl rfl rfl ?_
    refine x_sipush 255 (z := 255) dJ5_canEncode_5 rfl (by decide) rfl ?_
    refine x_icmp_gt (t := 15) 7 dJ5_canEncode_8 rfl rfl (b_ite h (fun hc h => ?_) (fun hc h => ?_))
    · refine x_iconst 0 (z := 0) dJ5_canEncode_15 rfl (by decide) rfl ?_
      exact y_zret dJ5_canEncode_16 rfl (by decide) h
    · refine x_iconst 1 (z := 1) dJ5_canEncode_11 rfl (by decide) rfl ?_
      refine x_goto 4 (q := 16) dJ5_canEncode_12 rfl ?_
      exact y_zret dJ5_canEncode_16 rfl (by decide) h
abbrev LJ5_indexOfChar_7 (d n : Nat) (Q : Int → bW → Prop) (X : String → bW → Prop) (a0 : Int) (a3 : Int) (a4 : Int) (a5 : Int) (w : bW) : Prop := b_Y (d + 1) mJ5_indexOfChar n Q X 7 [(5, a0), (9, 0), (9, 0), (0, a3), (0, a4), (0, a5)] [] w
theorem rJ5_indexOfChar {d n : Nat} {w : bW} {Q : Int → bW → Prop} {X : String → bW → Prop} (a0 : Int) (a1 : Int) (a2 : Int) (a3 : Int) (hk : 0 ≤ a0 ∧ a0 < 6) (h : LJ5_indexOfChar_7 d n Q X a0 a3 (b_b8 a1) a2 w) : b_K (d + 1) mJ5_indexOfChar [(5, a0), (0, a1), (0, a2), (0, a3)] n w Q X := by
  refine k_of (by decide) rfl rfl rfl (ls := [(5, a0), (0, a1), (0, a2), (0, a3), (9, 0), (9, 0)]) rfl ?_
  refine x_iload_n 1 dJ5_indexOfChar_0 rfl rfl rfl ?_
  refine x_i2b dJ5_indexOfChar_1 rfl ?_
  refine x_istore 4 (ls' := [(5, a0), (0, a1), (0, a2), (0, a3), (0, b_b8 a1), (9, 0)]) dJ5_indexOfChar_2 rfl rfl rfl ?_
  refine x_iload_n 2 dJ5_indexOfChar_4 rfl rfl rfl ?_
  refine x_istore 5 (ls' := [(5, a0), (0, a1), (0, a2), (0, a3), (0, b_b8 a1), (0, a2)]) dJ5_indexOfChar_5 rfl rfl rfl ?_
  exact x_fg (fgk (fgd (fgd (fgk (fgk (fgk (fg0))))))) h
theorem sJ5_indexOfChar_7 {d n : Nat} {w : bW} {Q : Int → bW → Prop} {X : String → bW → Prop} (a0 : Int) (a3 : Int) (a4 : Int) (a5 : Int) (hk : 0 ≤ a0 ∧ a0 < 6) (h : if a3 ≤ a5 then (Q (-1) w) else ((0 ≤ a5 ∧ a5 < b_tlen a0) ∧ (if b_tb a0 a5 ≠ a4 then (LJ5_indexOfChar_7 d n Q X a0 a3 a4 (b_i (a5 + 1)) w) else (Q a5 w)))) : LJ5_indexOfChar_7 d n Q X a0 a3 a4 a5 w := by
  refine x_iload 5 dJ5_indexOfChar_7 rfl rfl ?_
  refine x_iload_n 3 dJ5_indexOfChar_9 rfl rfl rfl ?_
  refine x_icmp_ge (t := 31) 21 dJ5_indexOfChar_10 rfl rfl (b_ite h (fun hc h => ?_) (fun hc h => ?_))
  · refine x_iconst (-1) (z := (-1)) dJ5_indexOfChar_31 rfl (by decide) rfl ?_
    exact y_iret dJ5_indexOfChar_32 rfl h
  · refine x_aload_n 0 dJ5_indexOfChar_13 rfl rfl rfl rfl rfl ?_
    refine x_iload 5 dJ5_indexOfChar_14 rfl rfl ?_
    obtain ⟨e1, h⟩ := h
    refine x_bst dJ5_indexOfChar_16 hk e1 rfl ?_
    refine x_iload 4 dJ5_indexOfChar_17 rfl rfl ?_
    refine x_icmp_ne (t := 25) 6 dJ5_indexOfChar_19 rfl rfl (b_ite h (fun hc h => ?_) (fun hc h => ?_))
    · refine x_iinc 5 1 (ls' := [(5, a0), (9, 0), (9, 0), (0, a3), (0, a4), (0, b_i (a5 + 1))]) dJ5_indexOfChar_25 rfl rfl rfl rfl ?_
      refine x_goto (-21) (q := 7) dJ5_indexOfChar_28 rfl ?_
      exact x_fg (fgk (fgk (fgk (fgk (fgk (fgk (fg0))))))) h
    · refine x_iload 5 dJ5_indexOfChar_22 rfl rfl ?_
      exact y_iret dJ5_indexOfChar_24 rfl h
theorem rJ5_charAt {d n : Nat} {w : bW} {Q : Int → bW → Prop} {X : String → bW → Prop} (a0 : Int) (a1 : Int) (hk : 0 ≤ a0 ∧ a0 < 6) (h : b_K d mJ4_checkIndex [(0, a1), (0, b_tlen a0)] n w (fun r1 w2 => (0 ≤ a1 ∧ a1 < b_tlen a0) ∧ ((0 ≤ b_c16 (b_and (b_tb a0 a1) 255) ∧ b_c16 (b_and (b_tb a0 a1) 255) ≤ 65535) ∧ Q (b_c16 (b_and (b_tb a0 a1) 255)) w2)) X) : b_K (d + 1) mJ5_charAt [(5, a0), (0, a1)] n w Q X := by
  refine k_of (by decide) rfl rfl rfl (ls := [(5, a0), (0, a1)]) rfl ?_
  refine x_iload_n 1 dJ5_charAt_0 rfl rfl rfl ?_
  refine x_aload_n 0 dJ5_charAt_1 rfl rfl rfl rfl rfl ?_
  refine x_lst dJ5_charAt_2 hk rfl ?_
  refine y_Sv 9 (M := mJ4_checkIndex) (As := [(0, a1), (0, b_tlen a0)]) (st := []) dJ5_charAt_3 q987 q988 q365 q989 hmJ4_checkIndex rfl rfl rfl rfl rfl rfl rfl (k_mono h (fun r1 w2 h => ?_))
  refine x_aload_n 0 dJ5_charAt_6 rfl rfl rfl rfl rfl ?_
  refine x_iload_n 1 dJ5_charAt_7 rfl rfl rfl ?_
  obtain ⟨e3, h⟩ := h
  refine x_bst dJ5_charAt_8 hk e3 rfl ?_
  refine x_sipush 255 (z := 255) dJ5_charAt_9 rfl (by decide) rfl ?_
  refine x_iand dJ5_charAt_12 rfl ?_
  refine x_i2c dJ5_charAt_13 rfl ?_
  exact y_cret dJ5_charAt_14 rfl h.1 h.2
theorem rJ7_indexOf {d n : Nat} {w : bW} {Q : Int → bW → Prop} {X : String → bW → Prop} (a0 : Int) (a1 : Int) (a2 : Int) (a3 : Int) (h : ∃ N1 : Nat, b_is n a0 1 1 N1 ∧ N1 ≤ 2147483647 ∧ (if (max a2 0) < (min a3 (b_shr N1 1)) then (if 65536 ≤ a1 then (b_K d mJ7_indexOfSupplementary [(2, a0), (0, a1), (0, (max a2 0)), (0, (min a3 (b_shr N1 1)))] n w (fun r4 w5 => Q r4 w5) X) else (b_K d mJ7_indexOfChar [(2, a0), (0, a1), (0, (max a2 0)), (0, (min a3 (b_shr N1 1)))] n w (fun r6 w7 => Q r6 w7) X)) else (Q (-1) w))) : b_K (d + 1) mJ7_indexOf [(2, a0), (0, a1), (0, a2), (0, a3)] n w Q X := by
  refine k_of (by decide) rfl rfl rfl (ls := [(2, a0), (0, a1), (0, a2), (0, a3)]) rfl ?_
  refine x_iload_n 2 dJ7_indexOf_0 rfl rfl rfl ?_
  refine x_iconst 0 (z := 0) dJ7_indexOf_1 rfl (by decide) rfl ?_
  refine y_mmax 224 dJ7_indexOf_2 q534 q523 q367 q524 rfl rfl ?_
  refine x_istore_n 2 (ls' := [(2, a0), (0, a1), (0, (max a2 0)), (0, a3)]) dJ7_indexOf_5 rfl rfl rfl rfl ?_
  refine x_iload_n 3 dJ7_indexOf_6 rfl rfl rfl ?_
  refine x_aload_n 0 dJ7_indexOf_7 rfl rfl rfl rfl rfl ?_
  obtain ⟨N1, e2, e3, h⟩ := h
  refine y_alen dJ7_indexOf_8 e2 (by decide) e3 rfl ?_
  refine x_iconst 1 (z := 1) dJ7_indexOf_9 rfl (by decide) rfl ?_
  refine x_ishr dJ7_indexOf_10 rfl ?_
  refine y_mmin 183 dJ7_indexOf_11 q535 q526 q367 q527 rfl rfl ?_
  refine x_istore_n 3 (ls' := [(2, a0), (0, a1), (0, (max a2 0)), (0, (min a3 (b_shr N1 1)))]) dJ7_indexOf_14 rfl rfl rfl rfl ?_
  refine x_iload_n 2 dJ7_indexOf_15 rfl rfl rfl ?_
  refine x_iload_n 3 dJ7_indexOf_16 rfl rfl rfl ?_
  refine x_icmp_lt (t := 22) 5 dJ7_indexOf_17 rfl rfl (b_ite h (fun hc h => ?_) (fun hc h => ?_))
  · refine x_iload_n 1 dJ7_indexOf_22 rfl rfl rfl ?_
    refine x_ldc 227 (x := 65536) dJ7_indexOf_23 q536 rfl (by decide) rfl ?_
    refine x_icmp_ge (t := 36) 11 dJ7_indexOf_25 rfl rfl (b_ite h (fun hc h => ?_) (fun hc h => ?_))
    · refine x_aload_n 0 dJ7_indexOf_36 rfl rfl rfl rfl rfl ?_
      refine x_iload_n 1 dJ7_indexOf_37 rfl rfl rfl ?_
      refine x_iload_n 2 dJ7_indexOf_38 rfl rfl rfl ?_
      refine x_iload_n 3 dJ7_indexOf_39 rfl rfl rfl ?_
      refine y_Si 232 (M := mJ7_indexOfSupplementary) (As := [(2, a0), (0, a1), (0, (max a2 0)), (0, (min a3 (b_shr N1 1)))]) (st := []) dJ7_indexOf_40 q566 q567 q368 q568 hmJ7_indexOfSupplementary rfl rfl rfl rfl rfl rfl rfl rfl (k_mono h (fun r4 w5 h => ?_))
      exact y_iret dJ7_indexOf_43 rfl h
    · refine x_aload_n 0 dJ7_indexOf_28 rfl rfl rfl rfl rfl ?_
      refine x_iload_n 1 dJ7_indexOf_29 rfl rfl rfl ?_
      refine x_iload_n 2 dJ7_indexOf_30 rfl rfl rfl ?_
      refine x_iload_n 3 dJ7_indexOf_31 rfl rfl rfl ?_
      refine y_Si 228 (M := mJ7_indexOfChar) (As := [(2, a0), (0, a1), (0, (max a2 0)), (0, (min a3 (b_shr N1 1)))]) (st := []) dJ7_indexOf_32 q537 q538 q368 q539 hmJ7_indexOfChar rfl rfl rfl rfl rfl rfl rfl rfl (k_mono h (fun r6 w7 h => ?_))
      exact y_iret dJ7_indexOf_35 rfl h
  · refine x_iconst (-1) (z := (-1)) dJ7_indexOf_20 rfl (by decide) rfl ?_
    exact y_iret dJ7_indexOf_21 rfl h
theorem rJ7_indexOfChar {d n : Nat} {w : bW} {Q : Int → bW → Prop} {X : String → bW → Prop} (a0 : Int) (a1 : Int) (a2 : Int) (a3 : Int) (h : b_K d mJ7_checkBoundsBeginEnd [(0, a2), (0, a3), (2, a0)] n w (fun r1 w2 => b_K d mJ7_indexOfCharUnsafe [(2, a0), (0, a1), (0, a2), (0, a3)] n w2 (fun r3 w4 => Q r3 w4) X) X) : b_K (d + 1) mJ7_indexOfChar [(2, a0), (0, a1), (0, a2), (0, a3)] n w Q X := by
  refine k_of (by decide) rfl rfl rfl (ls := [(2, a0), (0, a1), (0, a2), (0, a3)]) rfl ?_
  refine x_iload_n 2 dJ7_indexOfChar_0 rfl rfl rfl ?_
  refine x_iload_n 3 dJ7_indexOfChar_1 rfl rfl rfl ?_
  refine x_aload_n 0 dJ7_indexOfChar_2 rfl rfl rfl rfl rfl ?_
  refine y_Sv 96 (M := mJ7_checkBoundsBeginEnd) (As := [(0, a2), (0, a3), (2, a0)]) (st := []) dJ7_indexOfChar_3 q540 q541 q368 q542 hmJ7_checkBoundsBeginEnd rfl rfl rfl rfl rfl rfl rfl (k_mono h (fun r1 w2 h => ?_))
  refine x_aload_n 0 dJ7_indexOfChar_6 rfl rfl rfl rfl rfl ?_
  refine x_iload_n 1 dJ7_indexOfChar_7 rfl rfl rfl ?_
  refine x_iload_n 2 dJ7_indexOfChar_8 rfl rfl rfl ?_
  refine x_iload_n 3 dJ7_indexOfChar_9 rfl rfl rfl ?_
  refine y_Si 244 (M := mJ7_indexOfCharUnsafe) (As := [(2, a0), (0, a1), (0, a2), (0, a3)]) (st := []) dJ7_indexOfChar_10 q554 q555 q368 q556 hmJ7_indexOfCharUnsafe rfl rfl rfl rfl rfl rfl rfl rfl (k_mono h (fun r3 w4 h => ?_))
  exact y_iret dJ7_indexOfChar_13 rfl h
theorem rJ7_checkBoundsBeginEnd {d n : Nat} {w : bW} {Q : Int → bW → Prop} {X : String → bW → Prop} (a0 : Int) (a1 : Int) (a2 : Int) (h : b_K d mJ7_length [(2, a2)] n w (fun r1 w2 => b_K d mJ4_checkBoundsBeginEnd [(0, a0), (0, a1), (0, r1)] n w2 (fun r3 w4 => Q 0 w4) X) X) : b_K (d + 1) mJ7_checkBoundsBeginEnd [(0, a0), (0, a1), (2, a2)] n w Q X := by
  refine k_of (by decide) rfl rfl rfl (ls := [(0, a0), (0, a1), (2, a2)]) rfl ?_
  refine x_iload_n 0 dJ7_checkBoundsBeginEnd_0 rfl rfl rfl ?_
  refine x_iload_n 1 dJ7_checkBoundsBeginEnd_1 rfl rfl rfl ?_
  refine x_aload_n 2 dJ7_checkBoundsBeginEnd_2 rfl rfl rfl rfl rfl ?_
  refine y_Si 48 (M := mJ7_length) (As := [(2, a2)]) (st := [(0, a1), (0, a0)]) dJ7_checkBoundsBeginEnd_3 q543 q544 q368 q545 hmJ7_length rfl rfl rfl rfl rfl rfl rfl rfl (k_mono h (fun r1 w2 h => ?_))
  refine y_Sv 241 (M := mJ4_checkBoundsBeginEnd) (As := [(0, a0), (0, a1), (0, r1)]) (st := []) dJ7_checkBoundsBeginEnd_6 q546 q547 q365 q548 hmJ4_checkBoundsBeginEnd rfl rfl rfl rfl rfl rfl rfl (k_mono h (fun r3 w4 h => ?_))
  exact y_vret dJ7_checkBoundsBeginEnd_9 rfl h
theorem rJ7_length {d n : Nat} {w : bW} {Q : Int → bW → Prop} {X : String → bW → Prop} (a0 : Int) (h : ∃ N1 : Nat, b_is n a0 1 1 N1 ∧ N1 ≤ 2147483647 ∧ (Q (b_shr N1 1) w)) : b_K (d + 1) mJ7_length [(2, a0)] n w Q X := by
  refine k_of (by decide) rfl rfl rfl (ls := [(2, a0)]) rfl ?_
  refine x_aload_n 0 dJ7_length_0 rfl rfl rfl rfl rfl ?_
  obtain ⟨N1, e2, e3, h⟩ := h
  refine y_alen dJ7_length_1 e2 (by decide) e3 rfl ?_
  refine x_iconst 1 (z := 1) dJ7_length_2 rfl (by decide) rfl ?_
  refine x_ishr dJ7_length_3 rfl ?_
  exact y_iret dJ7_length_4 rfl h
abbrev LJ7_indexOfCharUnsafe_3 (d n : Nat) (Q : Int → bW → Prop) (X : String → bW → Prop) (a0 : Int) (a1 : Int) (a3 : Int) (a4 : Int) (w : bW) : Prop := b_Y (d + 1) mJ7_indexOfCharUnsafe n Q X 3 [(2, a0), (0, a1), (9, 0), (0, a3), (0, a4)] [] w
theorem rJ7_indexOfCharUnsafe {d n : Nat} {w : bW} {Q : Int → bW → Prop} {X : String → bW → Prop} (a0 : Int) (a1 : Int) (a2 : Int) (a3 : Int) (h : LJ7_indexOfCharUnsafe_3 d n Q X a0 a1 a3 a2 w) : b_K (d + 1) mJ7_indexOfCharUnsafe [(2, a0), (0, a1), (0, a2), (0, a3)] n w Q X := by
  refine k_of (by decide) rfl rfl rfl (ls := [(2, a0), (0, a1), (0, a2), (0, a3), (9, 0)]) rfl ?_
  refine x_iload_n 2 dJ7_indexOfCharUnsafe_0 rfl rfl rfl ?_
  refine x_istore 4 (ls' := [(2, a0), (0, a1), (0, a2), (0, a3), (0, a2)]) dJ7_indexOfCharUnsafe_1 rfl rfl rfl ?_
  exact x_fg (fgk (fgk (fgd (fgk (fgk (fg0)))))) h
theorem sJ7_indexOfCharUnsafe_3 {d n : Nat} {w : bW} {Q : Int → bW → Prop} {X : String → bW → Prop} (a0 : Int) (a1 : Int) (a3 : Int) (a4 : Int) (h : if a3 ≤ a4 then (Q (-1) w) else (b_K d mJ7_getChar [(2, a0), (0, a4)] n w (fun r1 w2 => if r1 ≠ a1 then (LJ7_indexOfCharUnsafe_3 d n Q X a0 a1 a3 (b_i (a4 + 1)) w2) else (Q a4 w2)) X)) : LJ7_indexOfCharUnsafe_3 d n Q X a0 a1 a3 a4 w := by
  refine x_iload 4 dJ7_indexOfCharUnsafe_3 rfl rfl ?_
  refine x_iload_n 3 dJ7_indexOfCharUnsafe_5 rfl rfl rfl ?_
  refine x_icmp_ge (t := 28) 22 dJ7_indexOfCharUnsafe_6 rfl rfl (b_ite h (fun hc h => ?_) (fun hc h => ?_))
  · refine x_iconst (-1) (z := (-1)) dJ7_indexOfCharUnsafe_28 rfl (by decide) rfl ?_
    exact y_iret dJ7_indexOfCharUnsafe_29 rfl h
  · refine x_aload_n 0 dJ7_indexOfCharUnsafe_9 rfl rfl rfl rfl rfl ?_
    refine x_iload 4 dJ7_indexOfCharUnsafe_10 rfl rfl ?_
    refine y_Si 71 (M := mJ7_getChar) (As := [(2, a0), (0, a4)]) (st := []) dJ7_indexOfCharUnsafe_12 q557 q558 q368 q559 hmJ7_getChar rfl rfl rfl rfl rfl rfl rfl rfl (k_mono h (fun r1 w2 h => ?_))
    refine x_iload_n 1 dJ7_indexOfCharUnsafe_15 rfl rfl rfl ?_
    refine x_icmp_ne (t := 22) 6 dJ7_indexOfCharUnsafe_16 rfl rfl (b_ite h (fun hc h => ?_) (fun hc h => ?_))
    · refine x_iinc 4 1 (ls' := [(2, a0), (0, a1), (9, 0), (0, a3), (0, b_i (a4 + 1))]) dJ7_indexOfCharUnsafe_22 rfl rfl rfl rfl ?_
      refine x_goto (-22) (q := 3) dJ7_indexOfCharUnsafe_25 rfl ?_
      exact x_fg (fgk (fgk (fgk (fgk (fgk (fg0)))))) h
    · refine x_iload 4 dJ7_indexOfCharUnsafe_19 rfl rfl ?_
      exact y_iret dJ7_indexOfCharUnsafe_21 rfl h
abbrev LJ7_indexOfSupplementary_28 (d n : Nat) (Q : Int → bW → Prop) (X : String → bW → Prop) (a0 : Int) (a3 : Int) (a4 : Int) (a5 : Int) (a6 : Int) (w : bW) : Prop := b_Y (d + 1) mJ7_indexOfSupplementary n Q X 28 [(2, a0), (9, 0), (9, 0), (0, a3), (0, a4), (0, a5), (0, a6)] [] w
theorem rJ7_indexOfSupplementary {d n : Nat} {w : bW} {Q : Int → bW → Prop} {X : String → bW → Prop} (a0 : Int) (a1 : Int) (a2 : Int) (a3 : Int) (h : b_K d mJ9_isValidCodePoint [(0, a1)] n w (fun r1 w2 => if r1 = 0 then (Q (-1) w2) else (b_K d mJ9_highSurrogate [(0, a1)] n w2 (fun r3 w4 => b_K d mJ9_lowSurrogate [(0, a1)] n w4 (fun r5 w6 => b_K d mJ7_checkBoundsBeginEnd [(0, a2), (0, a3), (2, a0)] n w6 (fun r7 w8 => LJ7_indexOfSupplementary_28 d n Q X a0 a3 r3 r5 a2 w8) X) X) X)) X) : b_K (d + 1) mJ7_indexOfSupplementary [(2, a0), (0, a1), (0, a2), (0, a3)] n w Q X := by
  refine k_of (by decide) rfl rfl rfl (ls := [(2, a0), (0, a1), (0, a2), (0, a3), (9, 0), (9, 0), (9, 0)]) rfl ?_
  refine x_iload_n 1 dJ7_indexOfSupplementary_0 rfl rfl rfl ?_
  refine y_Si 164 (M := mJ9_isValidCodePoint) (As := [(0, a1)]) (st := []) dJ7_indexOfSupplementary_1 q569 q570 q370 q571 hmJ9_isValidCodePoint rfl rfl rfl rfl rfl rfl rfl rfl (k_mono h (fun r1 w2 h => ?_))
  refine x_if_eq (t := 69) 65 dJ7_indexOfSupplementary_4 rfl rfl (b_ite h (fun hc h => ?_) (fun hc h => ?_))
  · refine x_iconst (-1) (z := (-1)) dJ7_indexOfSupplementary_69 rfl (by decide) rfl ?_
    exact y_iret dJ7_indexOfSupplementary_70 rfl h
  · refine x_iload_n 1 dJ7_indexOfSupplementary_7 rfl rfl rfl ?_
    refine y_Si 157 (M := mJ9_highSurrogate) (As := [(0, a1)]) (st := []) dJ7_indexOfSupplementary_8 q572 q573 q370 q574 hmJ9_highSurrogate rfl rfl rfl rfl rfl rfl rfl rfl (k_mono h (fun r3 w4 h => ?_))
    refine x_istore 4 (ls' := [(2, a0), (0, a1), (0, a2), (0, a3), (0, r3), (9, 0), (9, 0)]) dJ7_indexOfSupplementary_11 rfl rfl rfl ?_
    refine x_iload_n 1 dJ7_indexOfSupplementary_13 rfl rfl rfl ?_
    refine y_Si 161 (M := mJ9_lowSurrogate) (As := [(0, a1)]) (st := []) dJ7_indexOfSupplementary_14 q576 q577 q370 q578 hmJ9_lowSurrogate rfl rfl rfl rfl rfl rfl rfl rfl (k_mono h (fun r5 w6 h => ?_))
    refine x_istore 5 (ls' := [(2, a0), (0, a1), (0, a2), (0, a3), (0, r3), (0, r5), (9, 0)]) dJ7_indexOfSupplementary_17 rfl rfl rfl ?_
    refine x_iload_n 2 dJ7_indexOfSupplementary_19 rfl rfl rfl ?_
    refine x_iload_n 3 dJ7_indexOfSupplementary_20 rfl rfl rfl ?_
    refine x_aload_n 0 dJ7_indexOfSupplementary_21 rfl rfl rfl rfl rfl ?_
    refine y_Sv 96 (M := mJ7_checkBoundsBeginEnd) (As := [(0, a2), (0, a3), (2, a0)]) (st := []) dJ7_indexOfSupplementary_22 q540 q541 q368 q542 hmJ7_checkBoundsBeginEnd rfl rfl rfl rfl rfl rfl rfl (k_mono h (fun r7 w8 h => ?_))
    refine x_iload_n 2 dJ7_indexOfSupplementary_25 rfl rfl rfl ?_
    refine x_istore 6 (ls' := [(2, a0), (0, a1), (0, a2), (0, a3), (0, r3), (0, r5), (0, a2)]) dJ7_indexOfSupplementary_26 rfl rfl rfl ?_
    exact x_fg (fgk (fgd (fgd (fgk (fgk (fgk (fgk (fg0)))))))) h
theorem sJ7_indexOfSupplementary_28 {d n : Nat} {w : bW} {Q : Int → bW → Prop} {X : String → bW → Prop} (a0 : Int) (a3 : Int) (a4 : Int) (a5 : Int) (a6 : Int) (h : if b_i (a3 - 1) ≤ a6 then (Q (-1) w) else (b_K d mJ7_getChar [(2, a0), (0, a6)] n w (fun r1 w2 => if r1 ≠ a4 then (LJ7_indexOfSupplementary_28 d n Q X a0 a3 a4 a5 (b_i (a6 + 1)) w2) else (b_K d mJ7_getChar [(2, a0), (0, b_i (a6 + 1))] n w2 (fun r3 w4 => if r3 ≠ a5 then (LJ7_indexOfSupplementary_28 d n Q X a0 a3 a4 a5 (b_i (a6 + 1)) w4) else (Q a6 w4)) X)) X)) : LJ7_indexOfSupplementary_28 d n Q X a0 a3 a4 a5 a6 w := by
  refine x_iload 6 dJ7_indexOfSupplementary_28 rfl rfl ?_
  refine x_iload_n 3 dJ7_indexOfSupplementary_30 rfl rfl rfl ?_
  refine x_iconst 1 (z := 1) dJ7_indexOfSupplementary_31 rfl (by decide) rfl ?_
  refine x_isub dJ7_indexOfSupplementary_32 rfl ?_
  refine x_icmp_ge (t := 69) 36 dJ7_indexOfSupplementary_33 rfl rfl (b_ite h (fun hc h => ?_) (fun hc h => ?_))
  · refine x_iconst (-1) (z := (-1)) dJ7_indexOfSupplementary_69 rfl (by decide) rfl ?_
    exact y_iret dJ7_indexOfSupplementary_70 rfl h
  · refine x_aload_n 0 dJ7_indexOfSupplementary_36 rfl rfl rfl rfl rfl ?_
    refine x_iload 6 dJ7_indexOfSupplementary_37 rfl rfl ?_
    refine y_Si 71 (M := mJ7_getChar) (As := [(2, a0), (0, a6)]) (st := []) dJ7_indexOfSupplementary_39 q557 q558 q368 q559 hmJ7_getChar rfl rfl rfl rfl rfl rfl rfl rfl (k_mono h (fun r1 w2 h => ?_))
    refine x_iload 4 dJ7_indexOfSupplementary_42 rfl rfl ?_
    refine x_icmp_ne (t := 63) 19 dJ7_indexOfSupplementary_44 rfl rfl (b_ite h (fun hc h => ?_) (fun hc h => ?_))
    · refine x_iinc 6 1 (ls' := [(2, a0), (9, 0), (9, 0), (0, a3), (0, a4), (0, a5), (0, b_i (a6 + 1))]) dJ7_indexOfSupplementary_63 rfl rfl rfl rfl ?_
      refine x_goto (-38) (q := 28) dJ7_indexOfSupplementary_66 rfl ?_
      exact x_fg (fgk (fgk (fgk (fgk (fgk (fgk (fgk (fg0)))))))) h
    · refine x_aload_n 0 dJ7_indexOfSupplementary_47 rfl rfl rfl rfl rfl ?_
      refine x_iload 6 dJ7_indexOfSupplementary_48 rfl rfl ?_
      refine x_iconst 1 (z := 1) dJ7_indexOfSupplementary_50 rfl (by decide) rfl ?_
      refine x_iadd dJ7_indexOfSupplementary_51 rfl ?_
      refine y_Si 71 (M := mJ7_getChar) (As := [(2, a0), (0, b_i (a6 + 1))]) (st := []) dJ7_indexOfSupplementary_52 q557 q558 q368 q559 hmJ7_getChar rfl rfl rfl rfl rfl rfl rfl rfl (k_mono h (fun r3 w4 h => ?_))
      refine x_iload 5 dJ7_indexOfSupplementary_55 rfl rfl ?_
      refine x_icmp_ne (t := 63) 6 dJ7_indexOfSupplementary_57 rfl rfl (b_ite h (fun hc h => ?_) (fun hc h => ?_))
      · refine x_iinc 6 1 (ls' := [(2, a0), (9, 0), (9, 0), (0, a3), (0, a4), (0, a5), (0, b_i (a6 + 1))]) dJ7_indexOfSupplementary_63 rfl rfl rfl rfl ?_
        refine x_goto (-38) (q := 28) dJ7_indexOfSupplementary_66 rfl ?_
        exact x_fg (fgk (fgk (fgk (fgk (fgk (fgk (fgk (fg0)))))))) h
      · refine x_iload 6 dJ7_indexOfSupplementary_60 rfl rfl ?_
        exact y_iret dJ7_indexOfSupplementary_62 rfl h
theorem rJ7_charAt {d n : Nat} {w : bW} {Q : Int → bW → Prop} {X : String → bW → Prop} (a0 : Int) (a1 : Int) (h : b_K d mJ7_checkIndex [(0, a1), (2, a0)] n w (fun r1 w2 => b_K d mJ7_getChar [(2, a0), (0, a1)] n w2 (fun r3 w4 => (0 ≤ r3 ∧ r3 ≤ 65535) ∧ Q r3 w4) X) X) : b_K (d + 1) mJ7_charAt [(2, a0), (0, a1)] n w Q X := by
  refine k_of (by decide) rfl rfl rfl (ls := [(2, a0), (0, a1)]) rfl ?_
  refine x_iload_n 1 dJ7_charAt_0 rfl rfl rfl ?_
  refine x_aload_n 0 dJ7_charAt_1 rfl rfl rfl rfl rfl ?_
  refine y_Sv 67 (M := mJ7_checkIndex) (As := [(0, a1), (2, a0)]) (st := []) dJ7_charAt_2 q996 q997 q368 q998 hmJ7_checkIndex rfl rfl rfl rfl rfl rfl rfl (k_mono h (fun r1 w2 h => ?_))
  refine x_aload_n 0 dJ7_charAt_5 rfl rfl rfl rfl rfl ?_
  refine x_iload_n 1 dJ7_charAt_6 rfl rfl rfl ?_
  refine y_Si 71 (M := mJ7_getChar) (As := [(2, a0), (0, a1)]) (st := []) dJ7_charAt_7 q557 q558 q368 q559 hmJ7_getChar rfl rfl rfl rfl rfl rfl rfl rfl (k_mono h (fun r3 w4 h => ?_))
  exact y_cret dJ7_charAt_10 rfl h.1 h.2
theorem rJ7_checkIndex {d n : Nat} {w : bW} {Q : Int → bW → Prop} {X : String → bW → Prop} (a0 : Int) (a1 : Int) (h : b_K d mJ7_length [(2, a1)] n w (fun r1 w2 => b_K d mJ4_checkIndex [(0, a0), (0, r1)] n w2 (fun r3 w4 => Q 0 w4) X) X) : b_K (d + 1) mJ7_checkIndex [(0, a0), (2, a1)] n w Q X := by
  refine k_of (by decide) rfl rfl rfl (ls := [(0, a0), (2, a1)]) rfl ?_
  refine x_iload_n 0 dJ7_checkIndex_0 rfl rfl rfl ?_
  refine x_aload_n 1 dJ7_checkIndex_1 rfl rfl rfl rfl rfl ?_
  refine y_Si 48 (M := mJ7_length) (As := [(2, a1)]) (st := [(0, a0)]) dJ7_checkIndex_2 q543 q544 q368 q545 hmJ7_length rfl rfl rfl rfl rfl rfl rfl rfl (k_mono h (fun r1 w2 h => ?_))
  refine y_Sv 414 (M := mJ4_checkIndex) (As := [(0, a0), (0, r1)]) (st := []) dJ7_checkIndex_5 q999 q988 q365 q989 hmJ4_checkIndex rfl rfl rfl rfl rfl rfl rfl (k_mono h (fun r3 w4 h => ?_))
  exact y_vret dJ7_checkIndex_8 rfl h
theorem rJ8_checkFromToIndex {d n : Nat} {w : bW} {Q : Int → bW → Prop} {X : String → bW → Prop} (a0 : Int) (a1 : Int) (a2 : Int) (a3 : Int) (h : if a0 < 0 then False else (if a1 < a0 then False else (if a1 ≤ a2 then (Q a0 w) else False))) : b_K (d + 1) mJ8_checkFromToIndex [(0, a0), (0, a1), (0, a2), (7, a3)] n w Q X := by
  refine k_of (by decide) rfl rfl rfl (ls := [(0, a0), (0, a1), (0, a2), (7, a3)]) rfl ?_
  refine x_iload_n 0 dJ8_checkFromToIndex_0 rfl rfl rfl ?_
  refine x_if_lt (t := 14) 13 dJ8_checkFromToIndex_1 rfl rfl (b_ite h (fun hc h => ?_) (fun hc h => ?_))
  · refine x_aload_n 3 dJ8_checkFromToIndex_14 rfl rfl rfl rfl rfl ?_
    refine x_iload_n 0 dJ8_checkFromToIndex_15 rfl rfl rfl ?_
    refine x_iload_n 1 dJ8_checkFromToIndex_16 rfl rfl rfl ?_
    refine x_iload_n 2 dJ8_checkFromToIndex_17 rfl rfl rfl ?_
    exact h.elim
  · refine x_iload_n 0 dJ8_checkFromToIndex_4 rfl rfl rfl ?_
    refine x_iload_n 1 dJ8_checkFromToIndex_5 rfl rfl rfl ?_
    refine x_icmp_gt (t := 14) 8 dJ8_checkFromToIndex_6 rfl rfl (b_ite h (fun hc h => ?_) (fun hc h => ?_))
    · refine x_aload_n 3 dJ8_checkFromToIndex_14 rfl rfl rfl rfl rfl ?_
      refine x_iload_n 0 dJ8_checkFromToIndex_15 rfl rfl rfl ?_
      refine x_iload_n 1 dJ8_checkFromToIndex_16 rfl rfl rfl ?_
      refine x_iload_n 2 dJ8_checkFromToIndex_17 rfl rfl rfl ?_
      exact h.elim
    · refine x_iload_n 1 dJ8_checkFromToIndex_9 rfl rfl rfl ?_
      refine x_iload_n 2 dJ8_checkFromToIndex_10 rfl rfl rfl ?_
      refine x_icmp_le (t := 22) 11 dJ8_checkFromToIndex_11 rfl rfl (b_ite h (fun hc h => ?_) (fun hc h => ?_))
      · refine x_iload_n 0 dJ8_checkFromToIndex_22 rfl rfl rfl ?_
        exact y_iret dJ8_checkFromToIndex_23 rfl h
      · refine x_aload_n 3 dJ8_checkFromToIndex_14 rfl rfl rfl rfl rfl ?_
        refine x_iload_n 0 dJ8_checkFromToIndex_15 rfl rfl rfl ?_
        refine x_iload_n 1 dJ8_checkFromToIndex_16 rfl rfl rfl ?_
        refine x_iload_n 2 dJ8_checkFromToIndex_17 rfl rfl rfl ?_
        exact h.elim
theorem rJ8_checkIndex {d n : Nat} {w : bW} {Q : Int → bW → Prop} {X : String → bW → Prop} (a0 : Int) (a1 : Int) (a2 : Int) (h : if a0 < 0 then False else (if a0 < a1 then (Q a0 w) else False)) : b_K (d + 1) mJ8_checkIndex [(0, a0), (0, a1), (7, a2)] n w Q X := by
  refine k_of (by decide) rfl rfl rfl (ls := [(0, a0), (0, a1), (7, a2)]) rfl ?_
  refine x_iload_n 0 dJ8_checkIndex_0 rfl rfl rfl ?_
  refine x_if_lt (t := 9) 8 dJ8_checkIndex_1 rfl rfl (b_ite h (fun hc h => ?_) (fun hc h => ?_))
  · refine x_aload_n 2 dJ8_checkIndex_9 rfl rfl rfl rfl rfl ?_
    refine x_iload_n 0 dJ8_checkIndex_10 rfl rfl rfl ?_
    refine x_iload_n 1 dJ8_checkIndex_11 rfl rfl rfl ?_
    exact h.elim
  · refine x_iload_n 0 dJ8_checkIndex_4 rfl rfl rfl ?_
    refine x_iload_n 1 dJ8_checkIndex_5 rfl rfl rfl ?_
    refine x_icmp_lt (t := 16) 10 dJ8_checkIndex_6 rfl rfl (b_ite h (fun hc h => ?_) (fun hc h => ?_))
    · refine x_iload_n 0 dJ8_checkIndex_16 rfl rfl rfl ?_
      exact y_iret dJ8_checkIndex_17 rfl h
    · refine x_aload_n 2 dJ8_checkIndex_9 rfl rfl rfl rfl rfl ?_
      refine x_iload_n 0 dJ8_checkIndex_10 rfl rfl rfl ?_
      refine x_iload_n 1 dJ8_checkIndex_11 rfl rfl rfl ?_
      exact h.elim
theorem rJ9_isValidCodePoint {d n : Nat} {w : bW} {Q : Int → bW → Prop} {X : String → bW → Prop} (a0 : Int) (h : if 17 ≤ b_ush a0 16 then (Q 0 w) else (Q 1 w)) : b_K (d + 1) mJ9_isValidCodePoint [(0, a0)] n w Q X := by
  refine k_of (by decide) rfl rfl rfl (ls := [(0, a0), (9, 0)]) rfl ?_
  refine x_iload_n 0 dJ9_isValidCodePoint_0 rfl rfl rfl ?_
  refine x_bipush 16 (z := 16) dJ9_isValidCodePoint_1 rfl (by decide) rfl ?_
  refine x_iushr dJ9_isValidCodePoint_3 rfl ?_
  refine x_istore_n 1 (ls' := [(0, a0), (0, b_ush a0 16)]) dJ9_isValidCodePoint_4 rfl rfl rfl rfl ?_
  refine x_iload_n 1 dJ9_isValidCodePoint_5 rfl rfl rfl ?_
  refine x_bipush 17 (z := 17) dJ9_isValidCodePoint_6 rfl (by decide) rfl ?_
  refine x_icmp_ge (t := 15) 7 dJ9_isValidCodePoint_8 rfl rfl (b_ite h (fun hc h => ?_) (fun hc h => ?_))
  · refine x_iconst 0 (z := 0) dJ9_isValidCodePoint_15 rfl (by decide) rfl ?_
    exact y_zret dJ9_isValidCodePoint_16 rfl (by decide) h
  · refine x_iconst 1 (z := 1) dJ9_isValidCodePoint_11 rfl (by decide) rfl ?_
    refine x_goto 4 (q := 16) dJ9_isValidCodePoint_12 rfl ?_
    exact y_zret dJ9_isValidCodePoint_16 rfl (by decide) h
theorem rJ9_highSurrogate {d n : Nat} {w : bW} {Q : Int → bW → Prop} {X : String → bW → Prop} (a0 : Int) (h : (0 ≤ b_c16 (b_i ((b_ush a0 10) + 55232)) ∧ b_c16 (b_i ((b_ush a0 10) + 55232)) ≤ 65535) ∧ Q (b_c16 (b_i ((b_ush a0 10) + 55232))) w) : b_K (d + 1) mJ9_highSurrogate [(0, a0)] n w Q X := by
  refine k_of (by decide) rfl rfl rfl (ls := [(0, a0)]) rfl ?_
  refine x_iload_n 0 dJ9_highSurrogate_0 rfl rfl rfl ?_
  refine x_bipush 10 (z := 10) dJ9_highSurrogate_1 rfl (by decide) rfl ?_
  refine x_iushr dJ9_highSurrogate_3 rfl ?_
  refine x_ldc 110 (x := 55232) dJ9_highSurrogate_4 q575 rfl (by decide) rfl ?_
  refine x_iadd dJ9_highSurrogate_6 rfl ?_
  refine x_i2c dJ9_highSurrogate_7 rfl ?_
  exact y_cret dJ9_highSurrogate_8 rfl h.1 h.2
theorem rJ9_lowSurrogate {d n : Nat} {w : bW} {Q : Int → bW → Prop} {X : String → bW → Prop} (a0 : Int) (h : (0 ≤ b_c16 (b_i ((b_and a0 1023) + 56320)) ∧ b_c16 (b_i ((b_and a0 1023) + 56320)) ≤ 65535) ∧ Q (b_c16 (b_i ((b_and a0 1023) + 56320))) w) : b_K (d + 1) mJ9_lowSurrogate [(0, a0)] n w Q X := by
  refine k_of (by decide) rfl rfl rfl (ls := [(0, a0)]) rfl ?_
  refine x_iload_n 0 dJ9_lowSurrogate_0 rfl rfl rfl ?_
  refine x_sipush 1023 (z := 1023) dJ9_lowSurrogate_1 rfl (by decide) rfl ?_
  refine x_iand dJ9_lowSurrogate_4 rfl ?_
  refine x_ldc 76 (x := 56320) dJ9_lowSurrogate_5 q579 rfl (by decide) rfl ?_
  refine x_iadd dJ9_lowSurrogate_7 rfl ?_
  refine x_i2c dJ9_lowSurrogate_8 rfl ?_
  exact y_cret dJ9_lowSurrogate_9 rfl h.1 h.2
end RulesJ
