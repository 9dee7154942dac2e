section RulesX30
set_option maxRecDepth 100000
theorem rX30_isBlank {d n : Nat} {w : bW} {Q : Int → bW → Prop} {X : String → bW → Prop} (a0 : Int) (h : if a0 = 32 then (Q 1 w) else (if a0 = 9 then (Q 1 w) else (if a0 = 10 then (Q 1 w) else (if a0 ≠ 13 then (Q 0 w) else (Q 1 w))))) : b_K (d + 1) mX30_isBlank [(0, a0)] n w Q X := by
  refine k_of (by decide) rfl rfl rfl (ls := [(0, a0)]) rfl ?_
  refine x_iload_n 0 dX30_isBlank_0 rfl rfl rfl ?_
  refine x_bipush 32 (z := 32) dX30_isBlank_1 rfl (by decide) rfl ?_
  refine x_icmp_eq (t := 24) 21 dX30_isBlank_3 rfl rfl (b_ite h (fun hc h => ?_) (fun hc h => ?_))
  · refine x_iconst 1 (z := 1) dX30_isBlank_24 rfl (by decide) rfl ?_
    refine x_goto 4 (q := 29) dX30_isBlank_25 rfl ?_
    exact y_zret dX30_isBlank_29 rfl (by decide) h
  · refine x_iload_n 0 dX30_isBlank_6 rfl rfl rfl ?_
    refine x_bipush 9 (z := 9) dX30_isBlank_7 rfl (by decide) rfl ?_
    refine x_icmp_eq (t := 24) 15 dX30_isBlank_9 rfl rfl (b_ite h (fun hc h => ?_) (fun hc h => ?_))
    · refine x_iconst 1 (z := 1) dX30_isBlank_24 rfl (by decide) rfl ?_
      refine x_goto 4 (q := 29) dX30_isBlank_25 rfl ?_
      exact y_zret dX30_isBlank_29 rfl (by decide) h
    · refine x_iload_n 0 dX30_isBlank_12 rfl rfl rfl ?_
      refine x_bipush 10 (z := 10) dX30_isBlank_13 rfl (by decide) rfl ?_
      refine x_icmp_eq (t := 24) 9 dX30_isBlank_15 rfl rfl (b_ite h (fun hc h => ?_) (fun hc h => ?_))
      · refine x_iconst 1 (z := 1) dX30_isBlank_24 rfl (by decide) rfl ?_
        refine x_goto 4 (q := 29) dX30_isBlank_25 rfl ?_
        exact y_zret dX30_isBlank_29 rfl (by decide) h
      · refine x_iload_n 0 dX30_isBlank_18 rfl rfl rfl ?_
        refine x_bipush 13 (z := 13) dX30_isBlank_19 rfl (by decide) rfl ?_
        refine x_icmp_ne (t := 28) 7 dX30_isBlank_21 rfl rfl (b_ite h (fun hc h => ?_) (fun hc h => ?_))
        · refine x_iconst 0 (z := 0) dX30_isBlank_28 rfl (by decide) rfl ?_
          exact y_zret dX30_isBlank_29 rfl (by decide) h
        · refine x_iconst 1 (z := 1) dX30_isBlank_24 rfl (by decide) rfl ?_
          refine x_goto 4 (q := 29) dX30_isBlank_25 rfl ?_
          exact y_zret dX30_isBlank_29 rfl (by decide) h
theorem rX30_hex {d n : Nat} {w : bW} {Q : Int → bW → Prop} {X : String → bW → Prop} (a0 : Int) (h : b_K d mX30_isDigit [(0, a0)] n w (fun r1 w2 => if r1 = 0 then (if a0 < 97 then (if a0 < 65 then (Q (-1) w2) else (if 70 < a0 then (Q (-1) w2) else (Q (b_i ((b_i (a0 - 65)) + 10)) w2))) else (if 102 < a0 then (if a0 < 65 then (Q (-1) w2) else (if 70 < a0 then (Q (-1) w2) else (Q (b_i ((b_i (a0 - 65)) + 10)) w2))) else (Q (b_i ((b_i (a0 - 97)) + 10)) w2))) else (Q (b_i (a0 - 48)) w2)) X) : b_K (d + 1) mX30_hex [(0, a0)] n w Q X := by
  refine k_of (by decide) rfl rfl rfl (ls := [(0, a0)]) rfl ?_
  refine x_iload_n 0 dX30_hex_0 rfl rfl rfl ?_
  refine y_Si 15 (M := mX30_isDigit) (As := [(0, a0)]) (st := []) dX30_hex_1 q1705 q1706 q398 q1707 hmX30_isDigit rfl rfl rfl rfl rfl rfl rfl rfl (k_mono h (fun r1 w2 h => ?_))
  refine x_if_eq (t := 14) 10 dX30_hex_4 rfl rfl (b_ite h (fun hc h => ?_) (fun hc h => ?_))
  · refine x_iload_n 0 dX30_hex_14 rfl rfl rfl ?_
    refine x_bipush 97 (z := 97) dX30_hex_15 rfl (by decide) rfl ?_
    refine x_icmp_lt (t := 36) 19 dX30_hex_17 rfl rfl (b_ite h (fun hc h => ?_) (fun hc h => ?_))
    · refine x_iload_n 0 dX30_hex_36 rfl rfl rfl ?_
      refine x_bipush 65 (z := 65) dX30_hex_37 rfl (by decide) rfl ?_
      refine x_icmp_lt (t := 58) 19 dX30_hex_39 rfl rfl (b_ite h (fun hc h => ?_) (fun hc h => ?_))
      · refine x_iconst (-1) (z := (-1)) dX30_hex_58 rfl (by decide) rfl ?_
        exact y_iret dX30_hex_59 rfl h
      · refine x_iload_n 0 dX30_hex_42 rfl rfl rfl ?_
        refine x_bipush 70 (z := 70) dX30_hex_43 rfl (by decide) rfl ?_
        refine x_icmp_gt (t := 58) 13 dX30_hex_45 rfl rfl (b_ite h (fun hc h => ?_) (fun hc h => ?_))
        · refine x_iconst (-1) (z := (-1)) dX30_hex_58 rfl (by decide) rfl ?_
          exact y_iret dX30_hex_59 rfl h
        · refine x_iload_n 0 dX30_hex_48 rfl rfl rfl ?_
          refine x_bipush 65 (z := 65) dX30_hex_49 rfl (by decide) rfl ?_
          refine x_isub dX30_hex_51 rfl ?_
          refine x_bipush 10 (z := 10) dX30_hex_52 rfl (by decide) rfl ?_
          refine x_iadd dX30_hex_54 rfl ?_
          refine x_goto 4 (q := 59) dX30_hex_55 rfl ?_
          exact y_iret dX30_hex_59 rfl h
    · refine x_iload_n 0 dX30_hex_20 rfl rfl rfl ?_
      refine x_bipush 102 (z := 102) dX30_hex_21 rfl (by decide) rfl ?_
      refine x_icmp_gt (t := 36) 13 dX30_hex_23 rfl rfl (b_ite h (fun hc h => ?_) (fun hc h => ?_))
      · refine x_iload_n 0 dX30_hex_36 rfl rfl rfl ?_
        refine x_bipush 65 (z := 65) dX30_hex_37 rfl (by decide) rfl ?_
        refine x_icmp_lt (t := 58) 19 dX30_hex_39 rfl rfl (b_ite h (fun hc h => ?_) (fun hc h => ?_))
        · refine x_iconst (-1) (z := (-1)) dX30_hex_58 rfl (by decide) rfl ?_
          exact y_iret dX30_hex_59 rfl h
        · refine x_iload_n 0 dX30_hex_42 rfl rfl rfl ?_
          refine x_bipush 70 (z := 70) dX30_hex_43 rfl (by decide) rfl ?_
          refine x_icmp_gt (t := 58) 13 dX30_hex_45 rfl rfl (b_ite h (fun hc h => ?_) (fun hc h => ?_))
          · refine x_iconst (-1) (z := (-1)) dX30_hex_58 rfl (by decide) rfl ?_
            exact y_iret dX30_hex_59 rfl h
          · refine x_iload_n 0 dX30_hex_48 rfl rfl rfl ?_
            refine x_bipush 65 (z := 65) dX30_hex_49 rfl (by decide) rfl ?_
            refine x_isub dX30_hex_51 rfl ?_
            refine x_bipush 10 (z := 10) dX30_hex_52 rfl (by decide) rfl ?_
            refine x_iadd dX30_hex_54 rfl ?_
            refine x_goto 4 (q := 59) dX30_hex_55 rfl ?_
            exact y_iret dX30_hex_59 rfl h
      · refine x_iload_n 0 dX30_hex_26 rfl rfl rfl ?_
        refine x_bipush 97 (z := 97) dX30_hex_27 rfl (by decide) rfl ?_
        refine x_isub dX30_hex_29 rfl ?_
        refine x_bipush 10 (z := 10) dX30_hex_30 rfl (by decide) rfl ?_
        refine x_iadd dX30_hex_32 rfl ?_
        refine x_goto 26 (q := 59) dX30_hex_33 rfl ?_
        exact y_iret dX30_hex_59 rfl h
  · refine x_iload_n 0 dX30_hex_7 rfl rfl rfl ?_
    refine x_bipush 48 (z := 48) dX30_hex_8 rfl (by decide) rfl ?_
    refine x_isub dX30_hex_10 rfl ?_
    refine x_goto 48 (q := 59) dX30_hex_11 rfl ?_
    exact y_iret dX30_hex_59 rfl h
theorem rX30_isDigit {d n : Nat} {w : bW} {Q : Int → bW → Prop} {X : String → bW → Prop} (a0 : Int) (h : if a0 < 48 then (Q 0 w) else (if 57 < a0 then (Q 0 w) else (Q 1 w))) : b_K (d + 1) mX30_isDigit [(0, a0)] n w Q X := by
  refine k_of (by decide) rfl rfl rfl (ls := [(0, a0)]) rfl ?_
  refine x_iload_n 0 dX30_isDigit_0 rfl rfl rfl ?_
  refine x_bipush 48 (z := 48) dX30_isDigit_1 rfl (by decide) rfl ?_
  refine x_icmp_lt (t := 16) 13 dX30_isDigit_3 rfl rfl (b_ite h (fun hc h => ?_) (fun hc h => ?_))
  · refine x_iconst 0 (z := 0) dX30_isDigit_16 rfl (by decide) rfl ?_
    exact y_zret dX30_isDigit_17 rfl (by decide) h
  · refine x_iload_n 0 dX30_isDigit_6 rfl rfl rfl ?_
    refine x_bipush 57 (z := 57) dX30_isDigit_7 rfl (by decide) rfl ?_
    refine x_icmp_gt (t := 16) 7 dX30_isDigit_9 rfl rfl (b_ite h (fun hc h => ?_) (fun hc h => ?_))
    · refine x_iconst 0 (z := 0) dX30_isDigit_16 rfl (by decide) rfl ?_
      exact y_zret dX30_isDigit_17 rfl (by decide) h
    · refine x_iconst 1 (z := 1) dX30_isDigit_12 rfl (by decide) rfl ?_
      refine x_goto 4 (q := 17) dX30_isDigit_13 rfl ?_
      exact y_zret dX30_isDigit_17 rfl (by decide) h
theorem rX30_isPlain {d n : Nat} {w : bW} {Q : Int → bW → Prop} {X : String → bW → Prop} (a0 : Int) (h : if a0 < 32 then (Q 0 w) else (if 126 < a0 then (Q 0 w) else (Q 1 w))) : b_K (d + 1) mX30_isPlain [(0, a0)] n w Q X := by
  refine k_of (by decide) rfl rfl rfl (ls := [(0, a0)]) rfl ?_
  refine x_iload_n 0 dX30_isPlain_0 rfl rfl rfl ?_
  refine x_bipush 32 (z := 32) dX30_isPlain_1 rfl (by decide) rfl ?_
  refine x_icmp_lt (t := 16) 13 dX30_isPlain_3 rfl rfl (b_ite h (fun hc h => ?_) (fun hc h => ?_))
  · refine x_iconst 0 (z := 0) dX30_isPlain_16 rfl (by decide) rfl ?_
    exact y_zret dX30_isPlain_17 rfl (by decide) h
  · refine x_iload_n 0 dX30_isPlain_6 rfl rfl rfl ?_
    refine x_bipush 126 (z := 126) dX30_isPlain_7 rfl (by decide) rfl ?_
    refine x_icmp_gt (t := 16) 7 dX30_isPlain_9 rfl rfl (b_ite h (fun hc h => ?_) (fun hc h => ?_))
    · refine x_iconst 0 (z := 0) dX30_isPlain_16 rfl (by decide) rfl ?_
      exact y_zret dX30_isPlain_17 rfl (by decide) h
    · refine x_iconst 1 (z := 1) dX30_isPlain_12 rfl (by decide) rfl ?_
      refine x_goto 4 (q := 17) dX30_isPlain_13 rfl ?_
      exact y_zret dX30_isPlain_17 rfl (by decide) h
theorem rX30_isLetter {d n : Nat} {w : bW} {Q : Int → bW → Prop} {X : String → bW → Prop} (a0 : Int) (h : if a0 < 97 then (if a0 < 65 then (Q 0 w) else (if 90 < a0 then (Q 0 w) else (Q 1 w))) else (if a0 ≤ 122 then (Q 1 w) else (if a0 < 65 then (Q 0 w) else (if 90 < a0 then (Q 0 w) else (Q 1 w))))) : b_K (d + 1) mX30_isLetter [(0, a0)] n w Q X := by
  refine k_of (by decide) rfl rfl rfl (ls := [(0, a0)]) rfl ?_
  refine x_iload_n 0 dX30_isLetter_0 rfl rfl rfl ?_
  refine x_bipush 97 (z := 97) dX30_isLetter_1 rfl (by decide) rfl ?_
  refine x_icmp_lt (t := 12) 9 dX30_isLetter_3 rfl rfl (b_ite h (fun hc h => ?_) (fun hc h => ?_))
  · refine x_iload_n 0 dX30_isLetter_12 rfl rfl rfl ?_
    refine x_bipush 65 (z := 65) dX30_isLetter_13 rfl (by decide) rfl ?_
    refine x_icmp_lt (t := 28) 13 dX30_isLetter_15 rfl rfl (b_ite h (fun hc h => ?_) (fun hc h => ?_))
    · refine x_iconst 0 (z := 0) dX30_isLetter_28 rfl (by decide) rfl ?_
      exact y_zret dX30_isLetter_29 rfl (by decide) h
    · refine x_iload_n 0 dX30_isLetter_18 rfl rfl rfl ?_
      refine x_bipush 90 (z := 90) dX30_isLetter_19 rfl (by decide) rfl ?_
      refine x_icmp_gt (t := 28) 7 dX30_isLetter_21 rfl rfl (b_ite h (fun hc h => ?_) (fun hc h => ?_))
      · refine x_iconst 0 (z := 0) dX30_isLetter_28 rfl (by decide) rfl ?_
        exact y_zret dX30_isLetter_29 rfl (by decide) h
      · refine x_iconst 1 (z := 1) dX30_isLetter_24 rfl (by decide) rfl ?_
        refine x_goto 4 (q := 29) dX30_isLetter_25 rfl ?_
        exact y_zret dX30_isLetter_29 rfl (by decide) h
  · refine x_iload_n 0 dX30_isLetter_6 rfl rfl rfl ?_
    refine x_bipush 122 (z := 122) dX30_isLetter_7 rfl (by decide) rfl ?_
    refine x_icmp_le (t := 24) 15 dX30_isLetter_9 rfl rfl (b_ite h (fun hc h => ?_) (fun hc h => ?_))
    · refine x_iconst 1 (z := 1) dX30_isLetter_24 rfl (by decide) rfl ?_
      refine x_goto 4 (q := 29) dX30_isLetter_25 rfl ?_
      exact y_zret dX30_isLetter_29 rfl (by decide) h
    · refine x_iload_n 0 dX30_isLetter_12 rfl rfl rfl ?_
      refine x_bipush 65 (z := 65) dX30_isLetter_13 rfl (by decide) rfl ?_
      refine x_icmp_lt (t := 28) 13 dX30_isLetter_15 rfl rfl (b_ite h (fun hc h => ?_) (fun hc h => ?_))
      · refine x_iconst 0 (z := 0) dX30_isLetter_28 rfl (by decide) rfl ?_
        exact y_zret dX30_isLetter_29 rfl (by decide) h
      · refine x_iload_n 0 dX30_isLetter_18 rfl rfl rfl ?_
        refine x_bipush 90 (z := 90) dX30_isLetter_19 rfl (by decide) rfl ?_
        refine x_icmp_gt (t := 28) 7 dX30_isLetter_21 rfl rfl (b_ite h (fun hc h => ?_) (fun hc h => ?_))
        · refine x_iconst 0 (z := 0) dX30_isLetter_28 rfl (by decide) rfl ?_
          exact y_zret dX30_isLetter_29 rfl (by decide) h
        · refine x_iconst 1 (z := 1) dX30_isLetter_24 rfl (by decide) rfl ?_
          refine x_goto 4 (q := 29) dX30_isLetter_25 rfl ?_
          exact y_zret dX30_isLetter_29 rfl (by decide) h
theorem rX30_isPart {d n : Nat} {w : bW} {Q : Int → bW → Prop} {X : String → bW → Prop} (a0 : Int) (h : b_K d mX30_isLetter [(0, a0)] n w (fun r1 w2 => if r1 ≠ 0 then (Q 1 w2) else (b_K d mX30_isDigit [(0, a0)] n w2 (fun r3 w4 => if r3 ≠ 0 then (Q 1 w4) else (if a0 ≠ 95 then (Q 0 w4) else (Q 1 w4))) X)) X) : b_K (d + 1) mX30_isPart [(0, a0)] n w Q X := by
  refine k_of (by decide) rfl rfl rfl (ls := [(0, a0)]) rfl ?_
  refine x_iload_n 0 dX30_isPart_0 rfl rfl rfl ?_
  refine y_Si 9 (M := mX30_isLetter) (As := [(0, a0)]) (st := []) dX30_isPart_1 q1726 q1721 q398 q1722 hmX30_isLetter rfl rfl rfl rfl rfl rfl rfl rfl (k_mono h (fun r1 w2 h => ?_))
  refine x_if_ne (t := 20) 16 dX30_isPart_4 rfl rfl (b_ite h (fun hc h => ?_) (fun hc h => ?_))
  · refine x_iconst 1 (z := 1) dX30_isPart_20 rfl (by decide) rfl ?_
    refine x_goto 4 (q := 25) dX30_isPart_21 rfl ?_
    exact y_zret dX30_isPart_25 rfl (by decide) h
  · refine x_iload_n 0 dX30_isPart_7 rfl rfl rfl ?_
    refine y_Si 15 (M := mX30_isDigit) (As := [(0, a0)]) (st := []) dX30_isPart_8 q1705 q1706 q398 q1707 hmX30_isDigit rfl rfl rfl rfl rfl rfl rfl rfl (k_mono h (fun r3 w4 h => ?_))
    refine x_if_ne (t := 20) 9 dX30_isPart_11 rfl rfl (b_ite h (fun hc h => ?_) (fun hc h => ?_))
    · refine x_iconst 1 (z := 1) dX30_isPart_20 rfl (by decide) rfl ?_
      refine x_goto 4 (q := 25) dX30_isPart_21 rfl ?_
      exact y_zret dX30_isPart_25 rfl (by decide) h
    · refine x_iload_n 0 dX30_isPart_14 rfl rfl rfl ?_
      refine x_bipush 95 (z := 95) dX30_isPart_15 rfl (by decide) rfl ?_
      refine x_icmp_ne (t := 24) 7 dX30_isPart_17 rfl rfl (b_ite h (fun hc h => ?_) (fun hc h => ?_))
      · refine x_iconst 0 (z := 0) dX30_isPart_24 rfl (by decide) rfl ?_
        exact y_zret dX30_isPart_25 rfl (by decide) h
      · refine x_iconst 1 (z := 1) dX30_isPart_20 rfl (by decide) rfl ?_
        refine x_goto 4 (q := 25) dX30_isPart_21 rfl ?_
        exact y_zret dX30_isPart_25 rfl (by decide) h
end RulesX30
