section BridgeFn
set_option maxRecDepth 100000
def fJ11_numberOfLeadingZeros (w : bW) (a0 : Int) : Int := (if 0 < a0 then (if a0 < 65536 then (if a0 < 256 then (if a0 < 16 then (if a0 < 4 then b_i (31 - (b_ush a0 1)) else b_i ((b_i (31 + (-2))) - (b_ush (b_ush a0 2) 1))) else (if b_ush a0 4 < 4 then b_i ((b_i (31 + (-4))) - (b_ush (b_ush a0 4) 1)) else b_i ((b_i ((b_i (31 + (-4))) + (-2))) - (b_ush (b_ush (b_ush a0 4) 2) 1)))) else (if b_ush a0 8 < 16 then (if b_ush a0 8 < 4 then b_i ((b_i (31 + (-8))) - (b_ush (b_ush a0 8) 1)) else b_i ((b_i ((b_i (31 + (-8))) + (-2))) - (b_ush (b_ush (b_ush a0 8) 2) 1))) else (if b_ush (b_ush a0 8) 4 < 4 then b_i ((b_i ((b_i (31 + (-8))) + (-4))) - (b_ush (b_ush (b_ush a0 8) 4) 1)) else b_i ((b_i ((b_i ((b_i (31 + (-8))) + (-4))) + (-2))) - (b_ush (b_ush (b_ush (b_ush a0 8) 4) 2) 1))))) else (if b_ush a0 16 < 256 then (if b_ush a0 16 < 16 then (if b_ush a0 16 < 4 then b_i ((b_i (31 + (-16))) - (b_ush (b_ush a0 16) 1)) else b_i ((b_i ((b_i (31 + (-16))) + (-2))) - (b_ush (b_ush (b_ush a0 16) 2) 1))) else (if b_ush (b_ush a0 16) 4 < 4 then b_i ((b_i ((b_i (31 + (-16))) + (-4))) - (b_ush (b_ush (b_ush a0 16) 4) 1)) else b_i ((b_i ((b_i ((b_i (31 + (-16))) + (-4))) + (-2))) - (b_ush (b_ush (b_ush (b_ush a0 16) 4) 2) 1)))) else (if b_ush (b_ush a0 16) 8 < 16 then (if b_ush (b_ush a0 16) 8 < 4 then b_i ((b_i ((b_i (31 + (-16))) + (-8))) - (b_ush (b_ush (b_ush a0 16) 8) 1)) else b_i ((b_i ((b_i ((b_i (31 + (-16))) + (-8))) + (-2))) - (b_ush (b_ush (b_ush (b_ush a0 16) 8) 2) 1))) else (if b_ush (b_ush (b_ush a0 16) 8) 4 < 4 then b_i ((b_i ((b_i ((b_i (31 + (-16))) + (-8))) + (-4))) - (b_ush (b_ush (b_ush (b_ush a0 16) 8) 4) 1)) else b_i ((b_i ((b_i ((b_i ((b_i (31 + (-16))) + (-8))) + (-4))) + (-2))) - (b_ush (b_ush (b_ush (b_ush (b_ush a0 16) 8) 4) 2) 1)))))) else (if a0 ≠ 0 then 0 else 32))
theorem vJ11_numberOfLeadingZeros {d n : Nat} {w : bW} {Q : Int → bW → Prop} {X : String → bW → Prop} (a0 : Int) (k : Q (fJ11_numberOfLeadingZeros w a0) w) : b_K (d + 1) mJ11_numberOfLeadingZeros [(0, a0)] n w Q X := by
  unfold fJ11_numberOfLeadingZeros at k
  refine k_of (by decide) rfl rfl rfl (ls := [(0, a0), (9, 0)]) rfl ?_
  refine x_iload_n 0 dJ11_numberOfLeadingZeros_0 rfl rfl rfl ?_
  refine x_if_gt (t := 15) 14 dJ11_numberOfLeadingZeros_1 rfl rfl (b_itqv (b_tt _) k (fun hc ok k => ?_) (fun hc ok k => ?_))
  · refine x_bipush 31 (z := 31) dJ11_numberOfLeadingZeros_15 rfl (by decide) rfl ?_
    refine x_istore_n 1 (ls' := [(0, a0), (0, 31)]) dJ11_numberOfLeadingZeros_17 rfl rfl rfl rfl ?_
    refine x_iload_n 0 dJ11_numberOfLeadingZeros_18 rfl rfl rfl ?_
    refine x_ldcw 264 (x := 65536) dJ11_numberOfLeadingZeros_19 q1758 rfl (by decide) rfl ?_
    refine x_icmp_lt (t := 33) 11 dJ11_numberOfLeadingZeros_22 rfl rfl (b_itqv (b_tt _) k (fun hc ok k => ?_) (fun hc ok k => ?_))
    · refine x_iload_n 0 dJ11_numberOfLeadingZeros_33 rfl rfl rfl ?_
      refine x_sipush 256 (z := 256) dJ11_numberOfLeadingZeros_34 rfl (by decide) rfl ?_
      refine x_icmp_lt (t := 48) 11 dJ11_numberOfLeadingZeros_37 rfl rfl (b_itqv (b_tt _) k (fun hc ok k => ?_) (fun hc ok k => ?_))
      · refine x_iload_n 0 dJ11_numberOfLeadingZeros_48 rfl rfl rfl ?_
        refine x_bipush 16 (z := 16) dJ11_numberOfLeadingZeros_49 rfl (by decide) rfl ?_
        refine x_icmp_lt (t := 61) 10 dJ11_numberOfLeadingZeros_51 rfl rfl (b_itqv (b_tt _) k (fun hc ok k => ?_) (fun hc ok k => ?_))
        · refine x_iload_n 0 dJ11_numberOfLeadingZeros_61 rfl rfl rfl ?_
          refine x_iconst 4 (z := 4) dJ11_numberOfLeadingZeros_62 rfl (by decide) rfl ?_
          refine x_icmp_lt (t := 73) 10 dJ11_numberOfLeadingZeros_63 rfl rfl (b_itqv (b_tt _) k (fun hc ok k => ?_) (fun hc ok k => ?_))
          · refine x_iload_n 1 dJ11_numberOfLeadingZeros_73 rfl rfl rfl ?_
            refine x_iload_n 0 dJ11_numberOfLeadingZeros_74 rfl rfl rfl ?_
            refine x_iconst 1 (z := 1) dJ11_numberOfLeadingZeros_75 rfl (by decide) rfl ?_
            refine x_iushr dJ11_numberOfLeadingZeros_76 rfl ?_
            refine x_isub dJ11_numberOfLeadingZeros_77 rfl ?_
            exact y_iret dJ11_numberOfLeadingZeros_78 rfl k
          · refine x_iinc 1 (-2) (ls' := [(0, a0), (0, b_i (31 + (-2)))]) dJ11_numberOfLeadingZeros_66 rfl rfl rfl rfl ?_
            refine x_iload_n 0 dJ11_numberOfLeadingZeros_69 rfl rfl rfl ?_
            refine x_iconst 2 (z := 2) dJ11_numberOfLeadingZeros_70 rfl (by decide) rfl ?_
            refine x_iushr dJ11_numberOfLeadingZeros_71 rfl ?_
            refine x_istore_n 0 (ls' := [(0, b_ush a0 2), (0, b_i (31 + (-2)))]) dJ11_numberOfLeadingZeros_72 rfl rfl rfl rfl ?_
            refine x_iload_n 1 dJ11_numberOfLeadingZeros_73 rfl rfl rfl ?_
            refine x_iload_n 0 dJ11_numberOfLeadingZeros_74 rfl rfl rfl ?_
            refine x_iconst 1 (z := 1) dJ11_numberOfLeadingZeros_75 rfl (by decide) rfl ?_
            refine x_iushr dJ11_numberOfLeadingZeros_76 rfl ?_
            refine x_isub dJ11_numberOfLeadingZeros_77 rfl ?_
            exact y_iret dJ11_numberOfLeadingZeros_78 rfl k
        · refine x_iinc 1 (-4) (ls' := [(0, a0), (0, b_i (31 + (-4)))]) dJ11_numberOfLeadingZeros_54 rfl rfl rfl rfl ?_
          refine x_iload_n 0 dJ11_numberOfLeadingZeros_57 rfl rfl rfl ?_
          refine x_iconst 4 (z := 4) dJ11_numberOfLeadingZeros_58 rfl (by decide) rfl ?_
          refine x_iushr dJ11_numberOfLeadingZeros_59 rfl ?_
          refine x_istore_n 0 (ls' := [(0, b_ush a0 4), (0, b_i (31 + (-4)))]) dJ11_numberOfLeadingZeros_60 rfl rfl rfl rfl ?_
          refine x_iload_n 0 dJ11_numberOfLeadingZeros_61 rfl rfl rfl ?_
          refine x_iconst 4 (z := 4) dJ11_numberOfLeadingZeros_62 rfl (by decide) rfl ?_
          refine x_icmp_lt (t := 73) 10 dJ11_numberOfLeadingZeros_63 rfl rfl (b_itqv (b_tt _) k (fun hc ok k => ?_) (fun hc ok k => ?_))
          · refine x_iload_n 1 dJ11_numberOfLeadingZeros_73 rfl rfl rfl ?_
            refine x_iload_n 0 dJ11_numberOfLeadingZeros_74 rfl rfl rfl ?_
            refine x_iconst 1 (z := 1) dJ11_numberOfLeadingZeros_75 rfl (by decide) rfl ?_
            refine x_iushr dJ11_numberOfLeadingZeros_76 rfl ?_
            refine x_isub dJ11_numberOfLeadingZeros_77 rfl ?_
            exact y_iret dJ11_numberOfLeadingZeros_78 rfl k
          · refine x_iinc 1 (-2) (ls' := [(0, b_ush a0 4), (0, b_i ((b_i (31 + (-4))) + (-2)))]) dJ11_numberOfLeadingZeros_66 rfl rfl rfl rfl ?_
            refine x_iload_n 0 dJ11_numberOfLeadingZeros_69 rfl rfl rfl ?_
            refine x_iconst 2 (z := 2) dJ11_numberOfLeadingZeros_70 rfl (by decide) rfl ?_
            refine x_iushr dJ11_numberOfLeadingZeros_71 rfl ?_
            refine x_istore_n 0 (ls' := [(0, b_ush (b_ush a0 4) 2), (0, b_i ((b_i (31 + (-4))) + (-2)))]) dJ11_numberOfLeadingZeros_72 rfl rfl rfl rfl ?_
            refine x_iload_n 1 dJ11_numberOfLeadingZeros_73 rfl rfl rfl ?_
            refine x_iload_n 0 dJ11_numberOfLeadingZeros_74 rfl rfl rfl ?_
            refine x_iconst 1 (z := 1) dJ11_numberOfLeadingZeros_75 rfl (by decide) rfl ?_
            refine x_iushr dJ11_numberOfLeadingZeros_76 rfl ?_
            refine x_isub dJ11_numberOfLeadingZeros_77 rfl ?_
            exact y_iret dJ11_numberOfLeadingZeros_78 rfl k
      · refine x_iinc 1 (-8) (ls' := [(0, a0), (0, b_i (31 + (-8)))]) dJ11_numberOfLeadingZeros_40 rfl rfl rfl rfl ?_
        refine x_iload_n 0 dJ11_numberOfLeadingZeros_43 rfl rfl rfl ?_
        refine x_bipush 8 (z := 8) dJ11_numberOfLeadingZeros_44 rfl (by decide) rfl ?_
        refine x_iushr dJ11_numberOfLeadingZeros_46 rfl ?_
        refine x_istore_n 0 (ls' := [(0, b_ush a0 8), (0, b_i (31 + (-8)))]) dJ11_numberOfLeadingZeros_47 rfl rfl rfl rfl ?_
        refine x_iload_n 0 dJ11_numberOfLeadingZeros_48 rfl rfl rfl ?_
        refine x_bipush 16 (z := 16) dJ11_numberOfLeadingZeros_49 rfl (by decide) rfl ?_
        refine x_icmp_lt (t := 61) 10 dJ11_numberOfLeadingZeros_51 rfl rfl (b_itqv (b_tt _) k (fun hc ok k => ?_) (fun hc ok k => ?_))
        · refine x_iload_n 0 dJ11_numberOfLeadingZeros_61 rfl rfl rfl ?_
          refine x_iconst 4 (z := 4) dJ11_numberOfLeadingZeros_62 rfl (by decide) rfl ?_
          refine x_icmp_lt (t := 73) 10 dJ11_numberOfLeadingZeros_63 rfl rfl (b_itqv (b_tt _) k (fun hc ok k => ?_) (fun hc ok k => ?_))
          · refine x_iload_n 1 dJ11_numberOfLeadingZeros_73 rfl rfl rfl ?_
            refine x_iload_n 0 dJ11_numberOfLeadingZeros_74 rfl rfl rfl ?_
            refine x_iconst 1 (z := 1) dJ11_numberOfLeadingZeros_75 rfl (by decide) rfl ?_
            refine x_iushr dJ11_numberOfLeadingZeros_76 rfl ?_
            refine x_isub dJ11_numberOfLeadingZeros_77 rfl ?_
            exact y_iret dJ11_numberOfLeadingZeros_78 rfl k
          · refine x_iinc 1 (-2) (ls' := [(0, b_ush a0 8), (0, b_i ((b_i (31 + (-8))) + (-2)))]) dJ11_numberOfLeadingZeros_66 rfl rfl rfl rfl ?_
            refine x_iload_n 0 dJ11_numberOfLeadingZeros_69 rfl rfl rfl ?_
            refine x_iconst 2 (z := 2) dJ11_numberOfLeadingZeros_70 rfl (by decide) rfl ?_
            refine x_iushr dJ11_numberOfLeadingZeros_71 rfl ?_
            refine x_istore_n 0 (ls' := [(0, b_ush (b_ush a0 8) 2), (0, b_i ((b_i (31 + (-8))) + (-2)))]) dJ11_numberOfLeadingZeros_72 rfl rfl rfl rfl ?_
            refine x_iload_n 1 dJ11_numberOfLeadingZeros_73 rfl rfl rfl ?_
            refine x_iload_n 0 dJ11_numberOfLeadingZeros_74 rfl rfl rfl ?_
            refine x_iconst 1 (z := 1) dJ11_numberOfLeadingZeros_75 rfl (by decide) rfl ?_
            refine x_iushr dJ11_numberOfLeadingZeros_76 rfl ?_
            refine x_isub dJ11_numberOfLeadingZeros_77 rfl ?_
            exact y_iret dJ11_numberOfLeadingZeros_78 rfl k
        · refine x_iinc 1 (-4) (ls' := [(0, b_ush a0 8), (0, b_i ((b_i (31 + (-8))) + (-4)))]) dJ11_numberOfLeadingZeros_54 rfl rfl rfl rfl ?_
          refine x_iload_n 0 dJ11_numberOfLeadingZeros_57 rfl rfl rfl ?_
          refine x_iconst 4 (z := 4) dJ11_numberOfLeadingZeros_58 rfl (by decide) rfl ?_
          refine x_iushr dJ11_numberOfLeadingZeros_59 rfl ?_
          refine x_istore_n 0 (ls' := [(0, b_ush (b_ush a0 8) 4), (0, b_i ((b_i (31 + (-8))) + (-4)))]) dJ11_numberOfLeadingZeros_60 rfl rfl rfl rfl ?_
          refine x_iload_n 0 dJ11_numberOfLeadingZeros_61 rfl rfl rfl ?_
          refine x_iconst 4 (z := 4) dJ11_numberOfLeadingZeros_62 rfl (by decide) rfl ?_
          refine x_icmp_lt (t := 73) 10 dJ11_numberOfLeadingZeros_63 rfl rfl (b_itqv (b_tt _) k (fun hc ok k => ?_) (fun hc ok k => ?_))
          · refine x_iload_n 1 dJ11_numberOfLeadingZeros_73 rfl rfl rfl ?_
            refine x_iload_n 0 dJ11_numberOfLeadingZeros_74 rfl rfl rfl ?_
            refine x_iconst 1 (z := 1) dJ11_numberOfLeadingZeros_75 rfl (by decide) rfl ?_
            refine x_iushr dJ11_numberOfLeadingZeros_76 rfl ?_
            refine x_isub dJ11_numberOfLeadingZeros_77 rfl ?_
            exact y_iret dJ11_numberOfLeadingZeros_78 rfl k
          · refine x_iinc 1 (-2) (ls' := [(0, b_ush (b_ush a0 8) 4), (0, b_i ((b_i ((b_i (31 + (-8))) + (-4))) + (-2)))]) dJ11_numberOfLeadingZeros_66 rfl rfl rfl rfl ?_
            refine x_iload_n 0 dJ11_numberOfLeadingZeros_69 rfl rfl rfl ?_
            refine x_iconst 2 (z := 2) dJ11_numberOfLeadingZeros_70 rfl (by decide) rfl ?_
            refine x_iushr dJ11_numberOfLeadingZeros_71 rfl ?_
            refine x_istore_n 0 (ls' := [(0, b_ush (b_ush (b_ush a0 8) 4) 2), (0, b_i ((b_i ((b_i (31 + (-8))) + (-4))) + (-2)))]) dJ11_numberOfLeadingZeros_72 rfl rfl rfl rfl ?_
            refine x_iload_n 1 dJ11_numberOfLeadingZeros_73 rfl rfl rfl ?_
            refine x_iload_n 0 dJ11_numberOfLeadingZeros_74 rfl rfl rfl ?_
            refine x_iconst 1 (z := 1) dJ11_numberOfLeadingZeros_75 rfl (by decide) rfl ?_
            refine x_iushr dJ11_numberOfLeadingZeros_76 rfl ?_
            refine x_isub dJ11_numberOfLeadingZeros_77 rfl ?_
            exact y_iret dJ11_numberOfLeadingZeros_78 rfl k
    · refine x_iinc 1 (-16) (ls' := [(0, a0), (0, b_i (31 + (-16)))]) dJ11_numberOfLeadingZeros_25 rfl rfl rfl rfl ?_
      refine x_iload_n 0 dJ11_numberOfLeadingZeros_28 rfl rfl rfl ?_
      refine x_bipush 16 (z := 16) dJ11_numberOfLeadingZeros_29 rfl (by decide) rfl ?_
      refine x_iushr dJ11_numberOfLeadingZeros_31 rfl ?_
      refine x_istore_n 0 (ls' := [(0, b_ush a0 16), (0, b_i (31 + (-16)))]) dJ11_numberOfLeadingZeros_32 rfl rfl rfl rfl ?_
      refine x_iload_n 0 dJ11_numberOfLeadingZeros_33 rfl rfl rfl ?_
      refine x_sipush 256 (z := 256) dJ11_numberOfLeadingZeros_34 rfl (by decide) rfl ?_
      refine x_icmp_lt (t := 48) 11 dJ11_numberOfLeadingZeros_37 rfl rfl (b_itqv (b_tt _) k (fun hc ok k => ?_) (fun hc ok k => ?_))
      · refine x_iload_n 0 dJ11_numberOfLeadingZeros_48 rfl rfl rfl ?_
        refine x_bipush 16 (z := 16) dJ11_numberOfLeadingZeros_49 rfl (by decide) rfl ?_
        refine x_icmp_lt (t := 61) 10 dJ11_numberOfLeadingZeros_51 rfl rfl (b_itqv (b_tt _) k (fun hc ok k => ?_) (fun hc ok k => ?_))
        · refine x_iload_n 0 dJ11_numberOfLeadingZeros_61 rfl rfl rfl ?_
          refine x_iconst 4 (z := 4) dJ11_numberOfLeadingZeros_62 rfl (by decide) rfl ?_
          refine x_icmp_lt (t := 73) 10 dJ11_numberOfLeadingZeros_63 rfl rfl (b_itqv (b_tt _) k (fun hc ok k => ?_) (fun hc ok k => ?_))
          · refine x_iload_n 1 dJ11_numberOfLeadingZeros_73 rfl rfl rfl ?_
            refine x_iload_n 0 dJ11_numberOfLeadingZeros_74 rfl rfl rfl ?_
            refine x_iconst 1 (z := 1) dJ11_numberOfLeadingZeros_75 rfl (by decide) rfl ?_
            refine x_iushr dJ11_numberOfLeadingZeros_76 rfl ?_
            refine x_isub dJ11_numberOfLeadingZeros_77 rfl ?_
            exact y_iret dJ11_numberOfLeadingZeros_78 rfl k
          · refine x_iinc 1 (-2) (ls' := [(0, b_ush a0 16), (0, b_i ((b_i (31 + (-16))) + (-2)))]) dJ11_numberOfLeadingZeros_66 rfl rfl rfl rfl ?_
            refine x_iload_n 0 dJ11_numberOfLeadingZeros_69 rfl rfl rfl ?_
            refine x_iconst 2 (z := 2) dJ11_numberOfLeadingZeros_70 rfl (by decide) rfl ?_
            refine x_iushr dJ11_numberOfLeadingZeros_71 rfl ?_
            refine x_istore_n 0 (ls' := [(0, b_ush (b_ush a0 16) 2), (0, b_i ((b_i (31 + (-16))) + (-2)))]) dJ11_numberOfLeadingZeros_72 rfl rfl rfl rfl ?_
            refine x_iload_n 1 dJ11_numberOfLeadingZeros_73 rfl rfl rfl ?_
            refine x_iload_n 0 dJ11_numberOfLeadingZeros_74 rfl rfl rfl ?_
            refine x_iconst 1 (z := 1) dJ11_numberOfLeadingZeros_75 rfl (by decide) rfl ?_
            refine x_iushr dJ11_numberOfLeadingZeros_76 rfl ?_
            refine x_isub dJ11_numberOfLeadingZeros_77 rfl ?_
            exact y_iret dJ11_numberOfLeadingZeros_78 rfl k
        · refine x_iinc 1 (-4) (ls' := [(0, b_ush a0 16), (0, b_i ((b_i (31 + (-16))) + (-4)))]) dJ11_numberOfLeadingZeros_54 rfl rfl rfl rfl ?_
          refine x_iload_n 0 dJ11_numberOfLeadingZeros_57 rfl rfl rfl ?_
          refine x_iconst 4 (z := 4) dJ11_numberOfLeadingZeros_58 rfl (by decide) rfl ?_
          refine x_iushr dJ11_numberOfLeadingZeros_59 rfl ?_
          refine x_istore_n 0 (ls' := [(0, b_ush (b_ush a0 16) 4), (0, b_i ((b_i (31 + (-16))) + (-4)))]) dJ11_numberOfLeadingZeros_60 rfl rfl rfl rfl ?_
          refine x_iload_n 0 dJ11_numberOfLeadingZeros_61 rfl rfl rfl ?_
          refine x_iconst 4 (z := 4) dJ11_numberOfLeadingZeros_62 rfl (by decide) rfl ?_
          refine x_icmp_lt (t := 73) 10 dJ11_numberOfLeadingZeros_63 rfl rfl (b_itqv (b_tt _) k (fun hc ok k => ?_) (fun hc ok k => ?_))
          · refine x_iload_n 1 dJ11_numberOfLeadingZeros_73 rfl rfl rfl ?_
            refine x_iload_n 0 dJ11_numberOfLeadingZeros_74 rfl rfl rfl ?_
            refine x_iconst 1 (z := 1) dJ11_numberOfLeadingZeros_75 rfl (by decide) rfl ?_
            refine x_iushr dJ11_numberOfLeadingZeros_76 rfl ?_
            refine x_isub dJ11_numberOfLeadingZeros_77 rfl ?_
            exact y_iret dJ11_numberOfLeadingZeros_78 rfl k
          · refine x_iinc 1 (-2) (ls' := [(0, b_ush (b_ush a0 16) 4), (0, b_i ((b_i ((b_i (31 + (-16))) + (-4))) + (-2)))]) dJ11_numberOfLeadingZeros_66 rfl rfl rfl rfl ?_
            refine x_iload_n 0 dJ11_numberOfLeadingZeros_69 rfl rfl rfl ?_
            refine x_iconst 2 (z := 2) dJ11_numberOfLeadingZeros_70 rfl (by decide) rfl ?_
            refine x_iushr dJ11_numberOfLeadingZeros_71 rfl ?_
            refine x_istore_n 0 (ls' := [(0, b_ush (b_ush (b_ush a0 16) 4) 2), (0, b_i ((b_i ((b_i (31 + (-16))) + (-4))) + (-2)))]) dJ11_numberOfLeadingZeros_72 rfl rfl rfl rfl ?_
            refine x_iload_n 1 dJ11_numberOfLeadingZeros_73 rfl rfl rfl ?_
            refine x_iload_n 0 dJ11_numberOfLeadingZeros_74 rfl rfl rfl ?_
            refine x_iconst 1 (z := 1) dJ11_numberOfLeadingZeros_75 rfl (by decide) rfl ?_
            refine x_iushr dJ11_numberOfLeadingZeros_76 rfl ?_
            refine x_isub dJ11_numberOfLeadingZeros_77 rfl ?_
            exact y_iret dJ11_numberOfLeadingZeros_78 rfl k
      · refine x_iinc 1 (-8) (ls' := [(0, b_ush a0 16), (0, b_i ((b_i (31 + (-16))) + (-8)))]) dJ11_numberOfLeadingZeros_40 rfl rfl rfl rfl ?_
        refine x_iload_n 0 dJ11_numberOfLeadingZeros_43 rfl rfl rfl ?_
        refine x_bipush 8 (z := 8) dJ11_numberOfLeadingZeros_44 rfl (by decide) rfl ?_
        refine x_iushr dJ11_numberOfLeadingZeros_46 rfl ?_
        refine x_istore_n 0 (ls' := [(0, b_ush (b_ush a0 16) 8), (0, b_i ((b_i (31 + (-16))) + (-8)))]) dJ11_numberOfLeadingZeros_47 rfl rfl rfl rfl ?_
        refine x_iload_n 0 dJ11_numberOfLeadingZeros_48 rfl rfl rfl ?_
        refine x_bipush 16 (z := 16) dJ11_numberOfLeadingZeros_49 rfl (by decide) rfl ?_
        refine x_icmp_lt (t := 61) 10 dJ11_numberOfLeadingZeros_51 rfl rfl (b_itqv (b_tt _) k (fun hc ok k => ?_) (fun hc ok k => ?_))
        · refine x_iload_n 0 dJ11_numberOfLeadingZeros_61 rfl rfl rfl ?_
          refine x_iconst 4 (z := 4) dJ11_numberOfLeadingZeros_62 rfl (by decide) rfl ?_
          refine x_icmp_lt (t := 73) 10 dJ11_numberOfLeadingZeros_63 rfl rfl (b_itqv (b_tt _) k (fun hc ok k => ?_) (fun hc ok k => ?_))
          · refine x_iload_n 1 dJ11_numberOfLeadingZeros_73 rfl rfl rfl ?_
            refine x_iload_n 0 dJ11_numberOfLeadingZeros_74 rfl rfl rfl ?_
            refine x_iconst 1 (z := 1) dJ11_numberOfLeadingZeros_75 rfl (by decide) rfl ?_
            refine x_iushr dJ11_numberOfLeadingZeros_76 rfl ?_
            refine x_isub dJ11_numberOfLeadingZeros_77 rfl ?_
            exact y_iret dJ11_numberOfLeadingZeros_78 rfl k
          · refine x_iinc 1 (-2) (ls' := [(0, b_ush (b_ush a0 16) 8), (0, b_i ((b_i ((b_i (31 + (-16))) + (-8))) + (-2)))]) dJ11_numberOfLeadingZeros_66 rfl rfl rfl rfl ?_
            refine x_iload_n 0 dJ11_numberOfLeadingZeros_69 rfl rfl rfl ?_
            refine x_iconst 2 (z := 2) dJ11_numberOfLeadingZeros_70 rfl (by decide) rfl ?_
            refine x_iushr dJ11_numberOfLeadingZeros_71 rfl ?_
            refine x_istore_n 0 (ls' := [(0, b_ush (b_ush (b_ush a0 16) 8) 2), (0, b_i ((b_i ((b_i (31 + (-16))) + (-8))) + (-2)))]) dJ11_numberOfLeadingZeros_72 rfl rfl rfl rfl ?_
            refine x_iload_n 1 dJ11_numberOfLeadingZeros_73 rfl rfl rfl ?_
            refine x_iload_n 0 dJ11_numberOfLeadingZeros_74 rfl rfl rfl ?_
            refine x_iconst 1 (z := 1) dJ11_numberOfLeadingZeros_75 rfl (by decide) rfl ?_
            refine x_iushr dJ11_numberOfLeadingZeros_76 rfl ?_
            refine x_isub dJ11_numberOfLeadingZeros_77 rfl ?_
            exact y_iret dJ11_numberOfLeadingZeros_78 rfl k
        · refine x_iinc 1 (-4) (ls' := [(0, b_ush (b_ush a0 16) 8), (0, b_i ((b_i ((b_i (31 + (-16))) + (-8))) + (-4)))]) dJ11_numberOfLeadingZeros_54 rfl rfl rfl rfl ?_
          refine x_iload_n 0 dJ11_numberOfLeadingZeros_57 rfl rfl rfl ?_
          refine x_iconst 4 (z := 4) dJ11_numberOfLeadingZeros_58 rfl (by decide) rfl ?_
          refine x_iushr dJ11_numberOfLeadingZeros_59 rfl ?_
          refine x_istore_n 0 (ls' := [(0, b_ush (b_ush (b_ush a0 16) 8) 4), (0, b_i ((b_i ((b_i (31 + (-16))) + (-8))) + (-4)))]) dJ11_numberOfLeadingZeros_60 rfl rfl rfl rfl ?_
          refine x_iload_n 0 dJ11_numberOfLeadingZeros_61 rfl rfl rfl ?_
          refine x_iconst 4 (z := 4) dJ11_numberOfLeadingZeros_62 rfl (by decide) rfl ?_
          refine x_icmp_lt (t := 73) 10 dJ11_numberOfLeadingZeros_63 rfl rfl (b_itqv (b_tt _) k (fun hc ok k => ?_) (fun hc ok k => ?_))
          · refine x_iload_n 1 dJ11_numberOfLeadingZeros_73 rfl rfl rfl ?_
            refine x_iload_n 0 dJ11_numberOfLeadingZeros_74 rfl rfl rfl ?_
            refine x_iconst 1 (z := 1) dJ11_numberOfLeadingZeros_75 rfl (by decide) rfl ?_
            refine x_iushr dJ11_numberOfLeadingZeros_76 rfl ?_
            refine x_isub dJ11_numberOfLeadingZeros_77 rfl ?_
            exact y_iret dJ11_numberOfLeadingZeros_78 rfl k
          · refine x_iinc 1 (-2) (ls' := [(0, b_ush (b_ush (b_ush a0 16) 8) 4), (0, b_i ((b_i ((b_i ((b_i (31 + (-16))) + (-8))) + (-4))) + (-2)))]) dJ11_numberOfLeadingZeros_66 rfl rfl rfl rfl ?_
            refine x_iload_n 0 dJ11_numberOfLeadingZeros_69 rfl rfl rfl ?_
            refine x_iconst 2 (z := 2) dJ11_numberOfLeadingZeros_70 rfl (by decide) rfl ?_
            refine x_iushr dJ11_numberOfLeadingZeros_71 rfl ?_
            refine x_istore_n 0 (ls' := [(0, b_ush (b_ush (b_ush (b_ush a0 16) 8) 4) 2), (0, b_i ((b_i ((b_i ((b_i (31 + (-16))) + (-8))) + (-4))) + (-2)))]) dJ11_numberOfLeadingZeros_72 rfl rfl rfl rfl ?_
            refine x_iload_n 1 dJ11_numberOfLeadingZeros_73 rfl rfl rfl ?_
            refine x_iload_n 0 dJ11_numberOfLeadingZeros_74 rfl rfl rfl ?_
            refine x_iconst 1 (z := 1) dJ11_numberOfLeadingZeros_75 rfl (by decide) rfl ?_
            refine x_iushr dJ11_numberOfLeadingZeros_76 rfl ?_
            refine x_isub dJ11_numberOfLeadingZeros_77 rfl ?_
            exact y_iret dJ11_numberOfLeadingZeros_78 rfl k
  · refine x_iload_n 0 dJ11_numberOfLeadingZeros_4 rfl rfl rfl ?_
    refine x_if_ne (t := 13) 8 dJ11_numberOfLeadingZeros_5 rfl rfl (b_itqv (b_tt _) k (fun hc ok k => ?_) (fun hc ok k => ?_))
    · refine x_iconst 0 (z := 0) dJ11_numberOfLeadingZeros_13 rfl (by decide) rfl ?_
      exact y_iret dJ11_numberOfLeadingZeros_14 rfl k
    · refine x_bipush 32 (z := 32) dJ11_numberOfLeadingZeros_8 rfl (by decide) rfl ?_
      refine x_goto 4 (q := 14) dJ11_numberOfLeadingZeros_10 rfl ?_
      exact y_iret dJ11_numberOfLeadingZeros_14 rfl k
def fJ4_coder (w : bW) (t4 : Int) : Int := 0
def oJ4_coder (n : Nat) (w : bW) (t4 : Int) : Prop := (b_b8 0 = 0)
theorem vJ4_coder {d n : Nat} {w : bW} {Q : Int → bW → Prop} {X : String → bW → Prop} (t4 : Int) (hk : 0 ≤ t4 ∧ t4 < 6) (ok : oJ4_coder n w t4) (k : Q (fJ4_coder w t4) w) : b_K (d + 1) mJ4_coder [(4, t4)] n w Q X := by
  unfold fJ4_coder at k
  unfold oJ4_coder at ok
  refine k_of (by decide) rfl rfl rfl (ls := [(4, t4)]) rfl ?_
  refine x_gcs 38 dJ4_coder_0 q505 rfl ?_
  refine x_if_eq (t := 13) 10 dJ4_coder_3 rfl rfl (b_ifF (by decide) ?_)
  refine x_aload_n 0 dJ4_coder_6 rfl rfl rfl rfl rfl ?_
  refine x_scod 15 dJ4_coder_7 hk q4702 rfl ?_
  refine x_goto 4 (q := 14) dJ4_coder_10 rfl ?_
  exact y_bret dJ4_coder_14 rfl ok k
def fJ4_isLatin1 (w : bW) (t4 : Int) : Int := 1
theorem vJ4_isLatin1 {d n : Nat} {w : bW} {Q : Int → bW → Prop} {X : String → bW → Prop} (t4 : Int) (hk : 0 ≤ t4 ∧ t4 < 6) (k : Q (fJ4_isLatin1 w t4) w) : b_K (d + 1) mJ4_isLatin1 [(4, t4)] n w Q X := by
  unfold fJ4_isLatin1 at k
  refine k_of (by decide) rfl rfl rfl (ls := [(4, t4)]) rfl ?_
  refine x_gcs 38 dJ4_isLatin1_0 q505 rfl ?_
  refine x_if_eq (t := 17) 14 dJ4_isLatin1_3 rfl rfl (b_ifF (by decide) ?_)
  refine x_aload_n 0 dJ4_isLatin1_6 rfl rfl rfl rfl rfl ?_
  refine x_scod 15 dJ4_isLatin1_7 hk q4702 rfl ?_
  refine x_if_ne (t := 17) 7 dJ4_isLatin1_10 rfl rfl (b_ifF (by decide) ?_)
  refine x_iconst 1 (z := 1) dJ4_isLatin1_13 rfl (by decide) rfl ?_
  refine x_goto 4 (q := 18) dJ4_isLatin1_14 rfl ?_
  exact y_zret dJ4_isLatin1_18 rfl (by decide) k
def fJ5_canEncode (w : bW) (a0 : Int) : Int := (if a0 < 0 then 0 else (if 255 < a0 then 0 else 1))
theorem vJ5_canEncode {d n : Nat} {w : bW} {Q : Int → bW → Prop} {X : String → bW → Prop} (a0 : Int) (k : Q (fJ5_canEncode w a0) w) : b_K (d + 1) mJ5_canEncode [(0, a0)] n w Q X := by
  unfold fJ5_canEncode at k
  refine k_of (by decide) rfl rfl rfl (ls := [(0, a0)]) rfl ?_
  refine x_iload_n 0 dJ5_canEncode_0 rfl rfl rfl ?_
  refine x_if_lt (t := 15) 14 dJ5_canEncode_1 rfl rfl (b_itqv (b_tt _) k (fun hc ok k => ?_) (fun hc ok k => ?_))
  · refine x_iconst 0 (z := 0) dJ5_canEncode_15 rfl (by decide) rfl ?_
    exact y_zret dJ5_canEncode_16 rfl (by decide) k
  · refine x_iload_n 0 dJ5_canEncode_4 rfl rfl rfl ?_
    refine x_sipush 255 (z := 255) dJ5_canEncode_5 rfl (by decide) rfl ?_
    refine x_icmp_gt (t := 15) 7 dJ5_canEncode_8 rfl rfl (b_itqv (b_tt _) k (fun hc ok k => ?_) (fun hc ok k => ?_))
    · refine x_iconst 0 (z := 0) dJ5_canEncode_15 rfl (by decide) rfl ?_
      exact y_zret dJ5_canEncode_16 rfl (by decide) k
    · refine x_iconst 1 (z := 1) dJ5_canEncode_11 rfl (by decide) rfl ?_
      refine x_goto 4 (q := 16) dJ5_canEncode_12 rfl ?_
      exact y_zret dJ5_canEncode_16 rfl (by decide) k
def fJ7_getChar (w : bW) (a0 : Int) (a1 : Int) : Int := 0
def oJ7_getChar (n : Nat) (w : bW) (a0 : Int) (a1 : Int) : Prop := False
theorem vJ7_getChar {d n : Nat} {w : bW} {Q : Int → bW → Prop} {X : String → bW → Prop} (a0 : Int) (a1 : Int) (ok : oJ7_getChar n w a0 a1) (k : Q (fJ7_getChar w a0 a1) w) : b_K (d + 1) mJ7_getChar [(2, a0), (0, a1)] n w Q X := by
  unfold fJ7_getChar at k
  unfold oJ7_getChar at ok
  refine k_of (by decide) rfl rfl rfl (ls := [(2, a0), (0, a1)]) rfl ?_
  exact ok.elim
def fJ8_checkFromToIndex (w : bW) (a0 : Int) (a1 : Int) (a2 : Int) (a3 : Int) : Int := (if a0 < 0 then 0 else (if a1 < a0 then 0 else (if a1 ≤ a2 then a0 else 0)))
def oJ8_checkFromToIndex (n : Nat) (w : bW) (a0 : Int) (a1 : Int) (a2 : Int) (a3 : Int) : Prop := if a0 < 0 then False else (if a1 < a0 then False else (if a1 ≤ a2 then True else False))
theorem vJ8_checkFromToIndex {d n : Nat} {w : bW} {Q : Int → bW → Prop} {X : String → bW → Prop} (a0 : Int) (a1 : Int) (a2 : Int) (a3 : Int) (ok : oJ8_checkFromToIndex n w a0 a1 a2 a3) (k : Q (fJ8_checkFromToIndex w a0 a1 a2 a3) w) : b_K (d + 1) mJ8_checkFromToIndex [(0, a0), (0, a1), (0, a2), (7, a3)] n w Q X := by
  unfold fJ8_checkFromToIndex at k
  unfold oJ8_checkFromToIndex at ok
  refine k_of (by decide) rfl rfl rfl (ls := [(0, a0), (0, a1), (0, a2), (7, a3)]) rfl ?_
  refine x_iload_n 0 dJ8_checkFromToIndex_0 rfl rfl rfl ?_
  refine x_if_lt (t := 14) 13 dJ8_checkFromToIndex_1 rfl rfl (b_itqv ok k (fun hc ok k => ?_) (fun hc ok k => ?_))
  · refine x_aload_n 3 dJ8_checkFromToIndex_14 rfl rfl rfl rfl rfl ?_
    refine x_iload_n 0 dJ8_checkFromToIndex_15 rfl rfl rfl ?_
    refine x_iload_n 1 dJ8_checkFromToIndex_16 rfl rfl rfl ?_
    refine x_iload_n 2 dJ8_checkFromToIndex_17 rfl rfl rfl ?_
    exact ok.elim
  · refine x_iload_n 0 dJ8_checkFromToIndex_4 rfl rfl rfl ?_
    refine x_iload_n 1 dJ8_checkFromToIndex_5 rfl rfl rfl ?_
    refine x_icmp_gt (t := 14) 8 dJ8_checkFromToIndex_6 rfl rfl (b_itqv ok k (fun hc ok k => ?_) (fun hc ok k => ?_))
    · refine x_aload_n 3 dJ8_checkFromToIndex_14 rfl rfl rfl rfl rfl ?_
      refine x_iload_n 0 dJ8_checkFromToIndex_15 rfl rfl rfl ?_
      refine x_iload_n 1 dJ8_checkFromToIndex_16 rfl rfl rfl ?_
      refine x_iload_n 2 dJ8_checkFromToIndex_17 rfl rfl rfl ?_
      exact ok.elim
    · refine x_iload_n 1 dJ8_checkFromToIndex_9 rfl rfl rfl ?_
      refine x_iload_n 2 dJ8_checkFromToIndex_10 rfl rfl rfl ?_
      refine x_icmp_le (t := 22) 11 dJ8_checkFromToIndex_11 rfl rfl (b_itqv ok k (fun hc ok k => ?_) (fun hc ok k => ?_))
      · refine x_iload_n 0 dJ8_checkFromToIndex_22 rfl rfl rfl ?_
        exact y_iret dJ8_checkFromToIndex_23 rfl k
      · refine x_aload_n 3 dJ8_checkFromToIndex_14 rfl rfl rfl rfl rfl ?_
        refine x_iload_n 0 dJ8_checkFromToIndex_15 rfl rfl rfl ?_
        refine x_iload_n 1 dJ8_checkFromToIndex_16 rfl rfl rfl ?_
        refine x_iload_n 2 dJ8_checkFromToIndex_17 rfl rfl rfl ?_
        exact ok.elim
def fJ8_checkIndex (w : bW) (a0 : Int) (a1 : Int) (a2 : Int) : Int := (if a0 < 0 then 0 else (if a0 < a1 then a0 else 0))
def oJ8_checkIndex (n : Nat) (w : bW) (a0 : Int) (a1 : Int) (a2 : Int) : Prop := if a0 < 0 then False else (if a0 < a1 then True else False)
theorem vJ8_checkIndex {d n : Nat} {w : bW} {Q : Int → bW → Prop} {X : String → bW → Prop} (a0 : Int) (a1 : Int) (a2 : Int) (ok : oJ8_checkIndex n w a0 a1 a2) (k : Q (fJ8_checkIndex w a0 a1 a2) w) : b_K (d + 1) mJ8_checkIndex [(0, a0), (0, a1), (7, a2)] n w Q X := by
  unfold fJ8_checkIndex at k
  unfold oJ8_checkIndex at ok
  refine k_of (by decide) rfl rfl rfl (ls := [(0, a0), (0, a1), (7, a2)]) rfl ?_
  refine x_iload_n 0 dJ8_checkIndex_0 rfl rfl rfl ?_
  refine x_if_lt (t := 9) 8 dJ8_checkIndex_1 rfl rfl (b_itqv ok k (fun hc ok k => ?_) (fun hc ok k => ?_))
  · refine x_aload_n 2 dJ8_checkIndex_9 rfl rfl rfl rfl rfl ?_
    refine x_iload_n 0 dJ8_checkIndex_10 rfl rfl rfl ?_
    refine x_iload_n 1 dJ8_checkIndex_11 rfl rfl rfl ?_
    exact ok.elim
  · refine x_iload_n 0 dJ8_checkIndex_4 rfl rfl rfl ?_
    refine x_iload_n 1 dJ8_checkIndex_5 rfl rfl rfl ?_
    refine x_icmp_lt (t := 16) 10 dJ8_checkIndex_6 rfl rfl (b_itqv ok k (fun hc ok k => ?_) (fun hc ok k => ?_))
    · refine x_iload_n 0 dJ8_checkIndex_16 rfl rfl rfl ?_
      exact y_iret dJ8_checkIndex_17 rfl k
    · refine x_aload_n 2 dJ8_checkIndex_9 rfl rfl rfl rfl rfl ?_
      refine x_iload_n 0 dJ8_checkIndex_10 rfl rfl rfl ?_
      refine x_iload_n 1 dJ8_checkIndex_11 rfl rfl rfl ?_
      exact ok.elim
def fJ9_isValidCodePoint (w : bW) (a0 : Int) : Int := (if 17 ≤ b_ush a0 16 then 0 else 1)
theorem vJ9_isValidCodePoint {d n : Nat} {w : bW} {Q : Int → bW → Prop} {X : String → bW → Prop} (a0 : Int) (k : Q (fJ9_isValidCodePoint w a0) w) : b_K (d + 1) mJ9_isValidCodePoint [(0, a0)] n w Q X := by
  unfold fJ9_isValidCodePoint at k
  refine k_of (by decide) rfl rfl rfl (ls := [(0, a0), (9, 0)]) rfl ?_
  refine x_iload_n 0 dJ9_isValidCodePoint_0 rfl rfl rfl ?_
  refine x_bipush 16 (z := 16) dJ9_isValidCodePoint_1 rfl (by decide) rfl ?_
  refine x_iushr dJ9_isValidCodePoint_3 rfl ?_
  refine x_istore_n 1 (ls' := [(0, a0), (0, b_ush a0 16)]) dJ9_isValidCodePoint_4 rfl rfl rfl rfl ?_
  refine x_iload_n 1 dJ9_isValidCodePoint_5 rfl rfl rfl ?_
  refine x_bipush 17 (z := 17) dJ9_isValidCodePoint_6 rfl (by decide) rfl ?_
  refine x_icmp_ge (t := 15) 7 dJ9_isValidCodePoint_8 rfl rfl (b_itqv (b_tt _) k (fun hc ok k => ?_) (fun hc ok k => ?_))
  · refine x_iconst 0 (z := 0) dJ9_isValidCodePoint_15 rfl (by decide) rfl ?_
    exact y_zret dJ9_isValidCodePoint_16 rfl (by decide) k
  · refine x_iconst 1 (z := 1) dJ9_isValidCodePoint_11 rfl (by decide) rfl ?_
    refine x_goto 4 (q := 16) dJ9_isValidCodePoint_12 rfl ?_
    exact y_zret dJ9_isValidCodePoint_16 rfl (by decide) k
def fJ9_highSurrogate (w : bW) (a0 : Int) : Int := b_c16 (b_i ((b_ush a0 10) + 55232))
def oJ9_highSurrogate (n : Nat) (w : bW) (a0 : Int) : Prop := (0 ≤ b_c16 (b_i ((b_ush a0 10) + 55232)) ∧ b_c16 (b_i ((b_ush a0 10) + 55232)) ≤ 65535)
theorem vJ9_highSurrogate {d n : Nat} {w : bW} {Q : Int → bW → Prop} {X : String → bW → Prop} (a0 : Int) (ok : oJ9_highSurrogate n w a0) (k : Q (fJ9_highSurrogate w a0) w) : b_K (d + 1) mJ9_highSurrogate [(0, a0)] n w Q X := by
  unfold fJ9_highSurrogate at k
  unfold oJ9_highSurrogate at ok
  refine k_of (by decide) rfl rfl rfl (ls := [(0, a0)]) rfl ?_
  refine x_iload_n 0 dJ9_highSurrogate_0 rfl rfl rfl ?_
  refine x_bipush 10 (z := 10) dJ9_highSurrogate_1 rfl (by decide) rfl ?_
  refine x_iushr dJ9_highSurrogate_3 rfl ?_
  refine x_ldc 110 (x := 55232) dJ9_highSurrogate_4 q575 rfl (by decide) rfl ?_
  refine x_iadd dJ9_highSurrogate_6 rfl ?_
  refine x_i2c dJ9_highSurrogate_7 rfl ?_
  exact y_cret dJ9_highSurrogate_8 rfl ok k
def fJ9_lowSurrogate (w : bW) (a0 : Int) : Int := b_c16 (b_i ((b_and a0 1023) + 56320))
def oJ9_lowSurrogate (n : Nat) (w : bW) (a0 : Int) : Prop := (0 ≤ b_c16 (b_i ((b_and a0 1023) + 56320)) ∧ b_c16 (b_i ((b_and a0 1023) + 56320)) ≤ 65535)
theorem vJ9_lowSurrogate {d n : Nat} {w : bW} {Q : Int → bW → Prop} {X : String → bW → Prop} (a0 : Int) (ok : oJ9_lowSurrogate n w a0) (k : Q (fJ9_lowSurrogate w a0) w) : b_K (d + 1) mJ9_lowSurrogate [(0, a0)] n w Q X := by
  unfold fJ9_lowSurrogate at k
  unfold oJ9_lowSurrogate at ok
  refine k_of (by decide) rfl rfl rfl (ls := [(0, a0)]) rfl ?_
  refine x_iload_n 0 dJ9_lowSurrogate_0 rfl rfl rfl ?_
  refine x_sipush 1023 (z := 1023) dJ9_lowSurrogate_1 rfl (by decide) rfl ?_
  refine x_iand dJ9_lowSurrogate_4 rfl ?_
  refine x_ldc 76 (x := 56320) dJ9_lowSurrogate_5 q579 rfl (by decide) rfl ?_
  refine x_iadd dJ9_lowSurrogate_7 rfl ?_
  refine x_i2c dJ9_lowSurrogate_8 rfl ?_
  exact y_cret dJ9_lowSurrogate_9 rfl ok k
def fX1_place (w : bW) : Int := w 102 15
theorem vX1_place {d n : Nat} {w : bW} {Q : Int → bW → Prop} {X : String → bW → Prop} (hn : 143 ≤ n) (k : Q (fX1_place w) w) : b_K (d + 1) mX1_place [(2, 0)] n w Q X := by
  have i0 := iz0 (Nat.le_trans (Nat.le_of_ble_eq_true rfl) hn)
  have i102 := iz102 (Nat.le_trans (Nat.le_of_ble_eq_true rfl) hn)
  unfold fX1_place at k
  refine k_of (by decide) rfl rfl rfl (ls := [(2, 0)]) rfl ?_
  refine x_aload_n 0 dX1_place_0 rfl rfl rfl rfl rfl ?_
  refine y_getF 146 18 (c := 0) (z := 102) dX1_place_1 i0 rfl in_X1 q1585 rfl rfl rfl fn_0_18 (Nat.le_trans (Nat.le_of_ble_eq_true rfl) hn) rfl ?_
  refine y_get 202 15 (c := 20) (z := w 102 15) dX1_place_4 i102 rfl in_X22 q1423 rfl rfl rfl rfl rfl ?_
  exact y_iret dX1_place_7 rfl k
def fX1_account (w : bW) (a1 : Int) : Int := (if a1 < 0 then (-1) else (if w 70 6 = 100 then (-1) else (if a1 ≤ b_l (4611686018427387904 - (w 70 11)) then w 70 6 else (-1))))
def gX1_account (w : bW) (a1 : Int) : bW := (if a1 < 0 then w else (if w 70 6 = 100 then w else (if a1 ≤ b_l (4611686018427387904 - (w 70 11)) then (b_up (b_up (b_up (b_up w 70 6 (b_i ((w 70 6) + 1))) 72 (w 70 6) 1) 71 (w 70 6) a1) 70 11 (b_l ((w 70 11) + a1))) else w)))
def oX1_account (n : Nat) (w : bW) (a1 : Int) : Prop := if a1 < 0 then True else (if w 70 6 = 100 then True else (if a1 ≤ b_l (4611686018427387904 - (w 70 11)) then ((0 ≤ w 70 6 ∧ w 70 6 < 200) ∧ ((0 ≤ w 70 6 ∧ w 70 6 < 200) ∧ (True))) else True))
theorem vX1_account {d n : Nat} {w : bW} {Q : Int → bW → Prop} {X : String → bW → Prop} (hn : 143 ≤ n) (a1 : Int) (ok : oX1_account n w a1) (k : Q (fX1_account w a1) (gX1_account w a1)) : b_K (d + 1) mX1_account [(2, 0), (1, a1)] n w Q X := by
  have i0 := iz0 (Nat.le_trans (Nat.le_of_ble_eq_true rfl) hn)
  have i70 := iz70 (Nat.le_trans (Nat.le_of_ble_eq_true rfl) hn)
  have i71 := iz71 (Nat.le_trans (Nat.le_of_ble_eq_true rfl) hn)
  have i72 := iz72 (Nat.le_trans (Nat.le_of_ble_eq_true rfl) hn)
  unfold fX1_account gX1_account at k
  unfold oX1_account at ok
  refine k_of (by decide) rfl rfl rfl (ls := [(2, 0), (1, a1), (9, 0), (9, 0)]) rfl ?_
  refine x_lload_n 1 dX1_account_0 rfl rfl rfl ?_
  refine x_lconst 0 (z := 0) dX1_account_1 rfl (by decide) rfl ?_
  refine x_lc_lt (q := 6) (t := 34) 31 dX1_account_2 dX1_account_3 rfl rfl (b_itq ok k (fun hc ok k => ?_) (fun hc ok k => ?_))
  · refine x_iconst (-1) (z := (-1)) dX1_account_34 rfl (by decide) rfl ?_
    exact y_iret dX1_account_35 rfl k
  · refine x_aload_n 0 dX1_account_6 rfl rfl rfl rfl rfl ?_
    refine y_getF 121 15 (c := 0) (z := 70) dX1_account_7 i0 rfl in_X1 q1582 rfl rfl rfl fn_0_15 (Nat.le_trans (Nat.le_of_ble_eq_true rfl) hn) rfl ?_
    refine y_get 252 6 (c := 16) (z := w 70 6) dX1_account_10 i70 rfl in_X17 q1178 rfl rfl rfl rfl rfl ?_
    refine x_bipush 100 (z := 100) dX1_account_13 rfl (by decide) rfl ?_
    refine x_icmp_eq (t := 34) 19 dX1_account_15 rfl rfl (b_itq ok k (fun hc ok k => ?_) (fun hc ok k => ?_))
    · refine x_iconst (-1) (z := (-1)) dX1_account_34 rfl (by decide) rfl ?_
      exact y_iret dX1_account_35 rfl k
    · refine x_lload_n 1 dX1_account_18 rfl rfl rfl ?_
      refine x_ldc2 255 (x := 4611686018427387904) dX1_account_19 q2438 rfl (by decide) rfl ?_
      refine x_aload_n 0 dX1_account_22 rfl rfl rfl rfl rfl ?_
      refine y_getF 121 15 (c := 0) (z := 70) dX1_account_23 i0 rfl in_X1 q1582 rfl rfl rfl fn_0_15 (Nat.le_trans (Nat.le_of_ble_eq_true rfl) hn) rfl ?_
      refine y_get 257 11 (c := 16) (z := w 70 11) dX1_account_26 i70 rfl in_X17 q1190 rfl rfl rfl rfl rfl ?_
      refine x_lsub dX1_account_29 rfl ?_
      refine x_lc_le (q := 34) (t := 36) 5 dX1_account_30 dX1_account_31 rfl rfl (b_itq ok k (fun hc ok k => ?_) (fun hc ok k => ?_))
      · refine x_aload_n 0 dX1_account_36 rfl rfl rfl rfl rfl ?_
        refine y_getF 121 15 (c := 0) (z := 70) dX1_account_37 i0 rfl in_X1 q1582 rfl rfl rfl fn_0_15 (Nat.le_trans (Nat.le_of_ble_eq_true rfl) hn) rfl ?_
        refine x_dup dX1_account_40 rfl rfl ?_
        refine y_get 252 6 (c := 16) (z := w 70 6) dX1_account_41 i70 rfl in_X17 q1178 rfl rfl rfl rfl rfl ?_
        refine x_dup_x1 dX1_account_44 rfl rfl rfl ?_
        refine x_iconst 1 (z := 1) dX1_account_45 rfl (by decide) rfl ?_
        refine x_iadd dX1_account_46 rfl ?_
        refine x_put 252 6 (c := 16) dX1_account_47 i70 rfl in_X17 tyX17_ok nmX17 q1178 rfl rfl rfl (Or.inl rfl) (Or.inl ⟨rfl, rfl⟩) rfl ?_
        refine x_istore_n 3 (ls' := [(2, 0), (1, a1), (9, 0), (0, w 70 6)]) dX1_account_50 rfl rfl rfl rfl ?_
        refine x_aload_n 0 dX1_account_51 rfl rfl rfl rfl rfl ?_
        refine y_getF 121 15 (c := 0) (z := 70) dX1_account_52 i0 rfl in_X1 q1582 rfl rfl rfl fn_0_15 (Nat.le_trans (Nat.le_of_ble_eq_true rfl) hn) rfl ?_
        refine y_getF 261 1 (c := 16) (z := 72) dX1_account_55 i70 rfl in_X17 q1164 rfl rfl rfl fn_70_1 (Nat.le_trans (Nat.le_of_ble_eq_true rfl) hn) rfl ?_
        refine x_iload_n 3 dX1_account_58 rfl rfl rfl ?_
        refine x_iconst 1 (z := 1) dX1_account_59 rfl (by decide) rfl ?_
        obtain ⟨e1, ok⟩ := ok
        refine y_zast (x' := 1) dX1_account_60 ⟨200, i72, e1⟩ (by decide) rfl ?_
        refine x_aload_n 0 dX1_account_61 rfl rfl rfl rfl rfl ?_
        refine y_getF 121 15 (c := 0) (z := 70) dX1_account_62 i0 rfl in_X1 q1582 rfl rfl rfl fn_0_15 (Nat.le_trans (Nat.le_of_ble_eq_true rfl) hn) rfl ?_
        refine y_getF 265 0 (c := 16) (z := 71) dX1_account_65 i70 rfl in_X17 q1161 rfl rfl rfl fn_70_0 (Nat.le_trans (Nat.le_of_ble_eq_true rfl) hn) rfl ?_
        refine x_iload_n 3 dX1_account_68 rfl rfl rfl ?_
        refine x_lload_n 1 dX1_account_69 rfl rfl rfl ?_
        obtain ⟨e2, ok⟩ := ok
        refine y_last (x' := a1) dX1_account_70 ⟨200, i71, e2⟩ rfl rfl ?_
        refine x_aload_n 0 dX1_account_71 rfl rfl rfl rfl rfl ?_
        refine y_getF 121 15 (c := 0) (z := 70) dX1_account_72 i0 rfl in_X1 q1582 rfl rfl rfl fn_0_15 (Nat.le_trans (Nat.le_of_ble_eq_true rfl) hn) rfl ?_
        refine x_dup dX1_account_75 rfl rfl ?_
        refine y_get 257 11 (c := 16) (z := w 70 11) dX1_account_76 i70 rfl in_X17 q1190 rfl rfl rfl rfl rfl ?_
        refine x_lload_n 1 dX1_account_79 rfl rfl rfl ?_
        refine x_ladd dX1_account_80 rfl ?_
        refine x_put 257 11 (c := 16) dX1_account_81 i70 rfl in_X17 tyX17_ok nmX17 q1190 rfl rfl rfl (Or.inl rfl) (Or.inr (Or.inr (Or.inl ⟨rfl, rfl⟩))) rfl ?_
        refine x_iload_n 3 dX1_account_84 rfl rfl rfl ?_
        exact y_iret dX1_account_85 rfl k
      · refine x_iconst (-1) (z := (-1)) dX1_account_34 rfl (by decide) rfl ?_
        exact y_iret dX1_account_35 rfl k
def fX1_now (w : bW) (a1 : Int) (a3 : Int) : Int := (if a1 < (-1152921504606846976) then 0 else (if 1152921504606846976 < a1 then 0 else (if a3 < 0 then 0 else (if a3 ≤ 1073741824 then 1 else 0))))
def gX1_now (w : bW) (a1 : Int) (a3 : Int) : bW := (if a1 < (-1152921504606846976) then w else (if 1152921504606846976 < a1 then w else (if a3 < 0 then w else (if a3 ≤ 1073741824 then (b_up (b_up w 70 12 a1) 70 13 a3) else w))))
theorem vX1_now {d n : Nat} {w : bW} {Q : Int → bW → Prop} {X : String → bW → Prop} (hn : 143 ≤ n) (a1 : Int) (a3 : Int) (k : Q (fX1_now w a1 a3) (gX1_now w a1 a3)) : b_K (d + 1) mX1_now [(2, 0), (1, a1), (0, a3)] n w Q X := by
  have i0 := iz0 (Nat.le_trans (Nat.le_of_ble_eq_true rfl) hn)
  have i70 := iz70 (Nat.le_trans (Nat.le_of_ble_eq_true rfl) hn)
  unfold fX1_now gX1_now at k
  refine k_of (by decide) rfl rfl rfl (ls := [(2, 0), (1, a1), (9, 0), (0, a3)]) rfl ?_
  refine x_lload_n 1 dX1_now_0 rfl rfl rfl ?_
  refine x_ldc2 269 (x := (-1152921504606846976)) dX1_now_1 q2443 rfl (by decide) rfl ?_
  refine x_lc_lt (q := 8) (t := 27) 22 dX1_now_4 dX1_now_5 rfl rfl (b_itq (b_tt _) k (fun hc ok k => ?_) (fun hc ok k => ?_))
  · refine x_iconst 0 (z := 0) dX1_now_27 rfl (by decide) rfl ?_
    exact y_zret dX1_now_28 rfl (by decide) k
  · refine x_lload_n 1 dX1_now_8 rfl rfl rfl ?_
    refine x_ldc2 271 (x := 1152921504606846976) dX1_now_9 q2444 rfl (by decide) rfl ?_
    refine x_lc_gt (q := 16) (t := 27) 14 dX1_now_12 dX1_now_13 rfl rfl (b_itq (b_tt _) k (fun hc ok k => ?_) (fun hc ok k => ?_))
    · refine x_iconst 0 (z := 0) dX1_now_27 rfl (by decide) rfl ?_
      exact y_zret dX1_now_28 rfl (by decide) k
    · refine x_iload_n 3 dX1_now_16 rfl rfl rfl ?_
      refine x_if_lt (t := 27) 10 dX1_now_17 rfl rfl (b_itq (b_tt _) k (fun hc ok k => ?_) (fun hc ok k => ?_))
      · refine x_iconst 0 (z := 0) dX1_now_27 rfl (by decide) rfl ?_
        exact y_zret dX1_now_28 rfl (by decide) k
      · refine x_iload_n 3 dX1_now_20 rfl rfl rfl ?_
        refine x_ldcw 273 (x := 1073741824) dX1_now_21 q2445 rfl (by decide) rfl ?_
        refine x_icmp_le (t := 29) 5 dX1_now_24 rfl rfl (b_itq (b_tt _) k (fun hc ok k => ?_) (fun hc ok k => ?_))
        · refine x_aload_n 0 dX1_now_29 rfl rfl rfl rfl rfl ?_
          refine y_getF 121 15 (c := 0) (z := 70) dX1_now_30 i0 rfl in_X1 q1582 rfl rfl rfl fn_0_15 (Nat.le_trans (Nat.le_of_ble_eq_true rfl) hn) rfl ?_
          refine x_lload_n 1 dX1_now_33 rfl rfl rfl ?_
          refine x_put 274 12 (c := 16) dX1_now_34 i70 rfl in_X17 tyX17_ok nmX17 q1191 rfl rfl rfl (Or.inl rfl) (Or.inr (Or.inr (Or.inl ⟨rfl, rfl⟩))) rfl ?_
          refine x_aload_n 0 dX1_now_37 rfl rfl rfl rfl rfl ?_
          refine y_getF 121 15 (c := 0) (z := 70) dX1_now_38 i0 rfl in_X1 q1582 rfl rfl rfl fn_0_15 (Nat.le_trans (Nat.le_of_ble_eq_true rfl) hn) rfl ?_
          refine x_iload_n 3 dX1_now_41 rfl rfl rfl ?_
          refine x_put 277 13 (c := 16) dX1_now_42 i70 rfl in_X17 tyX17_ok nmX17 q1193 rfl rfl rfl (Or.inl rfl) (Or.inl ⟨rfl, rfl⟩) rfl ?_
          refine x_iconst 1 (z := 1) dX1_now_45 rfl (by decide) rfl ?_
          exact y_zret dX1_now_46 rfl (by decide) k
        · refine x_iconst 0 (z := 0) dX1_now_27 rfl (by decide) rfl ?_
          exact y_zret dX1_now_28 rfl (by decide) k
def fX1_isAccount (w : bW) (a1 : Int) : Int := (if a1 < 0 then 0 else (if w 70 6 ≤ a1 then 0 else 1))
theorem vX1_isAccount {d n : Nat} {w : bW} {Q : Int → bW → Prop} {X : String → bW → Prop} (hn : 143 ≤ n) (a1 : Int) (k : Q (fX1_isAccount w a1) w) : b_K (d + 1) mX1_isAccount [(2, 0), (0, a1)] n w Q X := by
  have i0 := iz0 (Nat.le_trans (Nat.le_of_ble_eq_true rfl) hn)
  have i70 := iz70 (Nat.le_trans (Nat.le_of_ble_eq_true rfl) hn)
  unfold fX1_isAccount at k
  refine k_of (by decide) rfl rfl rfl (ls := [(2, 0), (0, a1)]) rfl ?_
  refine x_iload_n 1 dX1_isAccount_0 rfl rfl rfl ?_
  refine x_if_lt (t := 19) 18 dX1_isAccount_1 rfl rfl (b_itqv (b_tt _) k (fun hc ok k => ?_) (fun hc ok k => ?_))
  · refine x_iconst 0 (z := 0) dX1_isAccount_19 rfl (by decide) rfl ?_
    exact y_zret dX1_isAccount_20 rfl (by decide) k
  · refine x_iload_n 1 dX1_isAccount_4 rfl rfl rfl ?_
    refine x_aload_n 0 dX1_isAccount_5 rfl rfl rfl rfl rfl ?_
    refine y_getF 121 15 (c := 0) (z := 70) dX1_isAccount_6 i0 rfl in_X1 q1582 rfl rfl rfl fn_0_15 (Nat.le_trans (Nat.le_of_ble_eq_true rfl) hn) rfl ?_
    refine y_get 252 6 (c := 16) (z := w 70 6) dX1_isAccount_9 i70 rfl in_X17 q1178 rfl rfl rfl rfl rfl ?_
    refine x_icmp_ge (t := 19) 7 dX1_isAccount_12 rfl rfl (b_itqv (b_tt _) k (fun hc ok k => ?_) (fun hc ok k => ?_))
    · refine x_iconst 0 (z := 0) dX1_isAccount_19 rfl (by decide) rfl ?_
      exact y_zret dX1_isAccount_20 rfl (by decide) k
    · refine x_iconst 1 (z := 1) dX1_isAccount_15 rfl (by decide) rfl ?_
      refine x_goto 4 (q := 20) dX1_isAccount_16 rfl ?_
      exact y_zret dX1_isAccount_20 rfl (by decide) k
def fX1_limits (w : bW) (a1 : Int) (a3 : Int) (a4 : Int) : Int := (if w 0 21 = 0 then 0 else (if a1 < 0 then 0 else (if 1125899906842624 < a1 then 0 else (if a3 < 0 then 0 else (if 100000 < a3 then 0 else (if a4 < 0 then 0 else (if a4 ≤ 100000 then 1 else 0)))))))
def gX1_limits (w : bW) (a1 : Int) (a3 : Int) (a4 : Int) : bW := (if w 0 21 = 0 then w else (if a1 < 0 then w else (if 1125899906842624 < a1 then w else (if a3 < 0 then w else (if 100000 < a3 then w else (if a4 < 0 then w else (if a4 ≤ 100000 then (b_up (b_up (b_up w 0 24 a1) 0 25 a3) 0 26 a4) else w)))))))
theorem vX1_limits {d n : Nat} {w : bW} {Q : Int → bW → Prop} {X : String → bW → Prop} (hn : 1 ≤ n) (a1 : Int) (a3 : Int) (a4 : Int) (k : Q (fX1_limits w a1 a3 a4) (gX1_limits w a1 a3 a4)) : b_K (d + 1) mX1_limits [(2, 0), (1, a1), (0, a3), (0, a4)] n w Q X := by
  have i0 := iz0 (Nat.le_trans (Nat.le_of_ble_eq_true rfl) hn)
  unfold fX1_limits gX1_limits at k
  refine k_of (by decide) rfl rfl rfl (ls := [(2, 0), (1, a1), (9, 0), (0, a3), (0, a4)]) rfl ?_
  refine x_aload_n 0 dX1_limits_0 rfl rfl rfl rfl rfl ?_
  refine y_get 283 21 (c := 0) (z := w 0 21) dX1_limits_1 i0 rfl in_X1 q1588 rfl rfl rfl rfl rfl ?_
  refine x_if_eq (t := 45) 41 dX1_limits_4 rfl rfl (b_itq (b_tt _) k (fun hc ok k => ?_) (fun hc ok k => ?_))
  · refine x_iconst 0 (z := 0) dX1_limits_45 rfl (by decide) rfl ?_
    exact y_zret dX1_limits_46 rfl (by decide) k
  · refine x_lload_n 1 dX1_limits_7 rfl rfl rfl ?_
    refine x_lconst 0 (z := 0) dX1_limits_8 rfl (by decide) rfl ?_
    refine x_lc_lt (q := 13) (t := 45) 35 dX1_limits_9 dX1_limits_10 rfl rfl (b_itq (b_tt _) k (fun hc ok k => ?_) (fun hc ok k => ?_))
    · refine x_iconst 0 (z := 0) dX1_limits_45 rfl (by decide) rfl ?_
      exact y_zret dX1_limits_46 rfl (by decide) k
    · refine x_lload_n 1 dX1_limits_13 rfl rfl rfl ?_
      refine x_ldc2 308 (x := 1125899906842624) dX1_limits_14 q2458 rfl (by decide) rfl ?_
      refine x_lc_gt (q := 21) (t := 45) 27 dX1_limits_17 dX1_limits_18 rfl rfl (b_itq (b_tt _) k (fun hc ok k => ?_) (fun hc ok k => ?_))
      · refine x_iconst 0 (z := 0) dX1_limits_45 rfl (by decide) rfl ?_
        exact y_zret dX1_limits_46 rfl (by decide) k
      · refine x_iload_n 3 dX1_limits_21 rfl rfl rfl ?_
        refine x_if_lt (t := 45) 23 dX1_limits_22 rfl rfl (b_itq (b_tt _) k (fun hc ok k => ?_) (fun hc ok k => ?_))
        · refine x_iconst 0 (z := 0) dX1_limits_45 rfl (by decide) rfl ?_
          exact y_zret dX1_limits_46 rfl (by decide) k
        · refine x_iload_n 3 dX1_limits_25 rfl rfl rfl ?_
          refine x_ldcw 310 (x := 100000) dX1_limits_26 q2459 rfl (by decide) rfl ?_
          refine x_icmp_gt (t := 45) 16 dX1_limits_29 rfl rfl (b_itq (b_tt _) k (fun hc ok k => ?_) (fun hc ok k => ?_))
          · refine x_iconst 0 (z := 0) dX1_limits_45 rfl (by decide) rfl ?_
            exact y_zret dX1_limits_46 rfl (by decide) k
          · refine x_iload 4 dX1_limits_32 rfl rfl ?_
            refine x_if_lt (t := 45) 11 dX1_limits_34 rfl rfl (b_itq (b_tt _) k (fun hc ok k => ?_) (fun hc ok k => ?_))
            · refine x_iconst 0 (z := 0) dX1_limits_45 rfl (by decide) rfl ?_
              exact y_zret dX1_limits_46 rfl (by decide) k
            · refine x_iload 4 dX1_limits_37 rfl rfl ?_
              refine x_ldcw 310 (x := 100000) dX1_limits_39 q2459 rfl (by decide) rfl ?_
              refine x_icmp_le (t := 47) 5 dX1_limits_42 rfl rfl (b_itq (b_tt _) k (fun hc ok k => ?_) (fun hc ok k => ?_))
              · refine x_aload_n 0 dX1_limits_47 rfl rfl rfl rfl rfl ?_
                refine x_lload_n 1 dX1_limits_48 rfl rfl rfl ?_
                refine x_put 293 24 (c := 0) dX1_limits_49 i0 rfl in_X1 tyX1_ok nmX1 q1591 rfl rfl rfl (Or.inl rfl) (Or.inr (Or.inr (Or.inl ⟨rfl, rfl⟩))) rfl ?_
                refine x_aload_n 0 dX1_limits_52 rfl rfl rfl rfl rfl ?_
                refine x_iload_n 3 dX1_limits_53 rfl rfl rfl ?_
                refine x_put 296 25 (c := 0) dX1_limits_54 i0 rfl in_X1 tyX1_ok nmX1 q1592 rfl rfl rfl (Or.inl rfl) (Or.inl ⟨rfl, rfl⟩) rfl ?_
                refine x_aload_n 0 dX1_limits_57 rfl rfl rfl rfl rfl ?_
                refine x_iload 4 dX1_limits_58 rfl rfl ?_
                refine x_put 299 26 (c := 0) dX1_limits_60 i0 rfl in_X1 tyX1_ok nmX1 q1593 rfl rfl rfl (Or.inl rfl) (Or.inl ⟨rfl, rfl⟩) rfl ?_
                refine x_iconst 1 (z := 1) dX1_limits_63 rfl (by decide) rfl ?_
                exact y_zret dX1_limits_64 rfl (by decide) k
              · refine x_iconst 0 (z := 0) dX1_limits_45 rfl (by decide) rfl ?_
                exact y_zret dX1_limits_46 rfl (by decide) k
def fX1_receipt (w : bW) (a1 : Int) (a2 : Int) : Int := (if a1 < 0 then (-1) else (if a1 < w 0 32 then (if a2 = 0 then w (112 + 2 * a1) 0 else (if a2 = 1 then w (112 + 2 * a1) 1 else (if a2 = 2 then w (112 + 2 * a1) 2 else (if a2 = 3 then w (112 + 2 * a1) 3 else (if a2 = 4 then w (112 + 2 * a1) 4 else (if a2 = 5 then w (112 + 2 * a1) 5 else (-1))))))) else (-1)))
def oX1_receipt (n : Nat) (w : bW) (a1 : Int) (a2 : Int) : Prop := if a1 < 0 then True else (if a1 < w 0 32 then ((0 ≤ a1 ∧ a1 < 16) ∧ (True)) else True)
theorem vX1_receipt {d n : Nat} {w : bW} {Q : Int → bW → Prop} {X : String → bW → Prop} (hn : 143 ≤ n) (a1 : Int) (a2 : Int) (ok : oX1_receipt n w a1 a2) (k : Q (fX1_receipt w a1 a2) w) : b_K (d + 1) mX1_receipt [(2, 0), (0, a1), (0, a2)] n w Q X := by
  have i0 := iz0 (Nat.le_trans (Nat.le_of_ble_eq_true rfl) hn)
  have i110 := iz110 (Nat.le_trans (Nat.le_of_ble_eq_true rfl) hn)
  unfold fX1_receipt at k
  unfold oX1_receipt at ok
  refine k_of (by decide) rfl rfl rfl (ls := [(2, 0), (0, a1), (0, a2), (9, 0)]) rfl ?_
  refine x_iload_n 1 dX1_receipt_0 rfl rfl rfl ?_
  refine x_if_lt (t := 12) 11 dX1_receipt_1 rfl rfl (b_itqv ok k (fun hc ok k => ?_) (fun hc ok k => ?_))
  · refine x_iconst (-1) (z := (-1)) dX1_receipt_12 rfl (by decide) rfl ?_
    exact y_iret dX1_receipt_13 rfl k
  · refine x_iload_n 1 dX1_receipt_4 rfl rfl rfl ?_
    refine x_aload_n 0 dX1_receipt_5 rfl rfl rfl rfl rfl ?_
    refine y_get 341 32 (c := 0) (z := w 0 32) dX1_receipt_6 i0 rfl in_X1 q1599 rfl rfl rfl rfl rfl ?_
    refine x_icmp_lt (t := 14) 5 dX1_receipt_9 rfl rfl (b_itqv ok k (fun hc ok k => ?_) (fun hc ok k => ?_))
    · refine x_aload_n 0 dX1_receipt_14 rfl rfl rfl rfl rfl ?_
      refine y_getF 165 31 (c := 0) (z := 110) dX1_receipt_15 i0 rfl in_X1 q1598 rfl rfl rfl fn_0_31 (Nat.le_trans (Nat.le_of_ble_eq_true rfl) hn) rfl ?_
      refine x_iload_n 1 dX1_receipt_18 rfl rfl rfl ?_
      obtain ⟨e1, ok⟩ := ok
      refine y_aaldR dX1_receipt_19 (Nat.le_trans (Nat.le_of_ble_eq_true rfl) hn) e1 rfl (fun e2 => ?_)
      refine x_astore_n 3 (ls' := [(2, 0), (0, a1), (0, a2), (2, 112 + 2 * a1)]) dX1_receipt_20 rfl rfl rfl rfl rfl ?_
      refine x_iload_n 2 dX1_receipt_21 rfl rfl rfl ?_
      refine b_icqv (c := a2 = 0) (b_tt _) k (fun hc ok k => ?_) (fun hn ok k => ?_)
      · have key : b_Y (d + 1) mX1_receipt n Q X 60 [(2, 0), (0, a1), (0, a2), (2, 112 + 2 * a1)] [] w := by
            refine x_aload_n 3 dX1_receipt_60 rfl rfl rfl rfl rfl ?_
            refine y_get 358 0 (c := 22) (z := w (112 + 2 * a1) 0) dX1_receipt_61 e2 rfl in_X24 q1538 rfl rfl rfl rfl rfl ?_
            exact y_iret dX1_receipt_64 rfl k
        have e := hc
        exact x_tsI (off := 38) (t := 60) dX1_receipt_22 (by rw [e]; decide) (by rw [e]; decide) (by rw [e]; rfl) rfl key
      have hx38 := hn
      refine b_icqv (c := a2 = 1) (b_tt _) k (fun hc ok k => ?_) (fun hn ok k => ?_)
      · have key : b_Y (d + 1) mX1_receipt n Q X 65 [(2, 0), (0, a1), (0, a2), (2, 112 + 2 * a1)] [] w := by
            refine x_aload_n 3 dX1_receipt_65 rfl rfl rfl rfl rfl ?_
            refine y_get 364 1 (c := 22) (z := w (112 + 2 * a1) 1) dX1_receipt_66 e2 rfl in_X24 q1541 rfl rfl rfl rfl rfl ?_
            exact y_iret dX1_receipt_69 rfl k
        have e := hc
        exact x_tsI (off := 43) (t := 65) dX1_receipt_22 (by rw [e]; decide) (by rw [e]; decide) (by rw [e]; rfl) rfl key
      have hx43 := hn
      refine b_icqv (c := a2 = 2) (b_tt _) k (fun hc ok k => ?_) (fun hn ok k => ?_)
      · have key : b_Y (d + 1) mX1_receipt n Q X 70 [(2, 0), (0, a1), (0, a2), (2, 112 + 2 * a1)] [] w := by
            refine x_aload_n 3 dX1_receipt_70 rfl rfl rfl rfl rfl ?_
            refine y_get 367 2 (c := 22) (z := w (112 + 2 * a1) 2) dX1_receipt_71 e2 rfl in_X24 q1544 rfl rfl rfl rfl rfl ?_
            exact y_iret dX1_receipt_74 rfl k
        have e := hc
        exact x_tsI (off := 48) (t := 70) dX1_receipt_22 (by rw [e]; decide) (by rw [e]; decide) (by rw [e]; rfl) rfl key
      have hx48 := hn
      refine b_icqv (c := a2 = 3) (b_tt _) k (fun hc ok k => ?_) (fun hn ok k => ?_)
      · have key : b_Y (d + 1) mX1_receipt n Q X 75 [(2, 0), (0, a1), (0, a2), (2, 112 + 2 * a1)] [] w := by
            refine x_aload_n 3 dX1_receipt_75 rfl rfl rfl rfl rfl ?_
            refine y_get 368 3 (c := 22) (z := w (112 + 2 * a1) 3) dX1_receipt_76 e2 rfl in_X24 q1547 rfl rfl rfl rfl rfl ?_
            exact y_iret dX1_receipt_79 rfl k
        have e := hc
        exact x_tsI (off := 53) (t := 75) dX1_receipt_22 (by rw [e]; decide) (by rw [e]; decide) (by rw [e]; rfl) rfl key
      have hx53 := hn
      refine b_icqv (c := a2 = 4) (b_tt _) k (fun hc ok k => ?_) (fun hn ok k => ?_)
      · have key : b_Y (d + 1) mX1_receipt n Q X 80 [(2, 0), (0, a1), (0, a2), (2, 112 + 2 * a1)] [] w := by
            refine x_aload_n 3 dX1_receipt_80 rfl rfl rfl rfl rfl ?_
            refine y_get 371 4 (c := 22) (z := w (112 + 2 * a1) 4) dX1_receipt_81 e2 rfl in_X24 q1550 rfl rfl rfl rfl rfl ?_
            exact y_iret dX1_receipt_84 rfl k
        have e := hc
        exact x_tsI (off := 58) (t := 80) dX1_receipt_22 (by rw [e]; decide) (by rw [e]; decide) (by rw [e]; rfl) rfl key
      have hx58 := hn
      refine b_icqv (c := a2 = 5) (b_tt _) k (fun hc ok k => ?_) (fun hn ok k => ?_)
      · have key : b_Y (d + 1) mX1_receipt n Q X 85 [(2, 0), (0, a1), (0, a2), (2, 112 + 2 * a1)] [] w := by
            refine x_aload_n 3 dX1_receipt_85 rfl rfl rfl rfl rfl ?_
            refine y_get 372 5 (c := 22) (z := w (112 + 2 * a1) 5) dX1_receipt_86 e2 rfl in_X24 q1553 rfl rfl rfl rfl rfl ?_
            exact y_iret dX1_receipt_89 rfl k
        have e := hc
        exact x_tsI (off := 63) (t := 85) dX1_receipt_22 (by rw [e]; decide) (by rw [e]; decide) (by rw [e]; rfl) rfl key
      have hx63 := hn
      have key : b_Y (d + 1) mX1_receipt n Q X 90 [(2, 0), (0, a1), (0, a2), (2, 112 + 2 * a1)] [] w := by
          refine x_iconst (-1) (z := (-1)) dX1_receipt_90 rfl (by decide) rfl ?_
          exact y_iret dX1_receipt_91 rfl k
      exact x_tsO (t := 90) dX1_receipt_22 (by omega) rfl key
    · refine x_iconst (-1) (z := (-1)) dX1_receipt_12 rfl (by decide) rfl ?_
      exact y_iret dX1_receipt_13 rfl k
def fX1_accounts (w : bW) : Int := w 70 6
theorem vX1_accounts {d n : Nat} {w : bW} {Q : Int → bW → Prop} {X : String → bW → Prop} (hn : 143 ≤ n) (k : Q (fX1_accounts w) w) : b_K (d + 1) mX1_accounts [(2, 0)] n w Q X := by
  have i0 := iz0 (Nat.le_trans (Nat.le_of_ble_eq_true rfl) hn)
  have i70 := iz70 (Nat.le_trans (Nat.le_of_ble_eq_true rfl) hn)
  unfold fX1_accounts at k
  refine k_of (by decide) rfl rfl rfl (ls := [(2, 0)]) rfl ?_
  refine x_aload_n 0 dX1_accounts_0 rfl rfl rfl rfl rfl ?_
  refine y_getF 121 15 (c := 0) (z := 70) dX1_accounts_1 i0 rfl in_X1 q1582 rfl rfl rfl fn_0_15 (Nat.le_trans (Nat.le_of_ble_eq_true rfl) hn) rfl ?_
  refine y_get 252 6 (c := 16) (z := w 70 6) dX1_accounts_4 i70 rfl in_X17 q1178 rfl rfl rfl rfl rfl ?_
  exact y_iret dX1_accounts_7 rfl k
def fX1_contracts (w : bW) : Int := w 70 7
theorem vX1_contracts {d n : Nat} {w : bW} {Q : Int → bW → Prop} {X : String → bW → Prop} (hn : 143 ≤ n) (k : Q (fX1_contracts w) w) : b_K (d + 1) mX1_contracts [(2, 0)] n w Q X := by
  have i0 := iz0 (Nat.le_trans (Nat.le_of_ble_eq_true rfl) hn)
  have i70 := iz70 (Nat.le_trans (Nat.le_of_ble_eq_true rfl) hn)
  unfold fX1_contracts at k
  refine k_of (by decide) rfl rfl rfl (ls := [(2, 0)]) rfl ?_
  refine x_aload_n 0 dX1_contracts_0 rfl rfl rfl rfl rfl ?_
  refine y_getF 121 15 (c := 0) (z := 70) dX1_contracts_1 i0 rfl in_X1 q1582 rfl rfl rfl fn_0_15 (Nat.le_trans (Nat.le_of_ble_eq_true rfl) hn) rfl ?_
  refine y_get 375 7 (c := 16) (z := w 70 7) dX1_contracts_4 i70 rfl in_X17 q1181 rfl rfl rfl rfl rfl ?_
  exact y_iret dX1_contracts_7 rfl k
def fX1_contractAt (w : bW) (a1 : Int) : Int := (if a1 < 0 then (-1) else (if 100 ≤ a1 then (-1) else (if w 72 (b_i (100 + a1)) = 0 then (-1) else b_i (100 + a1))))
def oX1_contractAt (n : Nat) (w : bW) (a1 : Int) : Prop := if a1 < 0 then True else (if 100 ≤ a1 then True else ((0 ≤ b_i (100 + a1) ∧ b_i (100 + a1) < 200) ∧ (True)))
theorem vX1_contractAt {d n : Nat} {w : bW} {Q : Int → bW → Prop} {X : String → bW → Prop} (hn : 143 ≤ n) (a1 : Int) (ok : oX1_contractAt n w a1) (k : Q (fX1_contractAt w a1) w) : b_K (d + 1) mX1_contractAt [(2, 0), (0, a1)] n w Q X := by
  have i0 := iz0 (Nat.le_trans (Nat.le_of_ble_eq_true rfl) hn)
  have i70 := iz70 (Nat.le_trans (Nat.le_of_ble_eq_true rfl) hn)
  have i72 := iz72 (Nat.le_trans (Nat.le_of_ble_eq_true rfl) hn)
  unfold fX1_contractAt at k
  unfold oX1_contractAt at ok
  refine k_of (by decide) rfl rfl rfl (ls := [(2, 0), (0, a1)]) rfl ?_
  refine x_iload_n 1 dX1_contractAt_0 rfl rfl rfl ?_
  refine x_if_lt (t := 32) 31 dX1_contractAt_1 rfl rfl (b_itqv ok k (fun hc ok k => ?_) (fun hc ok k => ?_))
  · refine x_iconst (-1) (z := (-1)) dX1_contractAt_32 rfl (by decide) rfl ?_
    exact y_iret dX1_contractAt_33 rfl k
  · refine x_iload_n 1 dX1_contractAt_4 rfl rfl rfl ?_
    refine x_bipush 100 (z := 100) dX1_contractAt_5 rfl (by decide) rfl ?_
    refine x_icmp_ge (t := 32) 25 dX1_contractAt_7 rfl rfl (b_itqv ok k (fun hc ok k => ?_) (fun hc ok k => ?_))
    · refine x_iconst (-1) (z := (-1)) dX1_contractAt_32 rfl (by decide) rfl ?_
      exact y_iret dX1_contractAt_33 rfl k
    · refine x_aload_n 0 dX1_contractAt_10 rfl rfl rfl rfl rfl ?_
      refine y_getF 121 15 (c := 0) (z := 70) dX1_contractAt_11 i0 rfl in_X1 q1582 rfl rfl rfl fn_0_15 (Nat.le_trans (Nat.le_of_ble_eq_true rfl) hn) rfl ?_
      refine y_getF 261 1 (c := 16) (z := 72) dX1_contractAt_14 i70 rfl in_X17 q1164 rfl rfl rfl fn_70_1 (Nat.le_trans (Nat.le_of_ble_eq_true rfl) hn) rfl ?_
      refine x_bipush 100 (z := 100) dX1_contractAt_17 rfl (by decide) rfl ?_
      refine x_iload_n 1 dX1_contractAt_19 rfl rfl rfl ?_
      refine x_iadd dX1_contractAt_20 rfl ?_
      obtain ⟨e1, ok⟩ := ok
      refine y_zald (z := w 72 (b_i (100 + a1))) dX1_contractAt_21 ⟨200, i72, e1⟩ rfl rfl ?_
      refine x_if_eq (t := 32) 10 dX1_contractAt_22 rfl rfl (b_itqv (b_tt _) k (fun hc ok k => ?_) (fun hc ok k => ?_))
      · refine x_iconst (-1) (z := (-1)) dX1_contractAt_32 rfl (by decide) rfl ?_
        exact y_iret dX1_contractAt_33 rfl k
      · refine x_bipush 100 (z := 100) dX1_contractAt_25 rfl (by decide) rfl ?_
        refine x_iload_n 1 dX1_contractAt_27 rfl rfl rfl ?_
        refine x_iadd dX1_contractAt_28 rfl ?_
        refine x_goto 4 (q := 33) dX1_contractAt_29 rfl ?_
        exact y_iret dX1_contractAt_33 rfl k
def fX1_counter (w : bW) (a1 : Int) : Int := (if fX1_isAccount w a1 = 0 then (-1) else w 76 a1)
def oX1_counter (n : Nat) (w : bW) (a1 : Int) : Prop := if fX1_isAccount w a1 = 0 then True else ((0 ≤ a1 ∧ a1 < 100) ∧ (True))
theorem vX1_counter {d n : Nat} {w : bW} {Q : Int → bW → Prop} {X : String → bW → Prop} (hn : 143 ≤ n) (a1 : Int) (ok : oX1_counter n w a1) (k : Q (fX1_counter w a1) w) : b_K (d + 2) mX1_counter [(2, 0), (0, a1)] n w Q X := by
  have i0 := iz0 (Nat.le_trans (Nat.le_of_ble_eq_true rfl) hn)
  have i70 := iz70 (Nat.le_trans (Nat.le_of_ble_eq_true rfl) hn)
  have i76 := iz76 (Nat.le_trans (Nat.le_of_ble_eq_true rfl) hn)
  unfold fX1_counter at k
  unfold oX1_counter at ok
  refine k_of (by decide) rfl rfl rfl (ls := [(2, 0), (0, a1)]) rfl ?_
  refine x_aload_n 0 dX1_counter_0 rfl rfl rfl rfl rfl ?_
  refine x_iload_n 1 dX1_counter_1 rfl rfl rfl ?_
  refine y_Vi 280 (M := mX1_isAccount) (As := [(0, a1)]) (st := []) dX1_counter_2 i0 rfl q2450 q2452 qs97 q358 q2453 rfl hmX1_isAccount rfl rfl rfl rfl rfl rfl rfl rfl (vX1_isAccount (Nat.le_trans (Nat.le_of_ble_eq_true rfl) hn) a1 ?_)
  refine x_if_eq (t := 20) 15 dX1_counter_5 rfl rfl (b_itqv ok k (fun hc ok k => ?_) (fun hc ok k => ?_))
  · refine x_iconst (-1) (z := (-1)) dX1_counter_20 rfl (by decide) rfl ?_
    exact y_iret dX1_counter_21 rfl k
  · refine x_aload_n 0 dX1_counter_8 rfl rfl rfl rfl rfl ?_
    refine y_getF 121 15 (c := 0) (z := 70) dX1_counter_9 i0 rfl in_X1 q1582 rfl rfl rfl fn_0_15 (Nat.le_trans (Nat.le_of_ble_eq_true rfl) hn) rfl ?_
    refine y_getF 335 5 (c := 16) (z := 76) dX1_counter_12 i70 rfl in_X17 q1177 rfl rfl rfl fn_70_5 (Nat.le_trans (Nat.le_of_ble_eq_true rfl) hn) rfl ?_
    refine x_iload_n 1 dX1_counter_15 rfl rfl rfl ?_
    obtain ⟨e3, ok⟩ := ok
    refine y_iald (z := w 76 a1) dX1_counter_16 ⟨100, i76, e3⟩ rfl rfl ?_
    refine x_goto 4 (q := 21) dX1_counter_17 rfl ?_
    exact y_iret dX1_counter_21 rfl k
def fX1_paid (w : bW) (a1 : Int) : Int := (if 0 ≤ fX1_contractAt w a1 then w 75 (fX1_contractAt w a1) else (-1))
def oX1_paid (n : Nat) (w : bW) (a1 : Int) : Prop := (oX1_contractAt n w a1) ∧ (if 0 ≤ fX1_contractAt w a1 then ((0 ≤ fX1_contractAt w a1 ∧ fX1_contractAt w a1 < 200) ∧ (True)) else True)
theorem vX1_paid {d n : Nat} {w : bW} {Q : Int → bW → Prop} {X : String → bW → Prop} (hn : 143 ≤ n) (a1 : Int) (ok : oX1_paid n w a1) (k : Q (fX1_paid w a1) w) : b_K (d + 2) mX1_paid [(2, 0), (0, a1)] n w Q X := by
  have i0 := iz0 (Nat.le_trans (Nat.le_of_ble_eq_true rfl) hn)
  have i70 := iz70 (Nat.le_trans (Nat.le_of_ble_eq_true rfl) hn)
  have i75 := iz75 (Nat.le_trans (Nat.le_of_ble_eq_true rfl) hn)
  unfold fX1_paid at k
  unfold oX1_paid at ok
  refine k_of (by decide) rfl rfl rfl (ls := [(2, 0), (0, a1), (9, 0)]) rfl ?_
  refine x_aload_n 0 dX1_paid_0 rfl rfl rfl rfl rfl ?_
  refine x_iload_n 1 dX1_paid_1 rfl rfl rfl ?_
  obtain ⟨e3, ok⟩ := ok
  refine y_Vi 378 (M := mX1_contractAt) (As := [(0, a1)]) (st := []) dX1_paid_2 i0 rfl q3044 q3046 qs173 q358 q3047 rfl hmX1_contractAt rfl rfl rfl rfl rfl rfl rfl rfl (vX1_contractAt (Nat.le_trans (Nat.le_of_ble_eq_true rfl) hn) a1 e3 ?_)
  refine x_istore_n 2 (ls' := [(2, 0), (0, a1), (0, fX1_contractAt w a1)]) dX1_paid_5 rfl rfl rfl rfl ?_
  refine x_iload_n 2 dX1_paid_6 rfl rfl rfl ?_
  refine x_if_ge (t := 14) 7 dX1_paid_7 rfl rfl (b_itqv ok k (fun hc ok k => ?_) (fun hc ok k => ?_))
  · refine x_aload_n 0 dX1_paid_14 rfl rfl rfl rfl rfl ?_
    refine y_getF 121 15 (c := 0) (z := 70) dX1_paid_15 i0 rfl in_X1 q1582 rfl rfl rfl fn_0_15 (Nat.le_trans (Nat.le_of_ble_eq_true rfl) hn) rfl ?_
    refine y_getF 383 4 (c := 16) (z := 75) dX1_paid_18 i70 rfl in_X17 q1175 rfl rfl rfl fn_70_4 (Nat.le_trans (Nat.le_of_ble_eq_true rfl) hn) rfl ?_
    refine x_iload_n 2 dX1_paid_21 rfl rfl rfl ?_
    obtain ⟨e4, ok⟩ := ok
    refine y_iald (z := w 75 (fX1_contractAt w a1)) dX1_paid_22 ⟨200, i75, e4⟩ rfl rfl ?_
    exact y_iret dX1_paid_23 rfl k
  · refine x_iconst (-1) (z := (-1)) dX1_paid_10 rfl (by decide) rfl ?_
    refine x_goto 12 (q := 23) dX1_paid_11 rfl ?_
    exact y_iret dX1_paid_23 rfl k
def fX1_money (w : bW) (a1 : Int) : Int := (if a1 ≠ 0 then (if a1 ≠ 1 then (if a1 ≠ 2 then (-1) else w 70 10) else w 70 9) else w 70 11)
theorem vX1_money {d n : Nat} {w : bW} {Q : Int → bW → Prop} {X : String → bW → Prop} (hn : 143 ≤ n) (a1 : Int) (k : Q (fX1_money w a1) w) : b_K (d + 1) mX1_money [(2, 0), (0, a1)] n w Q X := by
  have i0 := iz0 (Nat.le_trans (Nat.le_of_ble_eq_true rfl) hn)
  have i70 := iz70 (Nat.le_trans (Nat.le_of_ble_eq_true rfl) hn)
  unfold fX1_money at k
  refine k_of (by decide) rfl rfl rfl (ls := [(2, 0), (0, a1)]) rfl ?_
  refine x_iload_n 1 dX1_money_0 rfl rfl rfl ?_
  refine x_if_ne (t := 14) 13 dX1_money_1 rfl rfl (b_itqv (b_tt _) k (fun hc ok k => ?_) (fun hc ok k => ?_))
  · refine x_iload_n 1 dX1_money_14 rfl rfl rfl ?_
    refine x_iconst 1 (z := 1) dX1_money_15 rfl (by decide) rfl ?_
    refine x_icmp_ne (t := 29) 13 dX1_money_16 rfl rfl (b_itqv (b_tt _) k (fun hc ok k => ?_) (fun hc ok k => ?_))
    · refine x_iload_n 1 dX1_money_29 rfl rfl rfl ?_
      refine x_iconst 2 (z := 2) dX1_money_30 rfl (by decide) rfl ?_
      refine x_icmp_ne (t := 44) 13 dX1_money_31 rfl rfl (b_itqv (b_tt _) k (fun hc ok k => ?_) (fun hc ok k => ?_))
      · refine x_ldc2 381 (x := (-1)) dX1_money_44 q3048 rfl (by decide) rfl ?_
        exact y_lret dX1_money_47 rfl k
      · refine x_aload_n 0 dX1_money_34 rfl rfl rfl rfl rfl ?_
        refine y_getF 121 15 (c := 0) (z := 70) dX1_money_35 i0 rfl in_X1 q1582 rfl rfl rfl fn_0_15 (Nat.le_trans (Nat.le_of_ble_eq_true rfl) hn) rfl ?_
        refine y_get 386 10 (c := 16) (z := w 70 10) dX1_money_38 i70 rfl in_X17 q1189 rfl rfl rfl rfl rfl ?_
        refine x_goto 6 (q := 47) dX1_money_41 rfl ?_
        exact y_lret dX1_money_47 rfl k
    · refine x_aload_n 0 dX1_money_19 rfl rfl rfl rfl rfl ?_
      refine y_getF 121 15 (c := 0) (z := 70) dX1_money_20 i0 rfl in_X1 q1582 rfl rfl rfl fn_0_15 (Nat.le_trans (Nat.le_of_ble_eq_true rfl) hn) rfl ?_
      refine y_get 338 9 (c := 16) (z := w 70 9) dX1_money_23 i70 rfl in_X17 q1186 rfl rfl rfl rfl rfl ?_
      refine x_goto 21 (q := 47) dX1_money_26 rfl ?_
      exact y_lret dX1_money_47 rfl k
  · refine x_aload_n 0 dX1_money_4 rfl rfl rfl rfl rfl ?_
    refine y_getF 121 15 (c := 0) (z := 70) dX1_money_5 i0 rfl in_X1 q1582 rfl rfl rfl fn_0_15 (Nat.le_trans (Nat.le_of_ble_eq_true rfl) hn) rfl ?_
    refine y_get 257 11 (c := 16) (z := w 70 11) dX1_money_8 i70 rfl in_X17 q1190 rfl rfl rfl rfl rfl ?_
    refine x_goto 36 (q := 47) dX1_money_11 rfl ?_
    exact y_lret dX1_money_47 rfl k
def fX1_stored (w : bW) : Int := w 70 8
theorem vX1_stored {d n : Nat} {w : bW} {Q : Int → bW → Prop} {X : String → bW → Prop} (hn : 143 ≤ n) (k : Q (fX1_stored w) w) : b_K (d + 1) mX1_stored [(2, 0)] n w Q X := by
  have i0 := iz0 (Nat.le_trans (Nat.le_of_ble_eq_true rfl) hn)
  have i70 := iz70 (Nat.le_trans (Nat.le_of_ble_eq_true rfl) hn)
  unfold fX1_stored at k
  refine k_of (by decide) rfl rfl rfl (ls := [(2, 0)]) rfl ?_
  refine x_aload_n 0 dX1_stored_0 rfl rfl rfl rfl rfl ?_
  refine y_getF 121 15 (c := 0) (z := 70) dX1_stored_1 i0 rfl in_X1 q1582 rfl rfl rfl fn_0_15 (Nat.le_trans (Nat.le_of_ble_eq_true rfl) hn) rfl ?_
  refine y_get 389 8 (c := 16) (z := w 70 8) dX1_stored_4 i70 rfl in_X17 q1185 rfl rfl rfl rfl rfl ?_
  exact y_iret dX1_stored_7 rfl k
def fX1_failure (w : bW) : Int := (if 0 ≤ w 102 14 then w 102 14 else (-1))
def gX1_failure (w : bW) : bW := (if 0 ≤ w 102 14 then (b_up (b_cp w 104 0 107 0 (w 102 14)) 0 20 (w 102 14)) else w)
def oX1_failure (n : Nat) (w : bW) : Prop := if 0 ≤ w 102 14 then (((0 : Int) ≤ 0 ∧ (0 : Int) ≤ 0 ∧ (0 : Int) ≤ w 102 14 ∧ (0 : Int) + w 102 14 ≤ 16400 ∧ (0 : Int) + w 102 14 ≤ 65536) ∧ (True)) else True
theorem vX1_failure {d n : Nat} {w : bW} {Q : Int → bW → Prop} {X : String → bW → Prop} (hn : 143 ≤ n) (ok : oX1_failure n w) (k : Q (fX1_failure w) (gX1_failure w)) : b_K (d + 1) mX1_failure [(2, 0)] n w Q X := by
  have i0 := iz0 (Nat.le_trans (Nat.le_of_ble_eq_true rfl) hn)
  have i102 := iz102 (Nat.le_trans (Nat.le_of_ble_eq_true rfl) hn)
  have i104 := iz104 (Nat.le_trans (Nat.le_of_ble_eq_true rfl) hn)
  have i107 := iz107 (Nat.le_trans (Nat.le_of_ble_eq_true rfl) hn)
  unfold fX1_failure gX1_failure at k
  unfold oX1_failure at ok
  refine k_of (by decide) rfl rfl rfl (ls := [(2, 0)]) rfl ?_
  refine x_aload_n 0 dX1_failure_0 rfl rfl rfl rfl rfl ?_
  refine y_getF 146 18 (c := 0) (z := 102) dX1_failure_1 i0 rfl in_X1 q1585 rfl rfl rfl fn_0_18 (Nat.le_trans (Nat.le_of_ble_eq_true rfl) hn) rfl ?_
  refine y_get 398 14 (c := 20) (z := w 102 14) dX1_failure_4 i102 rfl in_X22 q1421 rfl rfl rfl rfl rfl ?_
  refine x_if_ge (t := 12) 5 dX1_failure_7 rfl rfl (b_itq ok k (fun hc ok k => ?_) (fun hc ok k => ?_))
  · refine x_aload_n 0 dX1_failure_12 rfl rfl rfl rfl rfl ?_
    refine y_getF 146 18 (c := 0) (z := 102) dX1_failure_13 i0 rfl in_X1 q1585 rfl rfl rfl fn_0_18 (Nat.le_trans (Nat.le_of_ble_eq_true rfl) hn) rfl ?_
    refine y_getF 401 13 (c := 20) (z := 104) dX1_failure_16 i102 rfl in_X22 q1419 rfl rfl rfl fn_102_13 (Nat.le_trans (Nat.le_of_ble_eq_true rfl) hn) rfl ?_
    refine x_iconst 0 (z := 0) dX1_failure_19 rfl (by decide) rfl ?_
    refine x_aload_n 0 dX1_failure_20 rfl rfl rfl rfl rfl ?_
    refine y_getF 151 19 (c := 0) (z := 107) dX1_failure_21 i0 rfl in_X1 q1586 rfl rfl rfl fn_0_19 (Nat.le_trans (Nat.le_of_ble_eq_true rfl) hn) rfl ?_
    refine x_iconst 0 (z := 0) dX1_failure_24 rfl (by decide) rfl ?_
    refine x_aload_n 0 dX1_failure_25 rfl rfl rfl rfl rfl ?_
    refine y_getF 146 18 (c := 0) (z := 102) dX1_failure_26 i0 rfl in_X1 q1585 rfl rfl rfl fn_0_18 (Nat.le_trans (Nat.le_of_ble_eq_true rfl) hn) rfl ?_
    refine y_get 398 14 (c := 20) (z := w 102 14) dX1_failure_29 i102 rfl in_X22 q1421 rfl rfl rfl rfl rfl ?_
    obtain ⟨e1, ok⟩ := ok
    refine x_copyi 326 dX1_failure_32 q2464 q1893 q1892 q400 i104 i107 (by decide) (by decide) e1.1 e1.2.1 e1.2.2.1 e1.2.2.2.1 e1.2.2.2.2 (Nat.le_add_left 1 d) rfl rfl ?_
    refine x_aload_n 0 dX1_failure_35 rfl rfl rfl rfl rfl ?_
    refine x_aload_n 0 dX1_failure_36 rfl rfl rfl rfl rfl ?_
    refine y_getF 146 18 (c := 0) (z := 102) dX1_failure_37 i0 rfl in_X1 q1585 rfl rfl rfl fn_0_18 (Nat.le_trans (Nat.le_of_ble_eq_true rfl) hn) rfl ?_
    refine y_get 398 14 (c := 20) (z := w 102 14) dX1_failure_40 i102 rfl in_X22 q1421 rfl rfl rfl rfl rfl ?_
    refine x_put 245 20 (c := 0) dX1_failure_43 i0 rfl in_X1 tyX1_ok nmX1 q1587 rfl rfl rfl (Or.inl rfl) (Or.inl ⟨rfl, rfl⟩) rfl ?_
    refine x_aload_n 0 dX1_failure_46 rfl rfl rfl rfl rfl ?_
    refine y_get 245 20 (c := 0) (z := w 102 14) dX1_failure_47 i0 rfl in_X1 q1587 rfl rfl rfl rfl rfl ?_
    exact y_iret dX1_failure_50 rfl k
  · refine x_iconst (-1) (z := (-1)) dX1_failure_10 rfl (by decide) rfl ?_
    exact y_iret dX1_failure_11 rfl k
def fX1_out (w : bW) (a1 : Int) : Int := (if a1 < 0 then (-1) else (if w 0 20 ≤ a1 then (-1) else b_and (w 107 a1) 255))
def oX1_out (n : Nat) (w : bW) (a1 : Int) : Prop := if a1 < 0 then True else (if w 0 20 ≤ a1 then True else ((0 ≤ a1 ∧ a1 < 65536) ∧ (True)))
theorem vX1_out {d n : Nat} {w : bW} {Q : Int → bW → Prop} {X : String → bW → Prop} (hn : 143 ≤ n) (a1 : Int) (ok : oX1_out n w a1) (k : Q (fX1_out w a1) w) : b_K (d + 1) mX1_out [(2, 0), (0, a1)] n w Q X := by
  have i0 := iz0 (Nat.le_trans (Nat.le_of_ble_eq_true rfl) hn)
  have i107 := iz107 (Nat.le_trans (Nat.le_of_ble_eq_true rfl) hn)
  unfold fX1_out at k
  unfold oX1_out at ok
  refine k_of (by decide) rfl rfl rfl (ls := [(2, 0), (0, a1)]) rfl ?_
  refine x_iload_n 1 dX1_out_0 rfl rfl rfl ?_
  refine x_if_lt (t := 25) 24 dX1_out_1 rfl rfl (b_itqv ok k (fun hc ok k => ?_) (fun hc ok k => ?_))
  · refine x_iconst (-1) (z := (-1)) dX1_out_25 rfl (by decide) rfl ?_
    exact y_iret dX1_out_26 rfl k
  · refine x_iload_n 1 dX1_out_4 rfl rfl rfl ?_
    refine x_aload_n 0 dX1_out_5 rfl rfl rfl rfl rfl ?_
    refine y_get 245 20 (c := 0) (z := w 0 20) dX1_out_6 i0 rfl in_X1 q1587 rfl rfl rfl rfl rfl ?_
    refine x_icmp_ge (t := 25) 16 dX1_out_9 rfl rfl (b_itqv ok k (fun hc ok k => ?_) (fun hc ok k => ?_))
    · refine x_iconst (-1) (z := (-1)) dX1_out_25 rfl (by decide) rfl ?_
      exact y_iret dX1_out_26 rfl k
    · refine x_aload_n 0 dX1_out_12 rfl rfl rfl rfl rfl ?_
      refine y_getF 151 19 (c := 0) (z := 107) dX1_out_13 i0 rfl in_X1 q1586 rfl rfl rfl fn_0_19 (Nat.le_trans (Nat.le_of_ble_eq_true rfl) hn) rfl ?_
      refine x_iload_n 1 dX1_out_16 rfl rfl rfl ?_
      obtain ⟨e1, ok⟩ := ok
      refine y_bald (z := w 107 a1) dX1_out_17 ⟨65536, i107, e1⟩ rfl rfl ?_
      refine x_sipush 255 (z := 255) dX1_out_18 rfl (by decide) rfl ?_
      refine x_iand dX1_out_21 rfl ?_
      refine x_goto 4 (q := 26) dX1_out_22 rfl ?_
      exact y_iret dX1_out_26 rfl k
def fX1_wrongs (w : bW) : Int := 0
theorem vX1_wrongs {d n : Nat} {w : bW} {Q : Int → bW → Prop} {X : String → bW → Prop} (k : Q (fX1_wrongs w) w) : b_K (d + 1) mX1_wrongs [(2, 0)] n w Q X := by
  unfold fX1_wrongs at k
  refine k_of (by decide) rfl rfl rfl (ls := [(2, 0)]) rfl ?_
  refine x_iconst 0 (z := 0) dX1_wrongs_0 rfl (by decide) rfl ?_
  exact y_iret dX1_wrongs_1 rfl k
def fX1_isWhole (w : bW) : Int := 1
theorem vX1_isWhole {d n : Nat} {w : bW} {Q : Int → bW → Prop} {X : String → bW → Prop} (k : Q (fX1_isWhole w) w) : b_K (d + 1) mX1_isWhole [(2, 0)] n w Q X := by
  unfold fX1_isWhole at k
  refine k_of (by decide) rfl rfl rfl (ls := [(2, 0)]) rfl ?_
  refine x_iconst 1 (z := 1) dX1_isWhole_0 rfl (by decide) rfl ?_
  exact y_zret dX1_isWhole_1 rfl (by decide) k
def fX1_end (w : bW) (a1 : Int) : Int := (if a1 < 0 then 0 else (if a1 ≤ w 0 1 then w 0 1 else 0))
def gX1_end (w : bW) (a1 : Int) : bW := (if a1 < 0 then w else (if a1 ≤ w 0 1 then (b_up w 0 1 a1) else w))
def oX1_end (n : Nat) (w : bW) (a1 : Int) : Prop := if a1 < 0 then False else (if a1 ≤ w 0 1 then True else False)
theorem vX1_end {d n : Nat} {w : bW} {Q : Int → bW → Prop} {X : String → bW → Prop} (hn : 1 ≤ n) (a1 : Int) (ok : oX1_end n w a1) (k : Q (fX1_end w a1) (gX1_end w a1)) : b_K (d + 1) mX1_end [(2, 0), (0, a1)] n w Q X := by
  have i0 := iz0 (Nat.le_trans (Nat.le_of_ble_eq_true rfl) hn)
  unfold fX1_end gX1_end at k
  unfold oX1_end at ok
  refine k_of (by decide) rfl rfl rfl (ls := [(2, 0), (0, a1), (9, 0)]) rfl ?_
  refine x_iload_n 1 dX1_end_0 rfl rfl rfl ?_
  refine x_if_lt (t := 12) 11 dX1_end_1 rfl rfl (b_itq ok k (fun hc ok k => ?_) (fun hc ok k => ?_))
  · exact ok.elim
  · refine x_iload_n 1 dX1_end_4 rfl rfl rfl ?_
    refine x_aload_n 0 dX1_end_5 rfl rfl rfl rfl rfl ?_
    refine y_get 171 1 (c := 0) (z := w 0 1) dX1_end_6 i0 rfl in_X1 q1568 rfl rfl rfl rfl rfl ?_
    refine x_icmp_le (t := 22) 13 dX1_end_9 rfl rfl (b_itq ok k (fun hc ok k => ?_) (fun hc ok k => ?_))
    · refine x_aload_n 0 dX1_end_22 rfl rfl rfl rfl rfl ?_
      refine y_get 171 1 (c := 0) (z := w 0 1) dX1_end_23 i0 rfl in_X1 q1568 rfl rfl rfl rfl rfl ?_
      refine x_istore_n 2 (ls' := [(2, 0), (0, a1), (0, w 0 1)]) dX1_end_26 rfl rfl rfl rfl ?_
      refine x_aload_n 0 dX1_end_27 rfl rfl rfl rfl rfl ?_
      refine x_iload_n 1 dX1_end_28 rfl rfl rfl ?_
      refine x_put 171 1 (c := 0) dX1_end_29 i0 rfl in_X1 tyX1_ok nmX1 q1568 rfl rfl rfl (Or.inl rfl) (Or.inl ⟨rfl, rfl⟩) rfl ?_
      refine x_iload_n 2 dX1_end_32 rfl rfl rfl ?_
      exact y_iret dX1_end_33 rfl k
    · exact ok.elim
def fX11_text (w : bW) : Int := 40
theorem vX11_text {d n : Nat} {w : bW} {Q : Int → bW → Prop} {X : String → bW → Prop} (hn : 143 ≤ n) (k : Q (fX11_text w) w) : b_K (d + 1) mX11_text [(2, 39)] n w Q X := by
  have i39 := iz39 (Nat.le_trans (Nat.le_of_ble_eq_true rfl) hn)
  unfold fX11_text at k
  refine k_of (by decide) rfl rfl rfl (ls := [(2, 39)]) rfl ?_
  refine x_aload_n 0 dX11_text_0 rfl rfl rfl rfl rfl ?_
  refine y_getF 9 1 (c := 10) (z := 40) dX11_text_1 i39 rfl in_X11 q873 rfl rfl rfl fn_39_1 (Nat.le_trans (Nat.le_of_ble_eq_true rfl) hn) rfl ?_
  exact y_aret dX11_text_4 rfl (Or.inr ⟨_, rfl⟩) k
def gX13_put_2 (w : bW) (a1 : Int) : bW := (b_up (b_up w 46 7 (b_i ((w 46 7) + 1))) (w 46 6) (w 46 7) (b_b8 a1))
def oX13_put_2 (n : Nat) (w : bW) (a1 : Int) : Prop := b_ai n (w 46 6) 1 1 (w 46 7) ∧ (True)
theorem vX13_put_2 {d n : Nat} {w : bW} {Q : Int → bW → Prop} {X : String → bW → Prop} (hn : 47 ≤ n) (a1 : Int) (ok : oX13_put_2 n w a1) (k : Q 0 (gX13_put_2 w a1)) : b_K (d + 1) mX13_put_2 [(2, 46), (0, a1)] n w Q X := by
  have i46 := iz46 (Nat.le_trans (Nat.le_of_ble_eq_true rfl) hn)
  unfold gX13_put_2 at k
  unfold oX13_put_2 at ok
  refine k_of (by decide) rfl rfl rfl (ls := [(2, 46), (0, a1)]) rfl ?_
  refine x_aload_n 0 dX13_put_2_0 rfl rfl rfl rfl rfl ?_
  refine y_get 44 6 (c := 12) (z := w 46 6) dX13_put_2_1 i46 rfl in_X13 q935 rfl rfl rfl rfl rfl ?_
  refine x_aload_n 0 dX13_put_2_4 rfl rfl rfl rfl rfl ?_
  refine x_dup dX13_put_2_5 rfl rfl ?_
  refine y_get 48 7 (c := 12) (z := w 46 7) dX13_put_2_6 i46 rfl in_X13 q936 rfl rfl rfl rfl rfl ?_
  refine x_dup_x1 dX13_put_2_9 rfl rfl rfl ?_
  refine x_iconst 1 (z := 1) dX13_put_2_10 rfl (by decide) rfl ?_
  refine x_iadd dX13_put_2_11 rfl ?_
  refine x_put 48 7 (c := 12) dX13_put_2_12 i46 rfl in_X13 tyX13_ok nmX13 q936 rfl rfl rfl (Or.inl rfl) (Or.inl ⟨rfl, rfl⟩) rfl ?_
  refine x_iload_n 1 dX13_put_2_15 rfl rfl rfl ?_
  refine x_i2b dX13_put_2_16 rfl ?_
  obtain ⟨e1, ok⟩ := ok
  refine y_bast (x' := b_b8 a1) dX13_put_2_17 e1 (b_b8_i _) rfl ?_
  exact y_vret dX13_put_2_18 rfl k
def fX14_length (w : bW) (a1 : Int) : Int := b_i ((w 52 (b_i (a1 + 1))) - (w 52 a1))
def oX14_length (n : Nat) (w : bW) (a1 : Int) : Prop := (0 ≤ b_i (a1 + 1) ∧ b_i (a1 + 1) < 12001) ∧ ((0 ≤ a1 ∧ a1 < 12001) ∧ (True))
theorem vX14_length {d n : Nat} {w : bW} {Q : Int → bW → Prop} {X : String → bW → Prop} (hn : 143 ≤ n) (a1 : Int) (ok : oX14_length n w a1) (k : Q (fX14_length w a1) w) : b_K (d + 1) mX14_length [(2, 50), (0, a1)] n w Q X := by
  have i50 := iz50 (Nat.le_trans (Nat.le_of_ble_eq_true rfl) hn)
  have i52 := iz52 (Nat.le_trans (Nat.le_of_ble_eq_true rfl) hn)
  unfold fX14_length at k
  unfold oX14_length at ok
  refine k_of (by decide) rfl rfl rfl (ls := [(2, 50), (0, a1)]) rfl ?_
  refine x_aload_n 0 dX14_length_0 rfl rfl rfl rfl rfl ?_
  refine y_getF 16 1 (c := 13) (z := 52) dX14_length_1 i50 rfl in_X14 q1002 rfl rfl rfl fn_50_1 (Nat.le_trans (Nat.le_of_ble_eq_true rfl) hn) rfl ?_
  refine x_iload_n 1 dX14_length_4 rfl rfl rfl ?_
  refine x_iconst 1 (z := 1) dX14_length_5 rfl (by decide) rfl ?_
  refine x_iadd dX14_length_6 rfl ?_
  obtain ⟨e1, ok⟩ := ok
  refine y_iald (z := w 52 (b_i (a1 + 1))) dX14_length_7 ⟨12001, i52, e1⟩ rfl rfl ?_
  refine x_aload_n 0 dX14_length_8 rfl rfl rfl rfl rfl ?_
  refine y_getF 16 1 (c := 13) (z := 52) dX14_length_9 i50 rfl in_X14 q1002 rfl rfl rfl fn_50_1 (Nat.le_trans (Nat.le_of_ble_eq_true rfl) hn) rfl ?_
  refine x_iload_n 1 dX14_length_12 rfl rfl rfl ?_
  obtain ⟨e2, ok⟩ := ok
  refine y_iald (z := w 52 a1) dX14_length_13 ⟨12001, i52, e2⟩ rfl rfl ?_
  refine x_isub dX14_length_14 rfl ?_
  exact y_iret dX14_length_15 rfl k
def fX15_instruction (w : bW) (a1 : Int) (a2 : Int) (a3 : Int) (a4 : Int) : Int := w 53 13
def gX15_instruction (w : bW) (a1 : Int) (a2 : Int) (a3 : Int) (a4 : Int) : bW := (b_up (b_up (b_up (b_up (b_up (b_up w 64 (b_i ((w 53 13) + 0)) a1) 64 (b_i ((w 53 13) + 1)) a2) 64 (b_i ((w 53 13) + 2)) a3) 64 (b_i ((w 53 13) + 3)) a4) 64 (b_i ((w 53 13) + 4)) 0) 53 13 (b_i ((w 53 13) + 5)))
def oX15_instruction (n : Nat) (w : bW) (a1 : Int) (a2 : Int) (a3 : Int) (a4 : Int) : Prop := (0 ≤ b_i ((w 53 13) + 0) ∧ b_i ((w 53 13) + 0) < 160000) ∧ ((0 ≤ b_i ((w 53 13) + 1) ∧ b_i ((w 53 13) + 1) < 160000) ∧ ((0 ≤ b_i ((w 53 13) + 2) ∧ b_i ((w 53 13) + 2) < 160000) ∧ ((0 ≤ b_i ((w 53 13) + 3) ∧ b_i ((w 53 13) + 3) < 160000) ∧ ((0 ≤ b_i ((w 53 13) + 4) ∧ b_i ((w 53 13) + 4) < 160000) ∧ (True)))))
theorem vX15_instruction {d n : Nat} {w : bW} {Q : Int → bW → Prop} {X : String → bW → Prop} (hn : 143 ≤ n) (a1 : Int) (a2 : Int) (a3 : Int) (a4 : Int) (ok : oX15_instruction n w a1 a2 a3 a4) (k : Q (fX15_instruction w a1 a2 a3 a4) (gX15_instruction w a1 a2 a3 a4)) : b_K (d + 1) mX15_instruction [(2, 53), (0, a1), (0, a2), (0, a3), (0, a4)] n w Q X := by
  have i53 := iz53 (Nat.le_trans (Nat.le_of_ble_eq_true rfl) hn)
  have i64 := iz64 (Nat.le_trans (Nat.le_of_ble_eq_true rfl) hn)
  unfold fX15_instruction gX15_instruction at k
  unfold oX15_instruction at ok
  refine k_of (by decide) rfl rfl rfl (ls := [(2, 53), (0, a1), (0, a2), (0, a3), (0, a4), (9, 0)]) rfl ?_
  refine x_aload_n 0 dX15_instruction_0 rfl rfl rfl rfl rfl ?_
  refine y_get 48 13 (c := 14) (z := w 53 13) dX15_instruction_1 i53 rfl in_X15 q1058 rfl rfl rfl rfl rfl ?_
  refine x_istore 5 (ls' := [(2, 53), (0, a1), (0, a2), (0, a3), (0, a4), (0, w 53 13)]) dX15_instruction_4 rfl rfl rfl ?_
  refine x_aload_n 0 dX15_instruction_6 rfl rfl rfl rfl rfl ?_
  refine y_getF 45 12 (c := 14) (z := 64) dX15_instruction_7 i53 rfl in_X15 q1055 rfl rfl rfl fn_53_12 (Nat.le_trans (Nat.le_of_ble_eq_true rfl) hn) rfl ?_
  refine x_iload 5 dX15_instruction_10 rfl rfl ?_
  refine x_iconst 0 (z := 0) dX15_instruction_12 rfl (by decide) rfl ?_
  refine x_iadd dX15_instruction_13 rfl ?_
  refine x_iload_n 1 dX15_instruction_14 rfl rfl rfl ?_
  obtain ⟨e1, ok⟩ := ok
  refine y_iast (x' := a1) dX15_instruction_15 ⟨160000, i64, e1⟩ rfl rfl ?_
  refine x_aload_n 0 dX15_instruction_16 rfl rfl rfl rfl rfl ?_
  refine y_getF 45 12 (c := 14) (z := 64) dX15_instruction_17 i53 rfl in_X15 q1055 rfl rfl rfl fn_53_12 (Nat.le_trans (Nat.le_of_ble_eq_true rfl) hn) rfl ?_
  refine x_iload 5 dX15_instruction_20 rfl rfl ?_
  refine x_iconst 1 (z := 1) dX15_instruction_22 rfl (by decide) rfl ?_
  refine x_iadd dX15_instruction_23 rfl ?_
  refine x_iload_n 2 dX15_instruction_24 rfl rfl rfl ?_
  obtain ⟨e2, ok⟩ := ok
  refine y_iast (x' := a2) dX15_instruction_25 ⟨160000, i64, e2⟩ rfl rfl ?_
  refine x_aload_n 0 dX15_instruction_26 rfl rfl rfl rfl rfl ?_
  refine y_getF 45 12 (c := 14) (z := 64) dX15_instruction_27 i53 rfl in_X15 q1055 rfl rfl rfl fn_53_12 (Nat.le_trans (Nat.le_of_ble_eq_true rfl) hn) rfl ?_
  refine x_iload 5 dX15_instruction_30 rfl rfl ?_
  refine x_iconst 2 (z := 2) dX15_instruction_32 rfl (by decide) rfl ?_
  refine x_iadd dX15_instruction_33 rfl ?_
  refine x_iload_n 3 dX15_instruction_34 rfl rfl rfl ?_
  obtain ⟨e3, ok⟩ := ok
  refine y_iast (x' := a3) dX15_instruction_35 ⟨160000, i64, e3⟩ rfl rfl ?_
  refine x_aload_n 0 dX15_instruction_36 rfl rfl rfl rfl rfl ?_
  refine y_getF 45 12 (c := 14) (z := 64) dX15_instruction_37 i53 rfl in_X15 q1055 rfl rfl rfl fn_53_12 (Nat.le_trans (Nat.le_of_ble_eq_true rfl) hn) rfl ?_
  refine x_iload 5 dX15_instruction_40 rfl rfl ?_
  refine x_iconst 3 (z := 3) dX15_instruction_42 rfl (by decide) rfl ?_
  refine x_iadd dX15_instruction_43 rfl ?_
  refine x_iload 4 dX15_instruction_44 rfl rfl ?_
  obtain ⟨e4, ok⟩ := ok
  refine y_iast (x' := a4) dX15_instruction_46 ⟨160000, i64, e4⟩ rfl rfl ?_
  refine x_aload_n 0 dX15_instruction_47 rfl rfl rfl rfl rfl ?_
  refine y_getF 45 12 (c := 14) (z := 64) dX15_instruction_48 i53 rfl in_X15 q1055 rfl rfl rfl fn_53_12 (Nat.le_trans (Nat.le_of_ble_eq_true rfl) hn) rfl ?_
  refine x_iload 5 dX15_instruction_51 rfl rfl ?_
  refine x_iconst 4 (z := 4) dX15_instruction_53 rfl (by decide) rfl ?_
  refine x_iadd dX15_instruction_54 rfl ?_
  refine x_iconst 0 (z := 0) dX15_instruction_55 rfl (by decide) rfl ?_
  obtain ⟨e5, ok⟩ := ok
  refine y_iast (x' := 0) dX15_instruction_56 ⟨160000, i64, e5⟩ rfl rfl ?_
  refine x_aload_n 0 dX15_instruction_57 rfl rfl rfl rfl rfl ?_
  refine x_dup dX15_instruction_58 rfl rfl ?_
  refine y_get 48 13 (c := 14) (z := w 53 13) dX15_instruction_59 i53 rfl in_X15 q1058 rfl rfl rfl rfl rfl ?_
  refine x_iconst 5 (z := 5) dX15_instruction_62 rfl (by decide) rfl ?_
  refine x_iadd dX15_instruction_63 rfl ?_
  refine x_put 48 13 (c := 14) dX15_instruction_64 i53 rfl in_X15 tyX15_ok nmX15 q1058 rfl rfl rfl (Or.inl rfl) (Or.inl ⟨rfl, rfl⟩) rfl ?_
  refine x_iload 5 dX15_instruction_67 rfl rfl ?_
  exact y_iret dX15_instruction_69 rfl k
def gX15_drop (w : bW) (a1 : Int) (a2 : Int) (a3 : Int) : bW := (b_up (b_up (b_up w 53 6 a1) 53 11 a2) 53 13 a3)
theorem vX15_drop {d n : Nat} {w : bW} {Q : Int → bW → Prop} {X : String → bW → Prop} (hn : 54 ≤ n) (a1 : Int) (a2 : Int) (a3 : Int) (k : Q 0 (gX15_drop w a1 a2 a3)) : b_K (d + 1) mX15_drop [(2, 53), (0, a1), (0, a2), (0, a3)] n w Q X := by
  have i53 := iz53 (Nat.le_trans (Nat.le_of_ble_eq_true rfl) hn)
  unfold gX15_drop at k
  refine k_of (by decide) rfl rfl rfl (ls := [(2, 53), (0, a1), (0, a2), (0, a3)]) rfl ?_
  refine x_aload_n 0 dX15_drop_0 rfl rfl rfl rfl rfl ?_
  refine x_iload_n 1 dX15_drop_1 rfl rfl rfl ?_
  refine x_put 52 6 (c := 14) dX15_drop_2 i53 rfl in_X15 tyX15_ok nmX15 q1037 rfl rfl rfl (Or.inl rfl) (Or.inl ⟨rfl, rfl⟩) rfl ?_
  refine x_aload_n 0 dX15_drop_5 rfl rfl rfl rfl rfl ?_
  refine x_iload_n 2 dX15_drop_6 rfl rfl rfl ?_
  refine x_put 55 11 (c := 14) dX15_drop_7 i53 rfl in_X15 tyX15_ok nmX15 q1052 rfl rfl rfl (Or.inl rfl) (Or.inl ⟨rfl, rfl⟩) rfl ?_
  refine x_aload_n 0 dX15_drop_10 rfl rfl rfl rfl rfl ?_
  refine x_iload_n 3 dX15_drop_11 rfl rfl rfl ?_
  refine x_put 48 13 (c := 14) dX15_drop_12 i53 rfl in_X15 tyX15_ok nmX15 q1058 rfl rfl rfl (Or.inl rfl) (Or.inl ⟨rfl, rfl⟩) rfl ?_
  exact y_vret dX15_drop_15 rfl k
def fX16_wrong (w : bW) (a1 : Int) : Int := 0
def gX16_wrong (w : bW) (a1 : Int) : bW := (if 0 ≤ w 65 15 then w else (b_up w 65 15 a1))
theorem vX16_wrong {d n : Nat} {w : bW} {Q : Int → bW → Prop} {X : String → bW → Prop} (hn : 66 ≤ n) (a1 : Int) (k : Q (fX16_wrong w a1) (gX16_wrong w a1)) : b_K (d + 1) mX16_wrong [(2, 65), (0, a1)] n w Q X := by
  have i65 := iz65 (Nat.le_trans (Nat.le_of_ble_eq_true rfl) hn)
  unfold fX16_wrong gX16_wrong at k
  refine k_of (by decide) rfl rfl rfl (ls := [(2, 65), (0, a1)]) rfl ?_
  refine x_aload_n 0 dX16_wrong_0 rfl rfl rfl rfl rfl ?_
  refine y_get 52 15 (c := 15) (z := w 65 15) dX16_wrong_1 i65 rfl in_X16 q1114 rfl rfl rfl rfl rfl ?_
  refine x_if_ge (t := 12) 8 dX16_wrong_4 rfl rfl (b_itqw (b_tt _) k (fun hc ok k => ?_) (fun hc ok k => ?_))
  · refine x_iconst 0 (z := 0) dX16_wrong_12 rfl (by decide) rfl ?_
    exact y_iret dX16_wrong_13 rfl k
  · refine x_aload_n 0 dX16_wrong_7 rfl rfl rfl rfl rfl ?_
    refine x_iload_n 1 dX16_wrong_8 rfl rfl rfl ?_
    refine x_put 52 15 (c := 15) dX16_wrong_9 i65 rfl in_X16 tyX16_ok nmX16 q1114 rfl rfl rfl (Or.inl rfl) (Or.inl ⟨rfl, rfl⟩) rfl ?_
    refine x_iconst 0 (z := 0) dX16_wrong_12 rfl (by decide) rfl ?_
    exact y_iret dX16_wrong_13 rfl k
def gX16_entry (w : bW) (a1 : Int) (a2 : Int) (a3 : Int) (a4 : Int) (a6 : Int) : bW := (b_up (b_up (b_up (b_up (b_up w 53 11 (b_i ((w 53 11) + 1))) 60 (w 53 11) a2) 61 (w 53 11) a3) 62 (w 53 11) a4) 63 (w 53 11) (b_b8 a6))
def oX16_entry (n : Nat) (w : bW) (a1 : Int) (a2 : Int) (a3 : Int) (a4 : Int) (a6 : Int) : Prop := (0 ≤ w 53 11 ∧ w 53 11 < 12000) ∧ ((0 ≤ w 53 11 ∧ w 53 11 < 12000) ∧ ((0 ≤ w 53 11 ∧ w 53 11 < 12000) ∧ ((0 ≤ w 53 11 ∧ w 53 11 < 12000) ∧ (True))))
theorem vX16_entry {d n : Nat} {w : bW} {Q : Int → bW → Prop} {X : String → bW → Prop} (hn : 143 ≤ n) (a1 : Int) (a2 : Int) (a3 : Int) (a4 : Int) (a6 : Int) (ok : oX16_entry n w a1 a2 a3 a4 a6) (k : Q 0 (gX16_entry w a1 a2 a3 a4 a6)) : b_K (d + 1) mX16_entry [(2, 65), (0, a1), (0, a2), (0, a3), (1, a4), (0, a6)] n w Q X := by
  have i53 := iz53 (Nat.le_trans (Nat.le_of_ble_eq_true rfl) hn)
  have i60 := iz60 (Nat.le_trans (Nat.le_of_ble_eq_true rfl) hn)
  have i61 := iz61 (Nat.le_trans (Nat.le_of_ble_eq_true rfl) hn)
  have i62 := iz62 (Nat.le_trans (Nat.le_of_ble_eq_true rfl) hn)
  have i63 := iz63 (Nat.le_trans (Nat.le_of_ble_eq_true rfl) hn)
  have i65 := iz65 (Nat.le_trans (Nat.le_of_ble_eq_true rfl) hn)
  unfold gX16_entry at k
  unfold oX16_entry at ok
  refine k_of (by decide) rfl rfl rfl (ls := [(2, 65), (0, a1), (0, a2), (0, a3), (1, a4), (9, 0), (0, a6), (9, 0)]) rfl ?_
  refine x_aload_n 0 dX16_entry_0 rfl rfl rfl rfl rfl ?_
  refine y_getF 40 3 (c := 15) (z := 53) dX16_entry_1 i65 rfl in_X16 q1102 rfl rfl rfl fn_65_3 (Nat.le_trans (Nat.le_of_ble_eq_true rfl) hn) rfl ?_
  refine x_dup dX16_entry_4 rfl rfl ?_
  refine y_get 117 11 (c := 14) (z := w 53 11) dX16_entry_5 i53 rfl in_X15 q1054 rfl rfl rfl rfl rfl ?_
  refine x_dup_x1 dX16_entry_8 rfl rfl rfl ?_
  refine x_iconst 1 (z := 1) dX16_entry_9 rfl (by decide) rfl ?_
  refine x_iadd dX16_entry_10 rfl ?_
  refine x_put 117 11 (c := 14) dX16_entry_11 i53 rfl in_X15 tyX15_ok nmX15 q1054 rfl rfl rfl (Or.inl rfl) (Or.inl ⟨rfl, rfl⟩) rfl ?_
  refine x_istore 7 (ls' := [(2, 65), (0, a1), (0, a2), (0, a3), (1, a4), (9, 0), (0, a6), (0, w 53 11)]) dX16_entry_14 rfl rfl rfl ?_
  refine x_aload_n 0 dX16_entry_16 rfl rfl rfl rfl rfl ?_
  refine y_getF 40 3 (c := 15) (z := 53) dX16_entry_17 i65 rfl in_X16 q1102 rfl rfl rfl fn_65_3 (Nat.le_trans (Nat.le_of_ble_eq_true rfl) hn) rfl ?_
  refine y_getF 151 7 (c := 14) (z := 60) dX16_entry_20 i53 rfl in_X15 q1041 rfl rfl rfl fn_53_7 (Nat.le_trans (Nat.le_of_ble_eq_true rfl) hn) rfl ?_
  refine x_iload 7 dX16_entry_23 rfl rfl ?_
  refine x_iload_n 2 dX16_entry_25 rfl rfl rfl ?_
  obtain ⟨e1, ok⟩ := ok
  refine y_iast (x' := a2) dX16_entry_26 ⟨12000, i60, e1⟩ rfl rfl ?_
  refine x_aload_n 0 dX16_entry_27 rfl rfl rfl rfl rfl ?_
  refine y_getF 40 3 (c := 15) (z := 53) dX16_entry_28 i65 rfl in_X16 q1102 rfl rfl rfl fn_65_3 (Nat.le_trans (Nat.le_of_ble_eq_true rfl) hn) rfl ?_
  refine y_getF 153 8 (c := 14) (z := 61) dX16_entry_31 i53 rfl in_X15 q1043 rfl rfl rfl fn_53_8 (Nat.le_trans (Nat.le_of_ble_eq_true rfl) hn) rfl ?_
  refine x_iload 7 dX16_entry_34 rfl rfl ?_
  refine x_iload_n 3 dX16_entry_36 rfl rfl rfl ?_
  obtain ⟨e2, ok⟩ := ok
  refine y_iast (x' := a3) dX16_entry_37 ⟨12000, i61, e2⟩ rfl rfl ?_
  refine x_aload_n 0 dX16_entry_38 rfl rfl rfl rfl rfl ?_
  refine y_getF 40 3 (c := 15) (z := 53) dX16_entry_39 i65 rfl in_X16 q1102 rfl rfl rfl fn_65_3 (Nat.le_trans (Nat.le_of_ble_eq_true rfl) hn) rfl ?_
  refine y_getF 155 9 (c := 14) (z := 62) dX16_entry_42 i53 rfl in_X15 q1047 rfl rfl rfl fn_53_9 (Nat.le_trans (Nat.le_of_ble_eq_true rfl) hn) rfl ?_
  refine x_iload 7 dX16_entry_45 rfl rfl ?_
  refine x_lload 4 dX16_entry_47 rfl rfl ?_
  obtain ⟨e3, ok⟩ := ok
  refine y_last (x' := a4) dX16_entry_49 ⟨12000, i62, e3⟩ rfl rfl ?_
  refine x_aload_n 0 dX16_entry_50 rfl rfl rfl rfl rfl ?_
  refine y_getF 40 3 (c := 15) (z := 53) dX16_entry_51 i65 rfl in_X16 q1102 rfl rfl rfl fn_65_3 (Nat.le_trans (Nat.le_of_ble_eq_true rfl) hn) rfl ?_
  refine y_getF 159 10 (c := 14) (z := 63) dX16_entry_54 i53 rfl in_X15 q1050 rfl rfl rfl fn_53_10 (Nat.le_trans (Nat.le_of_ble_eq_true rfl) hn) rfl ?_
  refine x_iload 7 dX16_entry_57 rfl rfl ?_
  refine x_iload 6 dX16_entry_59 rfl rfl ?_
  refine x_i2b dX16_entry_61 rfl ?_
  obtain ⟨e4, ok⟩ := ok
  refine y_bast (x' := b_b8 a6) dX16_entry_62 ⟨12000, i63, e4⟩ (b_b8_i _) rfl ?_
  exact y_vret dX16_entry_63 rfl k
def fX16_become (w : bW) (a1 : Int) (a2 : Int) : Int := (if a2 < 0 then 0 else (if b_i ((w 65 8) - a1) ≠ 300 then 1 else 0))
def gX16_become (w : bW) (a1 : Int) (a2 : Int) : bW := (if a2 < 0 then (b_up w 65 8 (b_i ((w 65 8) - a1))) else (if b_i ((w 65 8) - a1) ≠ 300 then (b_up (b_up (b_up w 65 8 (b_i ((w 65 8) - a1))) 65 8 (b_i ((b_i ((w 65 8) - a1)) + 1))) 68 (b_i ((w 65 8) - a1)) a2) else (b_up w 65 8 (b_i ((w 65 8) - a1)))))
def oX16_become (n : Nat) (w : bW) (a1 : Int) (a2 : Int) : Prop := if a2 < 0 then True else (if b_i ((w 65 8) - a1) ≠ 300 then ((0 ≤ b_i ((w 65 8) - a1) ∧ b_i ((w 65 8) - a1) < 310) ∧ (True)) else True)
theorem vX16_become {d n : Nat} {w : bW} {Q : Int → bW → Prop} {X : String → bW → Prop} (hn : 143 ≤ n) (a1 : Int) (a2 : Int) (ok : oX16_become n w a1 a2) (k : Q (fX16_become w a1 a2) (gX16_become w a1 a2)) : b_K (d + 1) mX16_become [(2, 65), (0, a1), (0, a2)] n w Q X := by
  have i65 := iz65 (Nat.le_trans (Nat.le_of_ble_eq_true rfl) hn)
  have i68 := iz68 (Nat.le_trans (Nat.le_of_ble_eq_true rfl) hn)
  unfold fX16_become gX16_become at k
  unfold oX16_become at ok
  refine k_of (by decide) rfl rfl rfl (ls := [(2, 65), (0, a1), (0, a2)]) rfl ?_
  refine x_aload_n 0 dX16_become_0 rfl rfl rfl rfl rfl ?_
  refine x_dup dX16_become_1 rfl rfl ?_
  refine y_get 56 8 (c := 15) (z := w 65 8) dX16_become_2 i65 rfl in_X16 q1107 rfl rfl rfl rfl rfl ?_
  refine x_iload_n 1 dX16_become_5 rfl rfl rfl ?_
  refine x_isub dX16_become_6 rfl ?_
  refine x_put 56 8 (c := 15) dX16_become_7 i65 rfl in_X16 tyX16_ok nmX16 q1107 rfl rfl rfl (Or.inl rfl) (Or.inl ⟨rfl, rfl⟩) rfl ?_
  refine x_iload_n 2 dX16_become_10 rfl rfl rfl ?_
  refine x_if_lt (t := 24) 13 dX16_become_11 rfl rfl (b_itq ok k (fun hc ok k => ?_) (fun hc ok k => ?_))
  · refine x_iconst 0 (z := 0) dX16_become_24 rfl (by decide) rfl ?_
    exact y_zret dX16_become_25 rfl (by decide) k
  · refine x_aload_n 0 dX16_become_14 rfl rfl rfl rfl rfl ?_
    refine y_get 56 8 (c := 15) (z := b_i ((w 65 8) - a1)) dX16_become_15 i65 rfl in_X16 q1107 rfl rfl rfl rfl rfl ?_
    refine x_sipush 300 (z := 300) dX16_become_18 rfl (by decide) rfl ?_
    refine x_icmp_ne (t := 26) 5 dX16_become_21 rfl rfl (b_itq ok k (fun hc ok k => ?_) (fun hc ok k => ?_))
    · refine x_aload_n 0 dX16_become_26 rfl rfl rfl rfl rfl ?_
      refine y_getF 20 7 (c := 15) (z := 68) dX16_become_27 i65 rfl in_X16 q1106 rfl rfl rfl fn_65_7 (Nat.le_trans (Nat.le_of_ble_eq_true rfl) hn) rfl ?_
      refine x_aload_n 0 dX16_become_30 rfl rfl rfl rfl rfl ?_
      refine x_dup dX16_become_31 rfl rfl ?_
      refine y_get 56 8 (c := 15) (z := b_i ((w 65 8) - a1)) dX16_become_32 i65 rfl in_X16 q1107 rfl rfl rfl rfl rfl ?_
      refine x_dup_x1 dX16_become_35 rfl rfl rfl ?_
      refine x_iconst 1 (z := 1) dX16_become_36 rfl (by decide) rfl ?_
      refine x_iadd dX16_become_37 rfl ?_
      refine x_put 56 8 (c := 15) dX16_become_38 i65 rfl in_X16 tyX16_ok nmX16 q1107 rfl rfl rfl (Or.inl rfl) (Or.inl ⟨rfl, rfl⟩) rfl ?_
      refine x_iload_n 2 dX16_become_41 rfl rfl rfl ?_
      obtain ⟨e1, ok⟩ := ok
      refine y_iast (x' := a2) dX16_become_42 ⟨310, i68, e1⟩ rfl rfl ?_
      refine x_iconst 1 (z := 1) dX16_become_43 rfl (by decide) rfl ?_
      exact y_zret dX16_become_44 rfl (by decide) k
    · refine x_iconst 0 (z := 0) dX16_become_24 rfl (by decide) rfl ?_
      exact y_zret dX16_become_25 rfl (by decide) k
def fX16_done (w : bW) (a1 : Int) (a2 : Int) (a3 : Int) (a4 : Int) (a5 : Int) : Int := (if a1 = 0 then 0 else fX15_instruction w a2 a3 a4 a5)
def gX16_done (w : bW) (a1 : Int) (a2 : Int) (a3 : Int) (a4 : Int) (a5 : Int) : bW := (if a1 = 0 then w else (gX15_instruction w a2 a3 a4 a5))
def oX16_done (n : Nat) (w : bW) (a1 : Int) (a2 : Int) (a3 : Int) (a4 : Int) (a5 : Int) : Prop := if a1 = 0 then True else ((oX15_instruction n w a2 a3 a4 a5) ∧ (True))
theorem vX16_done {d n : Nat} {w : bW} {Q : Int → bW → Prop} {X : String → bW → Prop} (hn : 143 ≤ n) (a1 : Int) (a2 : Int) (a3 : Int) (a4 : Int) (a5 : Int) (ok : oX16_done n w a1 a2 a3 a4 a5) (k : Q (fX16_done w a1 a2 a3 a4 a5) (gX16_done w a1 a2 a3 a4 a5)) : b_K (d + 2) mX16_done [(2, 65), (0, a1), (0, a2), (0, a3), (0, a4), (0, a5)] n w Q X := by
  have i53 := iz53 (Nat.le_trans (Nat.le_of_ble_eq_true rfl) hn)
  have i65 := iz65 (Nat.le_trans (Nat.le_of_ble_eq_true rfl) hn)
  unfold fX16_done gX16_done at k
  unfold oX16_done at ok
  refine k_of (by decide) rfl rfl rfl (ls := [(2, 65), (0, a1), (0, a2), (0, a3), (0, a4), (0, a5)]) rfl ?_
  refine x_iload_n 1 dX16_done_0 rfl rfl rfl ?_
  refine x_if_eq (t := 20) 19 dX16_done_1 rfl rfl (b_itq ok k (fun hc ok k => ?_) (fun hc ok k => ?_))
  · refine x_iconst 0 (z := 0) dX16_done_20 rfl (by decide) rfl ?_
    exact y_iret dX16_done_21 rfl k
  · refine x_aload_n 0 dX16_done_4 rfl rfl rfl rfl rfl ?_
    refine y_getF 40 3 (c := 15) (z := 53) dX16_done_5 i65 rfl in_X16 q1102 rfl rfl rfl fn_65_3 (Nat.le_trans (Nat.le_of_ble_eq_true rfl) hn) rfl ?_
    refine x_iload_n 2 dX16_done_8 rfl rfl rfl ?_
    refine x_iload_n 3 dX16_done_9 rfl rfl rfl ?_
    refine x_iload 4 dX16_done_10 rfl rfl ?_
    refine x_iload 5 dX16_done_12 rfl rfl ?_
    obtain ⟨e3, ok⟩ := ok
    refine y_Vi 262 (M := mX15_instruction) (As := [(0, a2), (0, a3), (0, a4), (0, a5)]) (st := []) dX16_done_14 i53 rfl q2151 q2152 q2153 q382 q2154 rfl hmX15_instruction rfl rfl rfl rfl rfl rfl rfl rfl (vX15_instruction (Nat.le_trans (Nat.le_of_ble_eq_true rfl) hn) a2 a3 a4 a5 e3 ?_)
    refine x_goto 4 (q := 21) dX16_done_17 rfl ?_
    exact y_iret dX16_done_21 rfl k
def fX16_at (w : bW) (a1 : Int) : Int := w 68 (b_i ((b_i ((w 65 8) - 1)) - a1))
def oX16_at (n : Nat) (w : bW) (a1 : Int) : Prop := (0 ≤ b_i ((b_i ((w 65 8) - 1)) - a1) ∧ b_i ((b_i ((w 65 8) - 1)) - a1) < 310) ∧ (True)
theorem vX16_at {d n : Nat} {w : bW} {Q : Int → bW → Prop} {X : String → bW → Prop} (hn : 143 ≤ n) (a1 : Int) (ok : oX16_at n w a1) (k : Q (fX16_at w a1) w) : b_K (d + 1) mX16_at [(2, 65), (0, a1)] n w Q X := by
  have i65 := iz65 (Nat.le_trans (Nat.le_of_ble_eq_true rfl) hn)
  have i68 := iz68 (Nat.le_trans (Nat.le_of_ble_eq_true rfl) hn)
  unfold fX16_at at k
  unfold oX16_at at ok
  refine k_of (by decide) rfl rfl rfl (ls := [(2, 65), (0, a1)]) rfl ?_
  refine x_aload_n 0 dX16_at_0 rfl rfl rfl rfl rfl ?_
  refine y_getF 20 7 (c := 15) (z := 68) dX16_at_1 i65 rfl in_X16 q1106 rfl rfl rfl fn_65_7 (Nat.le_trans (Nat.le_of_ble_eq_true rfl) hn) rfl ?_
  refine x_aload_n 0 dX16_at_4 rfl rfl rfl rfl rfl ?_
  refine y_get 56 8 (c := 15) (z := w 65 8) dX16_at_5 i65 rfl in_X16 q1107 rfl rfl rfl rfl rfl ?_
  refine x_iconst 1 (z := 1) dX16_at_8 rfl (by decide) rfl ?_
  refine x_isub dX16_at_9 rfl ?_
  refine x_iload_n 1 dX16_at_10 rfl rfl rfl ?_
  refine x_isub dX16_at_11 rfl ?_
  obtain ⟨e1, ok⟩ := ok
  refine y_iald (z := w 68 (b_i ((b_i ((w 65 8) - 1)) - a1))) dX16_at_12 ⟨310, i68, e1⟩ rfl rfl ?_
  exact y_iret dX16_at_13 rfl k
def fX16_word (w : bW) (a1 : Int) : Int := (if w 65 8 ≤ a1 then (-1) else w 20 (fX16_at w a1))
def oX16_word (n : Nat) (w : bW) (a1 : Int) : Prop := if w 65 8 ≤ a1 then True else ((oX16_at n w a1) ∧ ((0 ≤ fX16_at w a1 ∧ fX16_at w a1 < 60000) ∧ (True)))
theorem vX16_word {d n : Nat} {w : bW} {Q : Int → bW → Prop} {X : String → bW → Prop} (hn : 143 ≤ n) (a1 : Int) (ok : oX16_word n w a1) (k : Q (fX16_word w a1) w) : b_K (d + 2) mX16_word [(2, 65), (0, a1)] n w Q X := by
  have i19 := iz19 (Nat.le_trans (Nat.le_of_ble_eq_true rfl) hn)
  have i20 := iz20 (Nat.le_trans (Nat.le_of_ble_eq_true rfl) hn)
  have i65 := iz65 (Nat.le_trans (Nat.le_of_ble_eq_true rfl) hn)
  unfold fX16_word at k
  unfold oX16_word at ok
  refine k_of (by decide) rfl rfl rfl (ls := [(2, 65), (0, a1)]) rfl ?_
  refine x_iload_n 1 dX16_word_0 rfl rfl rfl ?_
  refine x_aload_n 0 dX16_word_1 rfl rfl rfl rfl rfl ?_
  refine y_get 56 8 (c := 15) (z := w 65 8) dX16_word_2 i65 rfl in_X16 q1107 rfl rfl rfl rfl rfl ?_
  refine x_icmp_ge (t := 24) 19 dX16_word_5 rfl rfl (b_itqv ok k (fun hc ok k => ?_) (fun hc ok k => ?_))
  · refine x_iconst (-1) (z := (-1)) dX16_word_24 rfl (by decide) rfl ?_
    exact y_iret dX16_word_25 rfl k
  · refine x_aload_n 0 dX16_word_8 rfl rfl rfl rfl rfl ?_
    refine y_getF 32 1 (c := 15) (z := 19) dX16_word_9 i65 rfl in_X16 q1100 rfl rfl rfl fn_65_1 (Nat.le_trans (Nat.le_of_ble_eq_true rfl) hn) rfl ?_
    refine y_getF 163 0 (c := 6) (z := 20) dX16_word_12 i19 rfl in_X7 q755 rfl rfl rfl fn_19_0 (Nat.le_trans (Nat.le_of_ble_eq_true rfl) hn) rfl ?_
    refine x_aload_n 0 dX16_word_15 rfl rfl rfl rfl rfl ?_
    refine x_iload_n 1 dX16_word_16 rfl rfl rfl ?_
    obtain ⟨e3, ok⟩ := ok
    refine y_Vi 209 (M := mX16_at) (As := [(0, a1)]) (st := [(2, 20)]) dX16_word_17 i65 rfl q2171 q2173 qs54 q383 q2174 rfl hmX16_at rfl rfl rfl rfl rfl rfl rfl rfl (vX16_at (Nat.le_trans (Nat.le_of_ble_eq_true rfl) hn) a1 e3 ?_)
    obtain ⟨e4, ok⟩ := ok
    refine y_bald (z := w 20 (fX16_at w a1)) dX16_word_20 ⟨60000, i20, e4⟩ rfl rfl ?_
    refine x_goto 4 (q := 25) dX16_word_21 rfl ?_
    exact y_iret dX16_word_25 rfl k
def fX16_left (w : bW) (a1 : Int) : Int := w 21 (fX16_at w a1)
def oX16_left (n : Nat) (w : bW) (a1 : Int) : Prop := (oX16_at n w a1) ∧ ((0 ≤ fX16_at w a1 ∧ fX16_at w a1 < 60000) ∧ (True))
theorem vX16_left {d n : Nat} {w : bW} {Q : Int → bW → Prop} {X : String → bW → Prop} (hn : 143 ≤ n) (a1 : Int) (ok : oX16_left n w a1) (k : Q (fX16_left w a1) w) : b_K (d + 2) mX16_left [(2, 65), (0, a1)] n w Q X := by
  have i19 := iz19 (Nat.le_trans (Nat.le_of_ble_eq_true rfl) hn)
  have i21 := iz21 (Nat.le_trans (Nat.le_of_ble_eq_true rfl) hn)
  have i65 := iz65 (Nat.le_trans (Nat.le_of_ble_eq_true rfl) hn)
  unfold fX16_left at k
  unfold oX16_left at ok
  refine k_of (by decide) rfl rfl rfl (ls := [(2, 65), (0, a1)]) rfl ?_
  refine x_aload_n 0 dX16_left_0 rfl rfl rfl rfl rfl ?_
  refine y_getF 32 1 (c := 15) (z := 19) dX16_left_1 i65 rfl in_X16 q1100 rfl rfl rfl fn_65_1 (Nat.le_trans (Nat.le_of_ble_eq_true rfl) hn) rfl ?_
  refine y_getF 166 1 (c := 6) (z := 21) dX16_left_4 i19 rfl in_X7 q761 rfl rfl rfl fn_19_1 (Nat.le_trans (Nat.le_of_ble_eq_true rfl) hn) rfl ?_
  refine x_aload_n 0 dX16_left_7 rfl rfl rfl rfl rfl ?_
  refine x_iload_n 1 dX16_left_8 rfl rfl rfl ?_
  obtain ⟨e3, ok⟩ := ok
  refine y_Vi 209 (M := mX16_at) (As := [(0, a1)]) (st := [(2, 21)]) dX16_left_9 i65 rfl q2171 q2173 qs54 q383 q2174 rfl hmX16_at rfl rfl rfl rfl rfl rfl rfl rfl (vX16_at (Nat.le_trans (Nat.le_of_ble_eq_true rfl) hn) a1 e3 ?_)
  obtain ⟨e4, ok⟩ := ok
  refine y_iald (z := w 21 (fX16_at w a1)) dX16_left_12 ⟨60000, i21, e4⟩ rfl rfl ?_
  exact y_iret dX16_left_13 rfl k
def fX16_right (w : bW) (a1 : Int) : Int := w 22 (fX16_at w a1)
def oX16_right (n : Nat) (w : bW) (a1 : Int) : Prop := (oX16_at n w a1) ∧ ((0 ≤ fX16_at w a1 ∧ fX16_at w a1 < 60000) ∧ (True))
theorem vX16_right {d n : Nat} {w : bW} {Q : Int → bW → Prop} {X : String → bW → Prop} (hn : 143 ≤ n) (a1 : Int) (ok : oX16_right n w a1) (k : Q (fX16_right w a1) w) : b_K (d + 2) mX16_right [(2, 65), (0, a1)] n w Q X := by
  have i19 := iz19 (Nat.le_trans (Nat.le_of_ble_eq_true rfl) hn)
  have i22 := iz22 (Nat.le_trans (Nat.le_of_ble_eq_true rfl) hn)
  have i65 := iz65 (Nat.le_trans (Nat.le_of_ble_eq_true rfl) hn)
  unfold fX16_right at k
  unfold oX16_right at ok
  refine k_of (by decide) rfl rfl rfl (ls := [(2, 65), (0, a1)]) rfl ?_
  refine x_aload_n 0 dX16_right_0 rfl rfl rfl rfl rfl ?_
  refine y_getF 32 1 (c := 15) (z := 19) dX16_right_1 i65 rfl in_X16 q1100 rfl rfl rfl fn_65_1 (Nat.le_trans (Nat.le_of_ble_eq_true rfl) hn) rfl ?_
  refine y_getF 169 2 (c := 6) (z := 22) dX16_right_4 i19 rfl in_X7 q767 rfl rfl rfl fn_19_2 (Nat.le_trans (Nat.le_of_ble_eq_true rfl) hn) rfl ?_
  refine x_aload_n 0 dX16_right_7 rfl rfl rfl rfl rfl ?_
  refine x_iload_n 1 dX16_right_8 rfl rfl rfl ?_
  obtain ⟨e3, ok⟩ := ok
  refine y_Vi 209 (M := mX16_at) (As := [(0, a1)]) (st := [(2, 22)]) dX16_right_9 i65 rfl q2171 q2173 qs54 q383 q2174 rfl hmX16_at rfl rfl rfl rfl rfl rfl rfl rfl (vX16_at (Nat.le_trans (Nat.le_of_ble_eq_true rfl) hn) a1 e3 ?_)
  obtain ⟨e4, ok⟩ := ok
  refine y_iald (z := w 22 (fX16_at w a1)) dX16_right_12 ⟨60000, i22, e4⟩ rfl rfl ?_
  exact y_iret dX16_right_13 rfl k
def gX16_save (w : bW) : bW := (b_up (b_up (b_up (b_cp w 68 0 69 (w 65 10) (w 65 8)) 65 10 (b_i ((w 65 10) + (w 65 8)))) 65 10 (b_i ((b_i ((w 65 10) + (w 65 8))) + 1))) 69 (b_i ((w 65 10) + (w 65 8))) (w 65 8))
def oX16_save (n : Nat) (w : bW) : Prop := ((0 : Int) ≤ 0 ∧ (0 : Int) ≤ w 65 10 ∧ (0 : Int) ≤ w 65 8 ∧ (0 : Int) + w 65 8 ≤ 310 ∧ (w 65 10 : Int) + w 65 8 ≤ 48000) ∧ ((0 ≤ b_i ((w 65 10) + (w 65 8)) ∧ b_i ((w 65 10) + (w 65 8)) < 48000) ∧ (True))
theorem vX16_save {d n : Nat} {w : bW} {Q : Int → bW → Prop} {X : String → bW → Prop} (hn : 143 ≤ n) (ok : oX16_save n w) (k : Q 0 (gX16_save w)) : b_K (d + 1) mX16_save [(2, 65)] n w Q X := by
  have i65 := iz65 (Nat.le_trans (Nat.le_of_ble_eq_true rfl) hn)
  have i68 := iz68 (Nat.le_trans (Nat.le_of_ble_eq_true rfl) hn)
  have i69 := iz69 (Nat.le_trans (Nat.le_of_ble_eq_true rfl) hn)
  unfold gX16_save at k
  unfold oX16_save at ok
  refine k_of (by decide) rfl rfl rfl (ls := [(2, 65)]) rfl ?_
  refine x_aload_n 0 dX16_save_0 rfl rfl rfl rfl rfl ?_
  refine y_getF 20 7 (c := 15) (z := 68) dX16_save_1 i65 rfl in_X16 q1106 rfl rfl rfl fn_65_7 (Nat.le_trans (Nat.le_of_ble_eq_true rfl) hn) rfl ?_
  refine x_iconst 0 (z := 0) dX16_save_4 rfl (by decide) rfl ?_
  refine x_aload_n 0 dX16_save_5 rfl rfl rfl rfl rfl ?_
  refine y_getF 25 9 (c := 15) (z := 69) dX16_save_6 i65 rfl in_X16 q1108 rfl rfl rfl fn_65_9 (Nat.le_trans (Nat.le_of_ble_eq_true rfl) hn) rfl ?_
  refine x_aload_n 0 dX16_save_9 rfl rfl rfl rfl rfl ?_
  refine y_get 59 10 (c := 15) (z := w 65 10) dX16_save_10 i65 rfl in_X16 q1109 rfl rfl rfl rfl rfl ?_
  refine x_aload_n 0 dX16_save_13 rfl rfl rfl rfl rfl ?_
  refine y_get 56 8 (c := 15) (z := w 65 8) dX16_save_14 i65 rfl in_X16 q1107 rfl rfl rfl rfl rfl ?_
  obtain ⟨e1, ok⟩ := ok
  refine x_copyi 212 dX16_save_17 q2170 q1893 q1892 q400 i68 i69 (by decide) (by decide) e1.1 e1.2.1 e1.2.2.1 e1.2.2.2.1 e1.2.2.2.2 (Nat.le_add_left 1 d) rfl rfl ?_
  refine x_aload_n 0 dX16_save_20 rfl rfl rfl rfl rfl ?_
  refine x_dup dX16_save_21 rfl rfl ?_
  refine y_get 59 10 (c := 15) (z := w 65 10) dX16_save_22 i65 rfl in_X16 q1109 rfl rfl rfl rfl rfl ?_
  refine x_aload_n 0 dX16_save_25 rfl rfl rfl rfl rfl ?_
  refine y_get 56 8 (c := 15) (z := w 65 8) dX16_save_26 i65 rfl in_X16 q1107 rfl rfl rfl rfl rfl ?_
  refine x_iadd dX16_save_29 rfl ?_
  refine x_put 59 10 (c := 15) dX16_save_30 i65 rfl in_X16 tyX16_ok nmX16 q1109 rfl rfl rfl (Or.inl rfl) (Or.inl ⟨rfl, rfl⟩) rfl ?_
  refine x_aload_n 0 dX16_save_33 rfl rfl rfl rfl rfl ?_
  refine y_getF 25 9 (c := 15) (z := 69) dX16_save_34 i65 rfl in_X16 q1108 rfl rfl rfl fn_65_9 (Nat.le_trans (Nat.le_of_ble_eq_true rfl) hn) rfl ?_
  refine x_aload_n 0 dX16_save_37 rfl rfl rfl rfl rfl ?_
  refine x_dup dX16_save_38 rfl rfl ?_
  refine y_get 59 10 (c := 15) (z := b_i ((w 65 10) + (w 65 8))) dX16_save_39 i65 rfl in_X16 q1109 rfl rfl rfl rfl rfl ?_
  refine x_dup_x1 dX16_save_42 rfl rfl rfl ?_
  refine x_iconst 1 (z := 1) dX16_save_43 rfl (by decide) rfl ?_
  refine x_iadd dX16_save_44 rfl ?_
  refine x_put 59 10 (c := 15) dX16_save_45 i65 rfl in_X16 tyX16_ok nmX16 q1109 rfl rfl rfl (Or.inl rfl) (Or.inl ⟨rfl, rfl⟩) rfl ?_
  refine x_aload_n 0 dX16_save_48 rfl rfl rfl rfl rfl ?_
  refine y_get 56 8 (c := 15) (z := w 65 8) dX16_save_49 i65 rfl in_X16 q1107 rfl rfl rfl rfl rfl ?_
  obtain ⟨e2, ok⟩ := ok
  refine y_iast (x' := w 65 8) dX16_save_52 ⟨48000, i69, e2⟩ rfl rfl ?_
  exact y_vret dX16_save_53 rfl k
def gX16_load (w : bW) (a1 : Int) : bW := (b_cp (b_up w 65 8 (w 69 (b_i (a1 - 1)))) 69 (b_i ((b_i (a1 - 1)) - (w 69 (b_i (a1 - 1))))) 68 0 (w 69 (b_i (a1 - 1))))
def oX16_load (n : Nat) (w : bW) (a1 : Int) : Prop := (0 ≤ b_i (a1 - 1) ∧ b_i (a1 - 1) < 48000) ∧ (((0 : Int) ≤ b_i ((b_i (a1 - 1)) - (w 69 (b_i (a1 - 1)))) ∧ (0 : Int) ≤ 0 ∧ (0 : Int) ≤ w 69 (b_i (a1 - 1)) ∧ (b_i ((b_i (a1 - 1)) - (w 69 (b_i (a1 - 1)))) : Int) + w 69 (b_i (a1 - 1)) ≤ 48000 ∧ (0 : Int) + w 69 (b_i (a1 - 1)) ≤ 310) ∧ (True))
theorem vX16_load {d n : Nat} {w : bW} {Q : Int → bW → Prop} {X : String → bW → Prop} (hn : 143 ≤ n) (a1 : Int) (ok : oX16_load n w a1) (k : Q 0 (gX16_load w a1)) : b_K (d + 1) mX16_load [(2, 65), (0, a1)] n w Q X := by
  have i65 := iz65 (Nat.le_trans (Nat.le_of_ble_eq_true rfl) hn)
  have i68 := iz68 (Nat.le_trans (Nat.le_of_ble_eq_true rfl) hn)
  have i69 := iz69 (Nat.le_trans (Nat.le_of_ble_eq_true rfl) hn)
  unfold gX16_load at k
  unfold oX16_load at ok
  refine k_of (by decide) rfl rfl rfl (ls := [(2, 65), (0, a1)]) rfl ?_
  refine x_aload_n 0 dX16_load_0 rfl rfl rfl rfl rfl ?_
  refine x_aload_n 0 dX16_load_1 rfl rfl rfl rfl rfl ?_
  refine y_getF 25 9 (c := 15) (z := 69) dX16_load_2 i65 rfl in_X16 q1108 rfl rfl rfl fn_65_9 (Nat.le_trans (Nat.le_of_ble_eq_true rfl) hn) rfl ?_
  refine x_iload_n 1 dX16_load_5 rfl rfl rfl ?_
  refine x_iconst 1 (z := 1) dX16_load_6 rfl (by decide) rfl ?_
  refine x_isub dX16_load_7 rfl ?_
  obtain ⟨e1, ok⟩ := ok
  refine y_iald (z := w 69 (b_i (a1 - 1))) dX16_load_8 ⟨48000, i69, e1⟩ rfl rfl ?_
  refine x_put 56 8 (c := 15) dX16_load_9 i65 rfl in_X16 tyX16_ok nmX16 q1107 rfl rfl rfl (Or.inl rfl) (Or.inl ⟨rfl, rfl⟩) rfl ?_
  refine x_aload_n 0 dX16_load_12 rfl rfl rfl rfl rfl ?_
  refine y_getF 25 9 (c := 15) (z := 69) dX16_load_13 i65 rfl in_X16 q1108 rfl rfl rfl fn_65_9 (Nat.le_trans (Nat.le_of_ble_eq_true rfl) hn) rfl ?_
  refine x_iload_n 1 dX16_load_16 rfl rfl rfl ?_
  refine x_iconst 1 (z := 1) dX16_load_17 rfl (by decide) rfl ?_
  refine x_isub dX16_load_18 rfl ?_
  refine x_aload_n 0 dX16_load_19 rfl rfl rfl rfl rfl ?_
  refine y_get 56 8 (c := 15) (z := w 69 (b_i (a1 - 1))) dX16_load_20 i65 rfl in_X16 q1107 rfl rfl rfl rfl rfl ?_
  refine x_isub dX16_load_23 rfl ?_
  refine x_aload_n 0 dX16_load_24 rfl rfl rfl rfl rfl ?_
  refine y_getF 20 7 (c := 15) (z := 68) dX16_load_25 i65 rfl in_X16 q1106 rfl rfl rfl fn_65_7 (Nat.le_trans (Nat.le_of_ble_eq_true rfl) hn) rfl ?_
  refine x_iconst 0 (z := 0) dX16_load_28 rfl (by decide) rfl ?_
  refine x_aload_n 0 dX16_load_29 rfl rfl rfl rfl rfl ?_
  refine y_get 56 8 (c := 15) (z := w 69 (b_i (a1 - 1))) dX16_load_30 i65 rfl in_X16 q1107 rfl rfl rfl rfl rfl ?_
  obtain ⟨e2, ok⟩ := ok
  refine x_copyi 212 dX16_load_33 q2170 q1893 q1892 q400 i69 i68 (by decide) (by decide) e2.1 e2.2.1 e2.2.2.1 e2.2.2.2.1 e2.2.2.2.2 (Nat.le_add_left 1 d) rfl rfl ?_
  exact y_vret dX16_load_36 rfl k
def fX16_isOne (w : bW) (a0 : Int) : Int := (if a0 < 69 then (if a0 = 76 then 1 else (if a0 < 80 then 0 else (if 85 < a0 then 0 else 1))) else (if a0 ≤ 72 then 1 else (if a0 = 76 then 1 else (if a0 < 80 then 0 else (if 85 < a0 then 0 else 1)))))
theorem vX16_isOne {d n : Nat} {w : bW} {Q : Int → bW → Prop} {X : String → bW → Prop} (a0 : Int) (k : Q (fX16_isOne w a0) w) : b_K (d + 1) mX16_isOne [(0, a0)] n w Q X := by
  unfold fX16_isOne at k
  refine k_of (by decide) rfl rfl rfl (ls := [(0, a0)]) rfl ?_
  refine x_iload_n 0 dX16_isOne_0 rfl rfl rfl ?_
  refine x_bipush 69 (z := 69) dX16_isOne_1 rfl (by decide) rfl ?_
  refine x_icmp_lt (t := 12) 9 dX16_isOne_3 rfl rfl (b_itqv (b_tt _) k (fun hc ok k => ?_) (fun hc ok k => ?_))
  · refine x_iload_n 0 dX16_isOne_12 rfl rfl rfl ?_
    refine x_bipush 76 (z := 76) dX16_isOne_13 rfl (by decide) rfl ?_
    refine x_icmp_eq (t := 30) 15 dX16_isOne_15 rfl rfl (b_itqv (b_tt _) k (fun hc ok k => ?_) (fun hc ok k => ?_))
    · refine x_iconst 1 (z := 1) dX16_isOne_30 rfl (by decide) rfl ?_
      refine x_goto 4 (q := 35) dX16_isOne_31 rfl ?_
      exact y_zret dX16_isOne_35 rfl (by decide) k
    · refine x_iload_n 0 dX16_isOne_18 rfl rfl rfl ?_
      refine x_bipush 80 (z := 80) dX16_isOne_19 rfl (by decide) rfl ?_
      refine x_icmp_lt (t := 34) 13 dX16_isOne_21 rfl rfl (b_itqv (b_tt _) k (fun hc ok k => ?_) (fun hc ok k => ?_))
      · refine x_iconst 0 (z := 0) dX16_isOne_34 rfl (by decide) rfl ?_
        exact y_zret dX16_isOne_35 rfl (by decide) k
      · refine x_iload_n 0 dX16_isOne_24 rfl rfl rfl ?_
        refine x_bipush 85 (z := 85) dX16_isOne_25 rfl (by decide) rfl ?_
        refine x_icmp_gt (t := 34) 7 dX16_isOne_27 rfl rfl (b_itqv (b_tt _) k (fun hc ok k => ?_) (fun hc ok k => ?_))
        · refine x_iconst 0 (z := 0) dX16_isOne_34 rfl (by decide) rfl ?_
          exact y_zret dX16_isOne_35 rfl (by decide) k
        · refine x_iconst 1 (z := 1) dX16_isOne_30 rfl (by decide) rfl ?_
          refine x_goto 4 (q := 35) dX16_isOne_31 rfl ?_
          exact y_zret dX16_isOne_35 rfl (by decide) k
  · refine x_iload_n 0 dX16_isOne_6 rfl rfl rfl ?_
    refine x_bipush 72 (z := 72) dX16_isOne_7 rfl (by decide) rfl ?_
    refine x_icmp_le (t := 30) 21 dX16_isOne_9 rfl rfl (b_itqv (b_tt _) k (fun hc ok k => ?_) (fun hc ok k => ?_))
    · refine x_iconst 1 (z := 1) dX16_isOne_30 rfl (by decide) rfl ?_
      refine x_goto 4 (q := 35) dX16_isOne_31 rfl ?_
      exact y_zret dX16_isOne_35 rfl (by decide) k
    · refine x_iload_n 0 dX16_isOne_12 rfl rfl rfl ?_
      refine x_bipush 76 (z := 76) dX16_isOne_13 rfl (by decide) rfl ?_
      refine x_icmp_eq (t := 30) 15 dX16_isOne_15 rfl rfl (b_itqv (b_tt _) k (fun hc ok k => ?_) (fun hc ok k => ?_))
      · refine x_iconst 1 (z := 1) dX16_isOne_30 rfl (by decide) rfl ?_
        refine x_goto 4 (q := 35) dX16_isOne_31 rfl ?_
        exact y_zret dX16_isOne_35 rfl (by decide) k
      · refine x_iload_n 0 dX16_isOne_18 rfl rfl rfl ?_
        refine x_bipush 80 (z := 80) dX16_isOne_19 rfl (by decide) rfl ?_
        refine x_icmp_lt (t := 34) 13 dX16_isOne_21 rfl rfl (b_itqv (b_tt _) k (fun hc ok k => ?_) (fun hc ok k => ?_))
        · refine x_iconst 0 (z := 0) dX16_isOne_34 rfl (by decide) rfl ?_
          exact y_zret dX16_isOne_35 rfl (by decide) k
        · refine x_iload_n 0 dX16_isOne_24 rfl rfl rfl ?_
          refine x_bipush 85 (z := 85) dX16_isOne_25 rfl (by decide) rfl ?_
          refine x_icmp_gt (t := 34) 7 dX16_isOne_27 rfl rfl (b_itqv (b_tt _) k (fun hc ok k => ?_) (fun hc ok k => ?_))
          · refine x_iconst 0 (z := 0) dX16_isOne_34 rfl (by decide) rfl ?_
            exact y_zret dX16_isOne_35 rfl (by decide) k
          · refine x_iconst 1 (z := 1) dX16_isOne_30 rfl (by decide) rfl ?_
            refine x_goto 4 (q := 35) dX16_isOne_31 rfl ?_
            exact y_zret dX16_isOne_35 rfl (by decide) k
def fX16_isWhole (w : bW) (a0 : Int) : Int := (if a0 = 2 then 1 else (if a0 ≠ 3 then 0 else 1))
theorem vX16_isWhole {d n : Nat} {w : bW} {Q : Int → bW → Prop} {X : String → bW → Prop} (a0 : Int) (k : Q (fX16_isWhole w a0) w) : b_K (d + 1) mX16_isWhole [(0, a0)] n w Q X := by
  unfold fX16_isWhole at k
  refine k_of (by decide) rfl rfl rfl (ls := [(0, a0)]) rfl ?_
  refine x_iload_n 0 dX16_isWhole_0 rfl rfl rfl ?_
  refine x_iconst 2 (z := 2) dX16_isWhole_1 rfl (by decide) rfl ?_
  refine x_icmp_eq (t := 10) 8 dX16_isWhole_2 rfl rfl (b_itqv (b_tt _) k (fun hc ok k => ?_) (fun hc ok k => ?_))
  · refine x_iconst 1 (z := 1) dX16_isWhole_10 rfl (by decide) rfl ?_
    refine x_goto 4 (q := 15) dX16_isWhole_11 rfl ?_
    exact y_zret dX16_isWhole_15 rfl (by decide) k
  · refine x_iload_n 0 dX16_isWhole_5 rfl rfl rfl ?_
    refine x_iconst 3 (z := 3) dX16_isWhole_6 rfl (by decide) rfl ?_
    refine x_icmp_ne (t := 14) 7 dX16_isWhole_7 rfl rfl (b_itqv (b_tt _) k (fun hc ok k => ?_) (fun hc ok k => ?_))
    · refine x_iconst 0 (z := 0) dX16_isWhole_14 rfl (by decide) rfl ?_
      exact y_zret dX16_isWhole_15 rfl (by decide) k
    · refine x_iconst 1 (z := 1) dX16_isWhole_10 rfl (by decide) rfl ?_
      refine x_goto 4 (q := 15) dX16_isWhole_11 rfl ?_
      exact y_zret dX16_isWhole_15 rfl (by decide) k
def fX16_become2 (w : bW) (a1 : Int) (a2 : Int) : Int := (if a2 < 0 then 0 else (if fX16_become w a1 a2 = 0 then 0 else 1))
def gX16_become2 (w : bW) (a1 : Int) (a2 : Int) : bW := (if a2 < 0 then w else (gX16_become w a1 a2))
def oX16_become2 (n : Nat) (w : bW) (a1 : Int) (a2 : Int) : Prop := if a2 < 0 then True else ((oX16_become n w a1 a2) ∧ (True))
theorem vX16_become2 {d n : Nat} {w : bW} {Q : Int → bW → Prop} {X : String → bW → Prop} (hn : 143 ≤ n) (a1 : Int) (a2 : Int) (ok : oX16_become2 n w a1 a2) (k : Q (fX16_become2 w a1 a2) (gX16_become2 w a1 a2)) : b_K (d + 2) mX16_become2 [(2, 65), (0, a1), (0, a2)] n w Q X := by
  have i65 := iz65 (Nat.le_trans (Nat.le_of_ble_eq_true rfl) hn)
  unfold fX16_become2 gX16_become2 at k
  unfold oX16_become2 at ok
  refine k_of (by decide) rfl rfl rfl (ls := [(2, 65), (0, a1), (0, a2)]) rfl ?_
  refine x_iload_n 2 dX16_become2_0 rfl rfl rfl ?_
  refine x_if_lt (t := 17) 16 dX16_become2_1 rfl rfl (b_itq ok k (fun hc ok k => ?_) (fun hc ok k => ?_))
  · refine x_iconst 0 (z := 0) dX16_become2_17 rfl (by decide) rfl ?_
    exact y_zret dX16_become2_18 rfl (by decide) k
  · refine x_aload_n 0 dX16_become2_4 rfl rfl rfl rfl rfl ?_
    refine x_iload_n 1 dX16_become2_5 rfl rfl rfl ?_
    refine x_iload_n 2 dX16_become2_6 rfl rfl rfl ?_
    obtain ⟨e3, ok⟩ := ok
    refine y_Vi 278 (M := mX16_become) (As := [(0, a1), (0, a2)]) (st := []) dX16_become2_7 i65 rfl q2143 q2145 qs49 q383 q2146 rfl hmX16_become rfl rfl rfl rfl rfl rfl rfl rfl (vX16_become (Nat.le_trans (Nat.le_of_ble_eq_true rfl) hn) a1 a2 e3 ?_)
    refine x_if_eq (t := 17) 7 dX16_become2_10 rfl rfl (b_itqv (b_tt _) k (fun hc ok k => ?_) (fun hc ok k => ?_))
    · refine x_iconst 0 (z := 0) dX16_become2_17 rfl (by decide) rfl ?_
      exact y_zret dX16_become2_18 rfl (by decide) k
    · refine x_iconst 1 (z := 1) dX16_become2_13 rfl (by decide) rfl ?_
      refine x_goto 4 (q := 18) dX16_become2_14 rfl ?_
      exact y_zret dX16_become2_18 rfl (by decide) k
def fX16_sum (w : bW) (a0 : Int) (a1 : Int) (a2 : Int) : Int := (if fX16_isWhole w a0 = 0 then (if a2 = 0 then (if a0 ≠ 4 then (if a0 ≠ 8 then (if a0 ≠ 2 then (-1) else (if a1 ≠ 8 then (-1) else 8)) else (if a1 = 2 then 8 else (if a0 ≠ 2 then (-1) else (if a1 ≠ 8 then (-1) else 8)))) else (if a1 ≠ 4 then (if a0 ≠ 8 then (if a0 ≠ 2 then (-1) else (if a1 ≠ 8 then (-1) else 8)) else (if a1 = 2 then 8 else (if a0 ≠ 2 then (-1) else (if a1 ≠ 8 then (-1) else 8)))) else 4)) else (if a0 ≠ 4 then (if a0 ≠ 3 then (-1) else (if a1 ≠ 4 then (-1) else 4)) else (if a1 = 3 then 4 else (if a0 ≠ 3 then (-1) else (if a1 ≠ 4 then (-1) else 4))))) else (if fX16_isWhole w a1 = 0 then (if a2 = 0 then (if a0 ≠ 4 then (if a0 ≠ 8 then (if a0 ≠ 2 then (-1) else (if a1 ≠ 8 then (-1) else 8)) else (if a1 = 2 then 8 else (if a0 ≠ 2 then (-1) else (if a1 ≠ 8 then (-1) else 8)))) else (if a1 ≠ 4 then (if a0 ≠ 8 then (if a0 ≠ 2 then (-1) else (if a1 ≠ 8 then (-1) else 8)) else (if a1 = 2 then 8 else (if a0 ≠ 2 then (-1) else (if a1 ≠ 8 then (-1) else 8)))) else 4)) else (if a0 ≠ 4 then (if a0 ≠ 3 then (-1) else (if a1 ≠ 4 then (-1) else 4)) else (if a1 = 3 then 4 else (if a0 ≠ 3 then (-1) else (if a1 ≠ 4 then (-1) else 4))))) else (if a0 ≠ 3 then 2 else (if a1 ≠ 3 then 2 else 3))))
theorem vX16_sum {d n : Nat} {w : bW} {Q : Int → bW → Prop} {X : String → bW → Prop} (a0 : Int) (a1 : Int) (a2 : Int) (k : Q (fX16_sum w a0 a1 a2) w) : b_K (d + 2) mX16_sum [(0, a0), (0, a1), (0, a2)] n w Q X := by
  unfold fX16_sum at k
  refine k_of (by decide) rfl rfl rfl (ls := [(0, a0), (0, a1), (0, a2)]) rfl ?_
  refine x_iload_n 0 dX16_sum_0 rfl rfl rfl ?_
  refine y_Si 345 (M := mX16_isWhole) (As := [(0, a0)]) (st := []) dX16_sum_1 q2254 q2255 q383 q2256 hmX16_isWhole rfl rfl rfl rfl rfl rfl rfl rfl (vX16_isWhole a0 ?_)
  refine x_if_eq (t := 30) 26 dX16_sum_4 rfl rfl (b_itqv (b_tt _) k (fun hc ok k => ?_) (fun hc ok k => ?_))
  · refine x_iload_n 2 dX16_sum_30 rfl rfl rfl ?_
    refine x_if_eq (t := 60) 29 dX16_sum_31 rfl rfl (b_itqv (b_tt _) k (fun hc ok k => ?_) (fun hc ok k => ?_))
    · refine x_iload_n 0 dX16_sum_60 rfl rfl rfl ?_
      refine x_iconst 4 (z := 4) dX16_sum_61 rfl (by decide) rfl ?_
      refine x_icmp_ne (t := 72) 10 dX16_sum_62 rfl rfl (b_itqv (b_tt _) k (fun hc ok k => ?_) (fun hc ok k => ?_))
      · refine x_iload_n 0 dX16_sum_72 rfl rfl rfl ?_
        refine x_bipush 8 (z := 8) dX16_sum_73 rfl (by decide) rfl ?_
        refine x_icmp_ne (t := 83) 8 dX16_sum_75 rfl rfl (b_itqv (b_tt _) k (fun hc ok k => ?_) (fun hc ok k => ?_))
        · refine x_iload_n 0 dX16_sum_83 rfl rfl rfl ?_
          refine x_iconst 2 (z := 2) dX16_sum_84 rfl (by decide) rfl ?_
          refine x_icmp_ne (t := 99) 14 dX16_sum_85 rfl rfl (b_itqv (b_tt _) k (fun hc ok k => ?_) (fun hc ok k => ?_))
          · refine x_iconst (-1) (z := (-1)) dX16_sum_99 rfl (by decide) rfl ?_
            exact y_iret dX16_sum_100 rfl k
          · refine x_iload_n 1 dX16_sum_88 rfl rfl rfl ?_
            refine x_bipush 8 (z := 8) dX16_sum_89 rfl (by decide) rfl ?_
            refine x_icmp_ne (t := 99) 8 dX16_sum_91 rfl rfl (b_itqv (b_tt _) k (fun hc ok k => ?_) (fun hc ok k => ?_))
            · refine x_iconst (-1) (z := (-1)) dX16_sum_99 rfl (by decide) rfl ?_
              exact y_iret dX16_sum_100 rfl k
            · refine x_bipush 8 (z := 8) dX16_sum_94 rfl (by decide) rfl ?_
              refine x_goto 4 (q := 100) dX16_sum_96 rfl ?_
              exact y_iret dX16_sum_100 rfl k
        · refine x_iload_n 1 dX16_sum_78 rfl rfl rfl ?_
          refine x_iconst 2 (z := 2) dX16_sum_79 rfl (by decide) rfl ?_
          refine x_icmp_eq (t := 94) 14 dX16_sum_80 rfl rfl (b_itqv (b_tt _) k (fun hc ok k => ?_) (fun hc ok k => ?_))
          · refine x_bipush 8 (z := 8) dX16_sum_94 rfl (by decide) rfl ?_
            refine x_goto 4 (q := 100) dX16_sum_96 rfl ?_
            exact y_iret dX16_sum_100 rfl k
          · refine x_iload_n 0 dX16_sum_83 rfl rfl rfl ?_
            refine x_iconst 2 (z := 2) dX16_sum_84 rfl (by decide) rfl ?_
            refine x_icmp_ne (t := 99) 14 dX16_sum_85 rfl rfl (b_itqv (b_tt _) k (fun hc ok k => ?_) (fun hc ok k => ?_))
            · refine x_iconst (-1) (z := (-1)) dX16_sum_99 rfl (by decide) rfl ?_
              exact y_iret dX16_sum_100 rfl k
            · refine x_iload_n 1 dX16_sum_88 rfl rfl rfl ?_
              refine x_bipush 8 (z := 8) dX16_sum_89 rfl (by decide) rfl ?_
              refine x_icmp_ne (t := 99) 8 dX16_sum_91 rfl rfl (b_itqv (b_tt _) k (fun hc ok k => ?_) (fun hc ok k => ?_))
              · refine x_iconst (-1) (z := (-1)) dX16_sum_99 rfl (by decide) rfl ?_
                exact y_iret dX16_sum_100 rfl k
              · refine x_bipush 8 (z := 8) dX16_sum_94 rfl (by decide) rfl ?_
                refine x_goto 4 (q := 100) dX16_sum_96 rfl ?_
                exact y_iret dX16_sum_100 rfl k
      · refine x_iload_n 1 dX16_sum_65 rfl rfl rfl ?_
        refine x_iconst 4 (z := 4) dX16_sum_66 rfl (by decide) rfl ?_
        refine x_icmp_ne (t := 72) 5 dX16_sum_67 rfl rfl (b_itqv (b_tt _) k (fun hc ok k => ?_) (fun hc ok k => ?_))
        · refine x_iload_n 0 dX16_sum_72 rfl rfl rfl ?_
          refine x_bipush 8 (z := 8) dX16_sum_73 rfl (by decide) rfl ?_
          refine x_icmp_ne (t := 83) 8 dX16_sum_75 rfl rfl (b_itqv (b_tt _) k (fun hc ok k => ?_) (fun hc ok k => ?_))
          · refine x_iload_n 0 dX16_sum_83 rfl rfl rfl ?_
            refine x_iconst 2 (z := 2) dX16_sum_84 rfl (by decide) rfl ?_
            refine x_icmp_ne (t := 99) 14 dX16_sum_85 rfl rfl (b_itqv (b_tt _) k (fun hc ok k => ?_) (fun hc ok k => ?_))
            · refine x_iconst (-1) (z := (-1)) dX16_sum_99 rfl (by decide) rfl ?_
              exact y_iret dX16_sum_100 rfl k
            · refine x_iload_n 1 dX16_sum_88 rfl rfl rfl ?_
              refine x_bipush 8 (z := 8) dX16_sum_89 rfl (by decide) rfl ?_
              refine x_icmp_ne (t := 99) 8 dX16_sum_91 rfl rfl (b_itqv (b_tt _) k (fun hc ok k => ?_) (fun hc ok k => ?_))
              · refine x_iconst (-1) (z := (-1)) dX16_sum_99 rfl (by decide) rfl ?_
                exact y_iret dX16_sum_100 rfl k
              · refine x_bipush 8 (z := 8) dX16_sum_94 rfl (by decide) rfl ?_
                refine x_goto 4 (q := 100) dX16_sum_96 rfl ?_
                exact y_iret dX16_sum_100 rfl k
          · refine x_iload_n 1 dX16_sum_78 rfl rfl rfl ?_
            refine x_iconst 2 (z := 2) dX16_sum_79 rfl (by decide) rfl ?_
            refine x_icmp_eq (t := 94) 14 dX16_sum_80 rfl rfl (b_itqv (b_tt _) k (fun hc ok k => ?_) (fun hc ok k => ?_))
            · refine x_bipush 8 (z := 8) dX16_sum_94 rfl (by decide) rfl ?_
              refine x_goto 4 (q := 100) dX16_sum_96 rfl ?_
              exact y_iret dX16_sum_100 rfl k
            · refine x_iload_n 0 dX16_sum_83 rfl rfl rfl ?_
              refine x_iconst 2 (z := 2) dX16_sum_84 rfl (by decide) rfl ?_
              refine x_icmp_ne (t := 99) 14 dX16_sum_85 rfl rfl (b_itqv (b_tt _) k (fun hc ok k => ?_) (fun hc ok k => ?_))
              · refine x_iconst (-1) (z := (-1)) dX16_sum_99 rfl (by decide) rfl ?_
                exact y_iret dX16_sum_100 rfl k
              · refine x_iload_n 1 dX16_sum_88 rfl rfl rfl ?_
                refine x_bipush 8 (z := 8) dX16_sum_89 rfl (by decide) rfl ?_
                refine x_icmp_ne (t := 99) 8 dX16_sum_91 rfl rfl (b_itqv (b_tt _) k (fun hc ok k => ?_) (fun hc ok k => ?_))
                · refine x_iconst (-1) (z := (-1)) dX16_sum_99 rfl (by decide) rfl ?_
                  exact y_iret dX16_sum_100 rfl k
                · refine x_bipush 8 (z := 8) dX16_sum_94 rfl (by decide) rfl ?_
                  refine x_goto 4 (q := 100) dX16_sum_96 rfl ?_
                  exact y_iret dX16_sum_100 rfl k
        · refine x_iconst 4 (z := 4) dX16_sum_70 rfl (by decide) rfl ?_
          exact y_iret dX16_sum_71 rfl k
    · refine x_iload_n 0 dX16_sum_34 rfl rfl rfl ?_
      refine x_iconst 4 (z := 4) dX16_sum_35 rfl (by decide) rfl ?_
      refine x_icmp_ne (t := 44) 8 dX16_sum_36 rfl rfl (b_itqv (b_tt _) k (fun hc ok k => ?_) (fun hc ok k => ?_))
      · refine x_iload_n 0 dX16_sum_44 rfl rfl rfl ?_
        refine x_iconst 3 (z := 3) dX16_sum_45 rfl (by decide) rfl ?_
        refine x_icmp_ne (t := 58) 12 dX16_sum_46 rfl rfl (b_itqv (b_tt _) k (fun hc ok k => ?_) (fun hc ok k => ?_))
        · refine x_iconst (-1) (z := (-1)) dX16_sum_58 rfl (by decide) rfl ?_
          exact y_iret dX16_sum_59 rfl k
        · refine x_iload_n 1 dX16_sum_49 rfl rfl rfl ?_
          refine x_iconst 4 (z := 4) dX16_sum_50 rfl (by decide) rfl ?_
          refine x_icmp_ne (t := 58) 7 dX16_sum_51 rfl rfl (b_itqv (b_tt _) k (fun hc ok k => ?_) (fun hc ok k => ?_))
          · refine x_iconst (-1) (z := (-1)) dX16_sum_58 rfl (by decide) rfl ?_
            exact y_iret dX16_sum_59 rfl k
          · refine x_iconst 4 (z := 4) dX16_sum_54 rfl (by decide) rfl ?_
            refine x_goto 4 (q := 59) dX16_sum_55 rfl ?_
            exact y_iret dX16_sum_59 rfl k
      · refine x_iload_n 1 dX16_sum_39 rfl rfl rfl ?_
        refine x_iconst 3 (z := 3) dX16_sum_40 rfl (by decide) rfl ?_
        refine x_icmp_eq (t := 54) 13 dX16_sum_41 rfl rfl (b_itqv (b_tt _) k (fun hc ok k => ?_) (fun hc ok k => ?_))
        · refine x_iconst 4 (z := 4) dX16_sum_54 rfl (by decide) rfl ?_
          refine x_goto 4 (q := 59) dX16_sum_55 rfl ?_
          exact y_iret dX16_sum_59 rfl k
        · refine x_iload_n 0 dX16_sum_44 rfl rfl rfl ?_
          refine x_iconst 3 (z := 3) dX16_sum_45 rfl (by decide) rfl ?_
          refine x_icmp_ne (t := 58) 12 dX16_sum_46 rfl rfl (b_itqv (b_tt _) k (fun hc ok k => ?_) (fun hc ok k => ?_))
          · refine x_iconst (-1) (z := (-1)) dX16_sum_58 rfl (by decide) rfl ?_
            exact y_iret dX16_sum_59 rfl k
          · refine x_iload_n 1 dX16_sum_49 rfl rfl rfl ?_
            refine x_iconst 4 (z := 4) dX16_sum_50 rfl (by decide) rfl ?_
            refine x_icmp_ne (t := 58) 7 dX16_sum_51 rfl rfl (b_itqv (b_tt _) k (fun hc ok k => ?_) (fun hc ok k => ?_))
            · refine x_iconst (-1) (z := (-1)) dX16_sum_58 rfl (by decide) rfl ?_
              exact y_iret dX16_sum_59 rfl k
            · refine x_iconst 4 (z := 4) dX16_sum_54 rfl (by decide) rfl ?_
              refine x_goto 4 (q := 59) dX16_sum_55 rfl ?_
              exact y_iret dX16_sum_59 rfl k
  · refine x_iload_n 1 dX16_sum_7 rfl rfl rfl ?_
    refine y_Si 345 (M := mX16_isWhole) (As := [(0, a1)]) (st := []) dX16_sum_8 q2254 q2255 q383 q2256 hmX16_isWhole rfl rfl rfl rfl rfl rfl rfl rfl (vX16_isWhole a1 ?_)
    refine x_if_eq (t := 30) 19 dX16_sum_11 rfl rfl (b_itqv (b_tt _) k (fun hc ok k => ?_) (fun hc ok k => ?_))
    · refine x_iload_n 2 dX16_sum_30 rfl rfl rfl ?_
      refine x_if_eq (t := 60) 29 dX16_sum_31 rfl rfl (b_itqv (b_tt _) k (fun hc ok k => ?_) (fun hc ok k => ?_))
      · refine x_iload_n 0 dX16_sum_60 rfl rfl rfl ?_
        refine x_iconst 4 (z := 4) dX16_sum_61 rfl (by decide) rfl ?_
        refine x_icmp_ne (t := 72) 10 dX16_sum_62 rfl rfl (b_itqv (b_tt _) k (fun hc ok k => ?_) (fun hc ok k => ?_))
        · refine x_iload_n 0 dX16_sum_72 rfl rfl rfl ?_
          refine x_bipush 8 (z := 8) dX16_sum_73 rfl (by decide) rfl ?_
          refine x_icmp_ne (t := 83) 8 dX16_sum_75 rfl rfl (b_itqv (b_tt _) k (fun hc ok k => ?_) (fun hc ok k => ?_))
          · refine x_iload_n 0 dX16_sum_83 rfl rfl rfl ?_
            refine x_iconst 2 (z := 2) dX16_sum_84 rfl (by decide) rfl ?_
            refine x_icmp_ne (t := 99) 14 dX16_sum_85 rfl rfl (b_itqv (b_tt _) k (fun hc ok k => ?_) (fun hc ok k => ?_))
            · refine x_iconst (-1) (z := (-1)) dX16_sum_99 rfl (by decide) rfl ?_
              exact y_iret dX16_sum_100 rfl k
            · refine x_iload_n 1 dX16_sum_88 rfl rfl rfl ?_
              refine x_bipush 8 (z := 8) dX16_sum_89 rfl (by decide) rfl ?_
              refine x_icmp_ne (t := 99) 8 dX16_sum_91 rfl rfl (b_itqv (b_tt _) k (fun hc ok k => ?_) (fun hc ok k => ?_))
              · refine x_iconst (-1) (z := (-1)) dX16_sum_99 rfl (by decide) rfl ?_
                exact y_iret dX16_sum_100 rfl k
              · refine x_bipush 8 (z := 8) dX16_sum_94 rfl (by decide) rfl ?_
                refine x_goto 4 (q := 100) dX16_sum_96 rfl ?_
                exact y_iret dX16_sum_100 rfl k
          · refine x_iload_n 1 dX16_sum_78 rfl rfl rfl ?_
            refine x_iconst 2 (z := 2) dX16_sum_79 rfl (by decide) rfl ?_
            refine x_icmp_eq (t := 94) 14 dX16_sum_80 rfl rfl (b_itqv (b_tt _) k (fun hc ok k => ?_) (fun hc ok k => ?_))
            · refine x_bipush 8 (z := 8) dX16_sum_94 rfl (by decide) rfl ?_
              refine x_goto 4 (q := 100) dX16_sum_96 rfl ?_
              exact y_iret dX16_sum_100 rfl k
            · refine x_iload_n 0 dX16_sum_83 rfl rfl rfl ?_
              refine x_iconst 2 (z := 2) dX16_sum_84 rfl (by decide) rfl ?_
              refine x_icmp_ne (t := 99) 14 dX16_sum_85 rfl rfl (b_itqv (b_tt _) k (fun hc ok k => ?_) (fun hc ok k => ?_))
              · refine x_iconst (-1) (z := (-1)) dX16_sum_99 rfl (by decide) rfl ?_
                exact y_iret dX16_sum_100 rfl k
              · refine x_iload_n 1 dX16_sum_88 rfl rfl rfl ?_
                refine x_bipush 8 (z := 8) dX16_sum_89 rfl (by decide) rfl ?_
                refine x_icmp_ne (t := 99) 8 dX16_sum_91 rfl rfl (b_itqv (b_tt _) k (fun hc ok k => ?_) (fun hc ok k => ?_))
                · refine x_iconst (-1) (z := (-1)) dX16_sum_99 rfl (by decide) rfl ?_
                  exact y_iret dX16_sum_100 rfl k
                · refine x_bipush 8 (z := 8) dX16_sum_94 rfl (by decide) rfl ?_
                  refine x_goto 4 (q := 100) dX16_sum_96 rfl ?_
                  exact y_iret dX16_sum_100 rfl k
        · refine x_iload_n 1 dX16_sum_65 rfl rfl rfl ?_
          refine x_iconst 4 (z := 4) dX16_sum_66 rfl (by decide) rfl ?_
          refine x_icmp_ne (t := 72) 5 dX16_sum_67 rfl rfl (b_itqv (b_tt _) k (fun hc ok k => ?_) (fun hc ok k => ?_))
          · refine x_iload_n 0 dX16_sum_72 rfl rfl rfl ?_
            refine x_bipush 8 (z := 8) dX16_sum_73 rfl (by decide) rfl ?_
            refine x_icmp_ne (t := 83) 8 dX16_sum_75 rfl rfl (b_itqv (b_tt _) k (fun hc ok k => ?_) (fun hc ok k => ?_))
            · refine x_iload_n 0 dX16_sum_83 rfl rfl rfl ?_
              refine x_iconst 2 (z := 2) dX16_sum_84 rfl (by decide) rfl ?_
              refine x_icmp_ne (t := 99) 14 dX16_sum_85 rfl rfl (b_itqv (b_tt _) k (fun hc ok k => ?_) (fun hc ok k => ?_))
              · refine x_iconst (-1) (z := (-1)) dX16_sum_99 rfl (by decide) rfl ?_
                exact y_iret dX16_sum_100 rfl k
              · refine x_iload_n 1 dX16_sum_88 rfl rfl rfl ?_
                refine x_bipush 8 (z := 8) dX16_sum_89 rfl (by decide) rfl ?_
                refine x_icmp_ne (t := 99) 8 dX16_sum_91 rfl rfl (b_itqv (b_tt _) k (fun hc ok k => ?_) (fun hc ok k => ?_))
                · refine x_iconst (-1) (z := (-1)) dX16_sum_99 rfl (by decide) rfl ?_
                  exact y_iret dX16_sum_100 rfl k
                · refine x_bipush 8 (z := 8) dX16_sum_94 rfl (by decide) rfl ?_
                  refine x_goto 4 (q := 100) dX16_sum_96 rfl ?_
                  exact y_iret dX16_sum_100 rfl k
            · refine x_iload_n 1 dX16_sum_78 rfl rfl rfl ?_
              refine x_iconst 2 (z := 2) dX16_sum_79 rfl (by decide) rfl ?_
              refine x_icmp_eq (t := 94) 14 dX16_sum_80 rfl rfl (b_itqv (b_tt _) k (fun hc ok k => ?_) (fun hc ok k => ?_))
              · refine x_bipush 8 (z := 8) dX16_sum_94 rfl (by decide) rfl ?_
                refine x_goto 4 (q := 100) dX16_sum_96 rfl ?_
                exact y_iret dX16_sum_100 rfl k
              · refine x_iload_n 0 dX16_sum_83 rfl rfl rfl ?_
                refine x_iconst 2 (z := 2) dX16_sum_84 rfl (by decide) rfl ?_
                refine x_icmp_ne (t := 99) 14 dX16_sum_85 rfl rfl (b_itqv (b_tt _) k (fun hc ok k => ?_) (fun hc ok k => ?_))
                · refine x_iconst (-1) (z := (-1)) dX16_sum_99 rfl (by decide) rfl ?_
                  exact y_iret dX16_sum_100 rfl k
                · refine x_iload_n 1 dX16_sum_88 rfl rfl rfl ?_
                  refine x_bipush 8 (z := 8) dX16_sum_89 rfl (by decide) rfl ?_
                  refine x_icmp_ne (t := 99) 8 dX16_sum_91 rfl rfl (b_itqv (b_tt _) k (fun hc ok k => ?_) (fun hc ok k => ?_))
                  · refine x_iconst (-1) (z := (-1)) dX16_sum_99 rfl (by decide) rfl ?_
                    exact y_iret dX16_sum_100 rfl k
                  · refine x_bipush 8 (z := 8) dX16_sum_94 rfl (by decide) rfl ?_
                    refine x_goto 4 (q := 100) dX16_sum_96 rfl ?_
                    exact y_iret dX16_sum_100 rfl k
          · refine x_iconst 4 (z := 4) dX16_sum_70 rfl (by decide) rfl ?_
            exact y_iret dX16_sum_71 rfl k
      · refine x_iload_n 0 dX16_sum_34 rfl rfl rfl ?_
        refine x_iconst 4 (z := 4) dX16_sum_35 rfl (by decide) rfl ?_
        refine x_icmp_ne (t := 44) 8 dX16_sum_36 rfl rfl (b_itqv (b_tt _) k (fun hc ok k => ?_) (fun hc ok k => ?_))
        · refine x_iload_n 0 dX16_sum_44 rfl rfl rfl ?_
          refine x_iconst 3 (z := 3) dX16_sum_45 rfl (by decide) rfl ?_
          refine x_icmp_ne (t := 58) 12 dX16_sum_46 rfl rfl (b_itqv (b_tt _) k (fun hc ok k => ?_) (fun hc ok k => ?_))
          · refine x_iconst (-1) (z := (-1)) dX16_sum_58 rfl (by decide) rfl ?_
            exact y_iret dX16_sum_59 rfl k
          · refine x_iload_n 1 dX16_sum_49 rfl rfl rfl ?_
            refine x_iconst 4 (z := 4) dX16_sum_50 rfl (by decide) rfl ?_
            refine x_icmp_ne (t := 58) 7 dX16_sum_51 rfl rfl (b_itqv (b_tt _) k (fun hc ok k => ?_) (fun hc ok k => ?_))
            · refine x_iconst (-1) (z := (-1)) dX16_sum_58 rfl (by decide) rfl ?_
              exact y_iret dX16_sum_59 rfl k
            · refine x_iconst 4 (z := 4) dX16_sum_54 rfl (by decide) rfl ?_
              refine x_goto 4 (q := 59) dX16_sum_55 rfl ?_
              exact y_iret dX16_sum_59 rfl k
        · refine x_iload_n 1 dX16_sum_39 rfl rfl rfl ?_
          refine x_iconst 3 (z := 3) dX16_sum_40 rfl (by decide) rfl ?_
          refine x_icmp_eq (t := 54) 13 dX16_sum_41 rfl rfl (b_itqv (b_tt _) k (fun hc ok k => ?_) (fun hc ok k => ?_))
          · refine x_iconst 4 (z := 4) dX16_sum_54 rfl (by decide) rfl ?_
            refine x_goto 4 (q := 59) dX16_sum_55 rfl ?_
            exact y_iret dX16_sum_59 rfl k
          · refine x_iload_n 0 dX16_sum_44 rfl rfl rfl ?_
            refine x_iconst 3 (z := 3) dX16_sum_45 rfl (by decide) rfl ?_
            refine x_icmp_ne (t := 58) 12 dX16_sum_46 rfl rfl (b_itqv (b_tt _) k (fun hc ok k => ?_) (fun hc ok k => ?_))
            · refine x_iconst (-1) (z := (-1)) dX16_sum_58 rfl (by decide) rfl ?_
              exact y_iret dX16_sum_59 rfl k
            · refine x_iload_n 1 dX16_sum_49 rfl rfl rfl ?_
              refine x_iconst 4 (z := 4) dX16_sum_50 rfl (by decide) rfl ?_
              refine x_icmp_ne (t := 58) 7 dX16_sum_51 rfl rfl (b_itqv (b_tt _) k (fun hc ok k => ?_) (fun hc ok k => ?_))
              · refine x_iconst (-1) (z := (-1)) dX16_sum_58 rfl (by decide) rfl ?_
                exact y_iret dX16_sum_59 rfl k
              · refine x_iconst 4 (z := 4) dX16_sum_54 rfl (by decide) rfl ?_
                refine x_goto 4 (q := 59) dX16_sum_55 rfl ?_
                exact y_iret dX16_sum_59 rfl k
    · refine x_iload_n 0 dX16_sum_14 rfl rfl rfl ?_
      refine x_iconst 3 (z := 3) dX16_sum_15 rfl (by decide) rfl ?_
      refine x_icmp_ne (t := 28) 12 dX16_sum_16 rfl rfl (b_itqv (b_tt _) k (fun hc ok k => ?_) (fun hc ok k => ?_))
      · refine x_iconst 2 (z := 2) dX16_sum_28 rfl (by decide) rfl ?_
        exact y_iret dX16_sum_29 rfl k
      · refine x_iload_n 1 dX16_sum_19 rfl rfl rfl ?_
        refine x_iconst 3 (z := 3) dX16_sum_20 rfl (by decide) rfl ?_
        refine x_icmp_ne (t := 28) 7 dX16_sum_21 rfl rfl (b_itqv (b_tt _) k (fun hc ok k => ?_) (fun hc ok k => ?_))
        · refine x_iconst 2 (z := 2) dX16_sum_28 rfl (by decide) rfl ?_
          exact y_iret dX16_sum_29 rfl k
        · refine x_iconst 3 (z := 3) dX16_sum_24 rfl (by decide) rfl ?_
          refine x_goto 4 (q := 29) dX16_sum_25 rfl ?_
          exact y_iret dX16_sum_29 rfl k
def fX16_difference (w : bW) (a0 : Int) (a1 : Int) : Int := (if fX16_isWhole w a0 = 0 then (if a0 ≠ 8 then (if a0 ≠ 8 then (-1) else (if a1 ≠ 2 then (-1) else 8)) else (if a1 ≠ 8 then (if a0 ≠ 8 then (-1) else (if a1 ≠ 2 then (-1) else 8)) else 2)) else (if fX16_isWhole w a1 ≠ 0 then 2 else (if a0 ≠ 8 then (if a0 ≠ 8 then (-1) else (if a1 ≠ 2 then (-1) else 8)) else (if a1 ≠ 8 then (if a0 ≠ 8 then (-1) else (if a1 ≠ 2 then (-1) else 8)) else 2))))
theorem vX16_difference {d n : Nat} {w : bW} {Q : Int → bW → Prop} {X : String → bW → Prop} (a0 : Int) (a1 : Int) (k : Q (fX16_difference w a0 a1) w) : b_K (d + 2) mX16_difference [(0, a0), (0, a1)] n w Q X := by
  unfold fX16_difference at k
  refine k_of (by decide) rfl rfl rfl (ls := [(0, a0), (0, a1)]) rfl ?_
  refine x_iload_n 0 dX16_difference_0 rfl rfl rfl ?_
  refine y_Si 345 (M := mX16_isWhole) (As := [(0, a0)]) (st := []) dX16_difference_1 q2254 q2255 q383 q2256 hmX16_isWhole rfl rfl rfl rfl rfl rfl rfl rfl (vX16_isWhole a0 ?_)
  refine x_if_eq (t := 14) 10 dX16_difference_4 rfl rfl (b_itqv (b_tt _) k (fun hc ok k => ?_) (fun hc ok k => ?_))
  · refine x_iload_n 0 dX16_difference_14 rfl rfl rfl ?_
    refine x_bipush 8 (z := 8) dX16_difference_15 rfl (by decide) rfl ?_
    refine x_icmp_ne (t := 28) 11 dX16_difference_17 rfl rfl (b_itqv (b_tt _) k (fun hc ok k => ?_) (fun hc ok k => ?_))
    · refine x_iload_n 0 dX16_difference_28 rfl rfl rfl ?_
      refine x_bipush 8 (z := 8) dX16_difference_29 rfl (by decide) rfl ?_
      refine x_icmp_ne (t := 44) 13 dX16_difference_31 rfl rfl (b_itqv (b_tt _) k (fun hc ok k => ?_) (fun hc ok k => ?_))
      · refine x_iconst (-1) (z := (-1)) dX16_difference_44 rfl (by decide) rfl ?_
        exact y_iret dX16_difference_45 rfl k
      · refine x_iload_n 1 dX16_difference_34 rfl rfl rfl ?_
        refine x_iconst 2 (z := 2) dX16_difference_35 rfl (by decide) rfl ?_
        refine x_icmp_ne (t := 44) 8 dX16_difference_36 rfl rfl (b_itqv (b_tt _) k (fun hc ok k => ?_) (fun hc ok k => ?_))
        · refine x_iconst (-1) (z := (-1)) dX16_difference_44 rfl (by decide) rfl ?_
          exact y_iret dX16_difference_45 rfl k
        · refine x_bipush 8 (z := 8) dX16_difference_39 rfl (by decide) rfl ?_
          refine x_goto 4 (q := 45) dX16_difference_41 rfl ?_
          exact y_iret dX16_difference_45 rfl k
    · refine x_iload_n 1 dX16_difference_20 rfl rfl rfl ?_
      refine x_bipush 8 (z := 8) dX16_difference_21 rfl (by decide) rfl ?_
      refine x_icmp_ne (t := 28) 5 dX16_difference_23 rfl rfl (b_itqv (b_tt _) k (fun hc ok k => ?_) (fun hc ok k => ?_))
      · refine x_iload_n 0 dX16_difference_28 rfl rfl rfl ?_
        refine x_bipush 8 (z := 8) dX16_difference_29 rfl (by decide) rfl ?_
        refine x_icmp_ne (t := 44) 13 dX16_difference_31 rfl rfl (b_itqv (b_tt _) k (fun hc ok k => ?_) (fun hc ok k => ?_))
        · refine x_iconst (-1) (z := (-1)) dX16_difference_44 rfl (by decide) rfl ?_
          exact y_iret dX16_difference_45 rfl k
        · refine x_iload_n 1 dX16_difference_34 rfl rfl rfl ?_
          refine x_iconst 2 (z := 2) dX16_difference_35 rfl (by decide) rfl ?_
          refine x_icmp_ne (t := 44) 8 dX16_difference_36 rfl rfl (b_itqv (b_tt _) k (fun hc ok k => ?_) (fun hc ok k => ?_))
          · refine x_iconst (-1) (z := (-1)) dX16_difference_44 rfl (by decide) rfl ?_
            exact y_iret dX16_difference_45 rfl k
          · refine x_bipush 8 (z := 8) dX16_difference_39 rfl (by decide) rfl ?_
            refine x_goto 4 (q := 45) dX16_difference_41 rfl ?_
            exact y_iret dX16_difference_45 rfl k
      · refine x_iconst 2 (z := 2) dX16_difference_26 rfl (by decide) rfl ?_
        exact y_iret dX16_difference_27 rfl k
  · refine x_iload_n 1 dX16_difference_7 rfl rfl rfl ?_
    refine y_Si 345 (M := mX16_isWhole) (As := [(0, a1)]) (st := []) dX16_difference_8 q2254 q2255 q383 q2256 hmX16_isWhole rfl rfl rfl rfl rfl rfl rfl rfl (vX16_isWhole a1 ?_)
    refine x_if_ne (t := 26) 15 dX16_difference_11 rfl rfl (b_itqv (b_tt _) k (fun hc ok k => ?_) (fun hc ok k => ?_))
    · refine x_iconst 2 (z := 2) dX16_difference_26 rfl (by decide) rfl ?_
      exact y_iret dX16_difference_27 rfl k
    · refine x_iload_n 0 dX16_difference_14 rfl rfl rfl ?_
      refine x_bipush 8 (z := 8) dX16_difference_15 rfl (by decide) rfl ?_
      refine x_icmp_ne (t := 28) 11 dX16_difference_17 rfl rfl (b_itqv (b_tt _) k (fun hc ok k => ?_) (fun hc ok k => ?_))
      · refine x_iload_n 0 dX16_difference_28 rfl rfl rfl ?_
        refine x_bipush 8 (z := 8) dX16_difference_29 rfl (by decide) rfl ?_
        refine x_icmp_ne (t := 44) 13 dX16_difference_31 rfl rfl (b_itqv (b_tt _) k (fun hc ok k => ?_) (fun hc ok k => ?_))
        · refine x_iconst (-1) (z := (-1)) dX16_difference_44 rfl (by decide) rfl ?_
          exact y_iret dX16_difference_45 rfl k
        · refine x_iload_n 1 dX16_difference_34 rfl rfl rfl ?_
          refine x_iconst 2 (z := 2) dX16_difference_35 rfl (by decide) rfl ?_
          refine x_icmp_ne (t := 44) 8 dX16_difference_36 rfl rfl (b_itqv (b_tt _) k (fun hc ok k => ?_) (fun hc ok k => ?_))
          · refine x_iconst (-1) (z := (-1)) dX16_difference_44 rfl (by decide) rfl ?_
            exact y_iret dX16_difference_45 rfl k
          · refine x_bipush 8 (z := 8) dX16_difference_39 rfl (by decide) rfl ?_
            refine x_goto 4 (q := 45) dX16_difference_41 rfl ?_
            exact y_iret dX16_difference_45 rfl k
      · refine x_iload_n 1 dX16_difference_20 rfl rfl rfl ?_
        refine x_bipush 8 (z := 8) dX16_difference_21 rfl (by decide) rfl ?_
        refine x_icmp_ne (t := 28) 5 dX16_difference_23 rfl rfl (b_itqv (b_tt _) k (fun hc ok k => ?_) (fun hc ok k => ?_))
        · refine x_iload_n 0 dX16_difference_28 rfl rfl rfl ?_
          refine x_bipush 8 (z := 8) dX16_difference_29 rfl (by decide) rfl ?_
          refine x_icmp_ne (t := 44) 13 dX16_difference_31 rfl rfl (b_itqv (b_tt _) k (fun hc ok k => ?_) (fun hc ok k => ?_))
          · refine x_iconst (-1) (z := (-1)) dX16_difference_44 rfl (by decide) rfl ?_
            exact y_iret dX16_difference_45 rfl k
          · refine x_iload_n 1 dX16_difference_34 rfl rfl rfl ?_
            refine x_iconst 2 (z := 2) dX16_difference_35 rfl (by decide) rfl ?_
            refine x_icmp_ne (t := 44) 8 dX16_difference_36 rfl rfl (b_itqv (b_tt _) k (fun hc ok k => ?_) (fun hc ok k => ?_))
            · refine x_iconst (-1) (z := (-1)) dX16_difference_44 rfl (by decide) rfl ?_
              exact y_iret dX16_difference_45 rfl k
            · refine x_bipush 8 (z := 8) dX16_difference_39 rfl (by decide) rfl ?_
              refine x_goto 4 (q := 45) dX16_difference_41 rfl ?_
              exact y_iret dX16_difference_45 rfl k
        · refine x_iconst 2 (z := 2) dX16_difference_26 rfl (by decide) rfl ?_
          exact y_iret dX16_difference_27 rfl k
def fX16_bits (w : bW) (a0 : Int) (a1 : Int) (a2 : Int) : Int := (if a1 ≠ 1 then (if a2 ≠ 3 then (-1) else (if a1 = 3 then 3 else (if a0 ≠ 73 then (-1) else (if a1 ≠ 2 then (-1) else 3)))) else (if a2 ≠ 1 then (if a2 ≠ 3 then (-1) else (if a1 = 3 then 3 else (if a0 ≠ 73 then (-1) else (if a1 ≠ 2 then (-1) else 3)))) else 1))
theorem vX16_bits {d n : Nat} {w : bW} {Q : Int → bW → Prop} {X : String → bW → Prop} (a0 : Int) (a1 : Int) (a2 : Int) (k : Q (fX16_bits w a0 a1 a2) w) : b_K (d + 1) mX16_bits [(0, a0), (0, a1), (0, a2)] n w Q X := by
  unfold fX16_bits at k
  refine k_of (by decide) rfl rfl rfl (ls := [(0, a0), (0, a1), (0, a2), (9, 0)]) rfl ?_
  refine x_iload_n 1 dX16_bits_0 rfl rfl rfl ?_
  refine x_iconst 1 (z := 1) dX16_bits_1 rfl (by decide) rfl ?_
  refine x_icmp_ne (t := 12) 10 dX16_bits_2 rfl rfl (b_itqv (b_tt _) k (fun hc ok k => ?_) (fun hc ok k => ?_))
  · refine x_iload_n 2 dX16_bits_12 rfl rfl rfl ?_
    refine x_iconst 3 (z := 3) dX16_bits_13 rfl (by decide) rfl ?_
    refine x_icmp_ne (t := 37) 23 dX16_bits_14 rfl rfl (b_itqv (b_tt _) k (fun hc ok k => ?_) (fun hc ok k => ?_))
    · refine x_iconst 0 (z := 0) dX16_bits_37 rfl (by decide) rfl ?_
      refine x_istore_n 3 (ls' := [(0, a0), (0, a1), (0, a2), (0, 0)]) dX16_bits_38 rfl rfl rfl rfl ?_
      refine x_iload_n 3 dX16_bits_39 rfl rfl rfl ?_
      refine x_if_eq (t := 47) 7 dX16_bits_40 rfl rfl (b_ifT (by decide) ?_)
      refine x_iconst (-1) (z := (-1)) dX16_bits_47 rfl (by decide) rfl ?_
      exact y_iret dX16_bits_48 rfl k
    · refine x_iload_n 1 dX16_bits_17 rfl rfl rfl ?_
      refine x_iconst 3 (z := 3) dX16_bits_18 rfl (by decide) rfl ?_
      refine x_icmp_eq (t := 33) 14 dX16_bits_19 rfl rfl (b_itqv (b_tt _) k (fun hc ok k => ?_) (fun hc ok k => ?_))
      · refine x_iconst 1 (z := 1) dX16_bits_33 rfl (by decide) rfl ?_
        refine x_goto 4 (q := 38) dX16_bits_34 rfl ?_
        refine x_istore_n 3 (ls' := [(0, a0), (0, a1), (0, a2), (0, 1)]) dX16_bits_38 rfl rfl rfl rfl ?_
        refine x_iload_n 3 dX16_bits_39 rfl rfl rfl ?_
        refine x_if_eq (t := 47) 7 dX16_bits_40 rfl rfl (b_ifF (by decide) ?_)
        refine x_iconst 3 (z := 3) dX16_bits_43 rfl (by decide) rfl ?_
        refine x_goto 4 (q := 48) dX16_bits_44 rfl ?_
        exact y_iret dX16_bits_48 rfl k
      · refine x_iload_n 0 dX16_bits_22 rfl rfl rfl ?_
        refine x_bipush 73 (z := 73) dX16_bits_23 rfl (by decide) rfl ?_
        refine x_icmp_ne (t := 37) 12 dX16_bits_25 rfl rfl (b_itqv (b_tt _) k (fun hc ok k => ?_) (fun hc ok k => ?_))
        · refine x_iconst 0 (z := 0) dX16_bits_37 rfl (by decide) rfl ?_
          refine x_istore_n 3 (ls' := [(0, a0), (0, a1), (0, a2), (0, 0)]) dX16_bits_38 rfl rfl rfl rfl ?_
          refine x_iload_n 3 dX16_bits_39 rfl rfl rfl ?_
          refine x_if_eq (t := 47) 7 dX16_bits_40 rfl rfl (b_ifT (by decide) ?_)
          refine x_iconst (-1) (z := (-1)) dX16_bits_47 rfl (by decide) rfl ?_
          exact y_iret dX16_bits_48 rfl k
        · refine x_iload_n 1 dX16_bits_28 rfl rfl rfl ?_
          refine x_iconst 2 (z := 2) dX16_bits_29 rfl (by decide) rfl ?_
          refine x_icmp_ne (t := 37) 7 dX16_bits_30 rfl rfl (b_itqv (b_tt _) k (fun hc ok k => ?_) (fun hc ok k => ?_))
          · refine x_iconst 0 (z := 0) dX16_bits_37 rfl (by decide) rfl ?_
            refine x_istore_n 3 (ls' := [(0, a0), (0, a1), (0, a2), (0, 0)]) dX16_bits_38 rfl rfl rfl rfl ?_
            refine x_iload_n 3 dX16_bits_39 rfl rfl rfl ?_
            refine x_if_eq (t := 47) 7 dX16_bits_40 rfl rfl (b_ifT (by decide) ?_)
            refine x_iconst (-1) (z := (-1)) dX16_bits_47 rfl (by decide) rfl ?_
            exact y_iret dX16_bits_48 rfl k
          · refine x_iconst 1 (z := 1) dX16_bits_33 rfl (by decide) rfl ?_
            refine x_goto 4 (q := 38) dX16_bits_34 rfl ?_
            refine x_istore_n 3 (ls' := [(0, a0), (0, a1), (0, a2), (0, 1)]) dX16_bits_38 rfl rfl rfl rfl ?_
            refine x_iload_n 3 dX16_bits_39 rfl rfl rfl ?_
            refine x_if_eq (t := 47) 7 dX16_bits_40 rfl rfl (b_ifF (by decide) ?_)
            refine x_iconst 3 (z := 3) dX16_bits_43 rfl (by decide) rfl ?_
            refine x_goto 4 (q := 48) dX16_bits_44 rfl ?_
            exact y_iret dX16_bits_48 rfl k
  · refine x_iload_n 2 dX16_bits_5 rfl rfl rfl ?_
    refine x_iconst 1 (z := 1) dX16_bits_6 rfl (by decide) rfl ?_
    refine x_icmp_ne (t := 12) 5 dX16_bits_7 rfl rfl (b_itqv (b_tt _) k (fun hc ok k => ?_) (fun hc ok k => ?_))
    · refine x_iload_n 2 dX16_bits_12 rfl rfl rfl ?_
      refine x_iconst 3 (z := 3) dX16_bits_13 rfl (by decide) rfl ?_
      refine x_icmp_ne (t := 37) 23 dX16_bits_14 rfl rfl (b_itqv (b_tt _) k (fun hc ok k => ?_) (fun hc ok k => ?_))
      · refine x_iconst 0 (z := 0) dX16_bits_37 rfl (by decide) rfl ?_
        refine x_istore_n 3 (ls' := [(0, a0), (0, a1), (0, a2), (0, 0)]) dX16_bits_38 rfl rfl rfl rfl ?_
        refine x_iload_n 3 dX16_bits_39 rfl rfl rfl ?_
        refine x_if_eq (t := 47) 7 dX16_bits_40 rfl rfl (b_ifT (by decide) ?_)
        refine x_iconst (-1) (z := (-1)) dX16_bits_47 rfl (by decide) rfl ?_
        exact y_iret dX16_bits_48 rfl k
      · refine x_iload_n 1 dX16_bits_17 rfl rfl rfl ?_
        refine x_iconst 3 (z := 3) dX16_bits_18 rfl (by decide) rfl ?_
        refine x_icmp_eq (t := 33) 14 dX16_bits_19 rfl rfl (b_itqv (b_tt _) k (fun hc ok k => ?_) (fun hc ok k => ?_))
        · refine x_iconst 1 (z := 1) dX16_bits_33 rfl (by decide) rfl ?_
          refine x_goto 4 (q := 38) dX16_bits_34 rfl ?_
          refine x_istore_n 3 (ls' := [(0, a0), (0, a1), (0, a2), (0, 1)]) dX16_bits_38 rfl rfl rfl rfl ?_
          refine x_iload_n 3 dX16_bits_39 rfl rfl rfl ?_
          refine x_if_eq (t := 47) 7 dX16_bits_40 rfl rfl (b_ifF (by decide) ?_)
          refine x_iconst 3 (z := 3) dX16_bits_43 rfl (by decide) rfl ?_
          refine x_goto 4 (q := 48) dX16_bits_44 rfl ?_
          exact y_iret dX16_bits_48 rfl k
        · refine x_iload_n 0 dX16_bits_22 rfl rfl rfl ?_
          refine x_bipush 73 (z := 73) dX16_bits_23 rfl (by decide) rfl ?_
          refine x_icmp_ne (t := 37) 12 dX16_bits_25 rfl rfl (b_itqv (b_tt _) k (fun hc ok k => ?_) (fun hc ok k => ?_))
          · refine x_iconst 0 (z := 0) dX16_bits_37 rfl (by decide) rfl ?_
            refine x_istore_n 3 (ls' := [(0, a0), (0, a1), (0, a2), (0, 0)]) dX16_bits_38 rfl rfl rfl rfl ?_
            refine x_iload_n 3 dX16_bits_39 rfl rfl rfl ?_
            refine x_if_eq (t := 47) 7 dX16_bits_40 rfl rfl (b_ifT (by decide) ?_)
            refine x_iconst (-1) (z := (-1)) dX16_bits_47 rfl (by decide) rfl ?_
            exact y_iret dX16_bits_48 rfl k
          · refine x_iload_n 1 dX16_bits_28 rfl rfl rfl ?_
            refine x_iconst 2 (z := 2) dX16_bits_29 rfl (by decide) rfl ?_
            refine x_icmp_ne (t := 37) 7 dX16_bits_30 rfl rfl (b_itqv (b_tt _) k (fun hc ok k => ?_) (fun hc ok k => ?_))
            · refine x_iconst 0 (z := 0) dX16_bits_37 rfl (by decide) rfl ?_
              refine x_istore_n 3 (ls' := [(0, a0), (0, a1), (0, a2), (0, 0)]) dX16_bits_38 rfl rfl rfl rfl ?_
              refine x_iload_n 3 dX16_bits_39 rfl rfl rfl ?_
              refine x_if_eq (t := 47) 7 dX16_bits_40 rfl rfl (b_ifT (by decide) ?_)
              refine x_iconst (-1) (z := (-1)) dX16_bits_47 rfl (by decide) rfl ?_
              exact y_iret dX16_bits_48 rfl k
            · refine x_iconst 1 (z := 1) dX16_bits_33 rfl (by decide) rfl ?_
              refine x_goto 4 (q := 38) dX16_bits_34 rfl ?_
              refine x_istore_n 3 (ls' := [(0, a0), (0, a1), (0, a2), (0, 1)]) dX16_bits_38 rfl rfl rfl rfl ?_
              refine x_iload_n 3 dX16_bits_39 rfl rfl rfl ?_
              refine x_if_eq (t := 47) 7 dX16_bits_40 rfl rfl (b_ifF (by decide) ?_)
              refine x_iconst 3 (z := 3) dX16_bits_43 rfl (by decide) rfl ?_
              refine x_goto 4 (q := 48) dX16_bits_44 rfl ?_
              exact y_iret dX16_bits_48 rfl k
    · refine x_iconst 1 (z := 1) dX16_bits_10 rfl (by decide) rfl ?_
      exact y_iret dX16_bits_11 rfl k
def fX16_isText (w : bW) (a0 : Int) : Int := (if a0 = 5 then 1 else (if a0 ≠ 6 then 0 else 1))
theorem vX16_isText {d n : Nat} {w : bW} {Q : Int → bW → Prop} {X : String → bW → Prop} (a0 : Int) (k : Q (fX16_isText w a0) w) : b_K (d + 1) mX16_isText [(0, a0)] n w Q X := by
  unfold fX16_isText at k
  refine k_of (by decide) rfl rfl rfl (ls := [(0, a0)]) rfl ?_
  refine x_iload_n 0 dX16_isText_0 rfl rfl rfl ?_
  refine x_iconst 5 (z := 5) dX16_isText_1 rfl (by decide) rfl ?_
  refine x_icmp_eq (t := 11) 9 dX16_isText_2 rfl rfl (b_itqv (b_tt _) k (fun hc ok k => ?_) (fun hc ok k => ?_))
  · refine x_iconst 1 (z := 1) dX16_isText_11 rfl (by decide) rfl ?_
    refine x_goto 4 (q := 16) dX16_isText_12 rfl ?_
    exact y_zret dX16_isText_16 rfl (by decide) k
  · refine x_iload_n 0 dX16_isText_5 rfl rfl rfl ?_
    refine x_bipush 6 (z := 6) dX16_isText_6 rfl (by decide) rfl ?_
    refine x_icmp_ne (t := 15) 7 dX16_isText_8 rfl rfl (b_itqv (b_tt _) k (fun hc ok k => ?_) (fun hc ok k => ?_))
    · refine x_iconst 0 (z := 0) dX16_isText_15 rfl (by decide) rfl ?_
      exact y_zret dX16_isText_16 rfl (by decide) k
    · refine x_iconst 1 (z := 1) dX16_isText_11 rfl (by decide) rfl ?_
      refine x_goto 4 (q := 16) dX16_isText_12 rfl ?_
      exact y_zret dX16_isText_16 rfl (by decide) k
def gX17_save (w : bW) : bW := (b_up (b_up (b_up (b_cp (b_cp (b_cp (b_cp (b_cp w 71 0 77 0 200) 72 0 78 0 200) 73 0 79 0 200) 74 0 80 0 200) 75 0 81 0 200) 70 19 (w 70 7)) 70 20 (w 70 8)) 70 21 (w 70 10))
def oX17_save (n : Nat) (w : bW) : Prop := ((0 : Int) ≤ 0 ∧ (0 : Int) ≤ 0 ∧ (0 : Int) ≤ 200 ∧ (0 : Int) + 200 ≤ 200 ∧ (0 : Int) + 200 ≤ 200) ∧ (((0 : Int) ≤ 0 ∧ (0 : Int) ≤ 0 ∧ (0 : Int) ≤ 200 ∧ (0 : Int) + 200 ≤ 200 ∧ (0 : Int) + 200 ≤ 200) ∧ (((0 : Int) ≤ 0 ∧ (0 : Int) ≤ 0 ∧ (0 : Int) ≤ 200 ∧ (0 : Int) + 200 ≤ 200 ∧ (0 : Int) + 200 ≤ 200) ∧ (((0 : Int) ≤ 0 ∧ (0 : Int) ≤ 0 ∧ (0 : Int) ≤ 200 ∧ (0 : Int) + 200 ≤ 200 ∧ (0 : Int) + 200 ≤ 200) ∧ (((0 : Int) ≤ 0 ∧ (0 : Int) ≤ 0 ∧ (0 : Int) ≤ 200 ∧ (0 : Int) + 200 ≤ 200 ∧ (0 : Int) + 200 ≤ 200) ∧ (True)))))
theorem vX17_save {d n : Nat} {w : bW} {Q : Int → bW → Prop} {X : String → bW → Prop} (hn : 143 ≤ n) (ok : oX17_save n w) (k : Q 0 (gX17_save w)) : b_K (d + 1) mX17_save [(2, 70)] n w Q X := by
  have i70 := iz70 (Nat.le_trans (Nat.le_of_ble_eq_true rfl) hn)
  have i71 := iz71 (Nat.le_trans (Nat.le_of_ble_eq_true rfl) hn)
  have i72 := iz72 (Nat.le_trans (Nat.le_of_ble_eq_true rfl) hn)
  have i73 := iz73 (Nat.le_trans (Nat.le_of_ble_eq_true rfl) hn)
  have i74 := iz74 (Nat.le_trans (Nat.le_of_ble_eq_true rfl) hn)
  have i75 := iz75 (Nat.le_trans (Nat.le_of_ble_eq_true rfl) hn)
  have i77 := iz77 (Nat.le_trans (Nat.le_of_ble_eq_true rfl) hn)
  have i78 := iz78 (Nat.le_trans (Nat.le_of_ble_eq_true rfl) hn)
  have i79 := iz79 (Nat.le_trans (Nat.le_of_ble_eq_true rfl) hn)
  have i80 := iz80 (Nat.le_trans (Nat.le_of_ble_eq_true rfl) hn)
  have i81 := iz81 (Nat.le_trans (Nat.le_of_ble_eq_true rfl) hn)
  unfold gX17_save at k
  unfold oX17_save at ok
  refine k_of (by decide) rfl rfl rfl (ls := [(2, 70)]) rfl ?_
  refine x_aload_n 0 dX17_save_0 rfl rfl rfl rfl rfl ?_
  refine y_getF 7 0 (c := 16) (z := 71) dX17_save_1 i70 rfl in_X17 q1159 rfl rfl rfl fn_70_0 (Nat.le_trans (Nat.le_of_ble_eq_true rfl) hn) rfl ?_
  refine x_iconst 0 (z := 0) dX17_save_4 rfl (by decide) rfl ?_
  refine x_aload_n 0 dX17_save_5 rfl rfl rfl rfl rfl ?_
  refine y_getF 30 14 (c := 16) (z := 77) dX17_save_6 i70 rfl in_X17 q1195 rfl rfl rfl fn_70_14 (Nat.le_trans (Nat.le_of_ble_eq_true rfl) hn) rfl ?_
  refine x_iconst 0 (z := 0) dX17_save_9 rfl (by decide) rfl ?_
  refine x_sipush 200 (z := 200) dX17_save_10 rfl (by decide) rfl ?_
  obtain ⟨e1, ok⟩ := ok
  refine x_copyl 45 dX17_save_13 q2477 q1893 q1892 q400 i71 i77 (by decide) (by decide) e1.1 e1.2.1 e1.2.2.1 e1.2.2.2.1 e1.2.2.2.2 (Nat.le_add_left 1 d) rfl rfl ?_
  refine x_aload_n 0 dX17_save_16 rfl rfl rfl rfl rfl ?_
  refine y_getF 13 1 (c := 16) (z := 72) dX17_save_17 i70 rfl in_X17 q1162 rfl rfl rfl fn_70_1 (Nat.le_trans (Nat.le_of_ble_eq_true rfl) hn) rfl ?_
  refine x_iconst 0 (z := 0) dX17_save_20 rfl (by decide) rfl ?_
  refine x_aload_n 0 dX17_save_21 rfl rfl rfl rfl rfl ?_
  refine y_getF 33 15 (c := 16) (z := 78) dX17_save_22 i70 rfl in_X17 q1196 rfl rfl rfl fn_70_15 (Nat.le_trans (Nat.le_of_ble_eq_true rfl) hn) rfl ?_
  refine x_iconst 0 (z := 0) dX17_save_25 rfl (by decide) rfl ?_
  refine x_sipush 200 (z := 200) dX17_save_26 rfl (by decide) rfl ?_
  obtain ⟨e2, ok⟩ := ok
  refine x_copyi 45 dX17_save_29 q2477 q1893 q1892 q400 i72 i78 (by decide) (by decide) e2.1 e2.2.1 e2.2.2.1 e2.2.2.2.1 e2.2.2.2.2 (Nat.le_add_left 1 d) rfl rfl ?_
  refine x_aload_n 0 dX17_save_32 rfl rfl rfl rfl rfl ?_
  refine y_getF 17 2 (c := 16) (z := 73) dX17_save_33 i70 rfl in_X17 q1166 rfl rfl rfl fn_70_2 (Nat.le_trans (Nat.le_of_ble_eq_true rfl) hn) rfl ?_
  refine x_iconst 0 (z := 0) dX17_save_36 rfl (by decide) rfl ?_
  refine x_aload_n 0 dX17_save_37 rfl rfl rfl rfl rfl ?_
  refine y_getF 36 16 (c := 16) (z := 79) dX17_save_38 i70 rfl in_X17 q1197 rfl rfl rfl fn_70_16 (Nat.le_trans (Nat.le_of_ble_eq_true rfl) hn) rfl ?_
  refine x_iconst 0 (z := 0) dX17_save_41 rfl (by decide) rfl ?_
  refine x_sipush 200 (z := 200) dX17_save_42 rfl (by decide) rfl ?_
  obtain ⟨e3, ok⟩ := ok
  refine x_copyi 45 dX17_save_45 q2477 q1893 q1892 q400 i73 i79 (by decide) (by decide) e3.1 e3.2.1 e3.2.2.1 e3.2.2.2.1 e3.2.2.2.2 (Nat.le_add_left 1 d) rfl rfl ?_
  refine x_aload_n 0 dX17_save_48 rfl rfl rfl rfl rfl ?_
  refine y_getF 21 3 (c := 16) (z := 74) dX17_save_49 i70 rfl in_X17 q1170 rfl rfl rfl fn_70_3 (Nat.le_trans (Nat.le_of_ble_eq_true rfl) hn) rfl ?_
  refine x_iconst 0 (z := 0) dX17_save_52 rfl (by decide) rfl ?_
  refine x_aload_n 0 dX17_save_53 rfl rfl rfl rfl rfl ?_
  refine y_getF 39 17 (c := 16) (z := 80) dX17_save_54 i70 rfl in_X17 q1198 rfl rfl rfl fn_70_17 (Nat.le_trans (Nat.le_of_ble_eq_true rfl) hn) rfl ?_
  refine x_iconst 0 (z := 0) dX17_save_57 rfl (by decide) rfl ?_
  refine x_sipush 200 (z := 200) dX17_save_58 rfl (by decide) rfl ?_
  obtain ⟨e4, ok⟩ := ok
  refine x_copyi 45 dX17_save_61 q2477 q1893 q1892 q400 i74 i80 (by decide) (by decide) e4.1 e4.2.1 e4.2.2.1 e4.2.2.2.1 e4.2.2.2.2 (Nat.le_add_left 1 d) rfl rfl ?_
  refine x_aload_n 0 dX17_save_64 rfl rfl rfl rfl rfl ?_
  refine y_getF 24 4 (c := 16) (z := 75) dX17_save_65 i70 rfl in_X17 q1173 rfl rfl rfl fn_70_4 (Nat.le_trans (Nat.le_of_ble_eq_true rfl) hn) rfl ?_
  refine x_iconst 0 (z := 0) dX17_save_68 rfl (by decide) rfl ?_
  refine x_aload_n 0 dX17_save_69 rfl rfl rfl rfl rfl ?_
  refine y_getF 42 18 (c := 16) (z := 81) dX17_save_70 i70 rfl in_X17 q1199 rfl rfl rfl fn_70_18 (Nat.le_trans (Nat.le_of_ble_eq_true rfl) hn) rfl ?_
  refine x_iconst 0 (z := 0) dX17_save_73 rfl (by decide) rfl ?_
  refine x_sipush 200 (z := 200) dX17_save_74 rfl (by decide) rfl ?_
  obtain ⟨e5, ok⟩ := ok
  refine x_copyi 45 dX17_save_77 q2477 q1893 q1892 q400 i75 i81 (by decide) (by decide) e5.1 e5.2.1 e5.2.2.1 e5.2.2.2.1 e5.2.2.2.2 (Nat.le_add_left 1 d) rfl rfl ?_
  refine x_aload_n 0 dX17_save_80 rfl rfl rfl rfl rfl ?_
  refine x_aload_n 0 dX17_save_81 rfl rfl rfl rfl rfl ?_
  refine y_get 51 7 (c := 16) (z := w 70 7) dX17_save_82 i70 rfl in_X17 q1179 rfl rfl rfl rfl rfl ?_
  refine x_put 55 19 (c := 16) dX17_save_85 i70 rfl in_X17 tyX17_ok nmX17 q1200 rfl rfl rfl (Or.inl rfl) (Or.inl ⟨rfl, rfl⟩) rfl ?_
  refine x_aload_n 0 dX17_save_88 rfl rfl rfl rfl rfl ?_
  refine x_aload_n 0 dX17_save_89 rfl rfl rfl rfl rfl ?_
  refine y_get 58 8 (c := 16) (z := w 70 8) dX17_save_90 i70 rfl in_X17 q1183 rfl rfl rfl rfl rfl ?_
  refine x_put 61 20 (c := 16) dX17_save_93 i70 rfl in_X17 tyX17_ok nmX17 q1201 rfl rfl rfl (Or.inl rfl) (Or.inl ⟨rfl, rfl⟩) rfl ?_
  refine x_aload_n 0 dX17_save_96 rfl rfl rfl rfl rfl ?_
  refine x_aload_n 0 dX17_save_97 rfl rfl rfl rfl rfl ?_
  refine y_get 64 10 (c := 16) (z := w 70 10) dX17_save_98 i70 rfl in_X17 q1187 rfl rfl rfl rfl rfl ?_
  refine x_put 68 21 (c := 16) dX17_save_101 i70 rfl in_X17 tyX17_ok nmX17 q1202 rfl rfl rfl (Or.inl rfl) (Or.inr (Or.inr (Or.inl ⟨rfl, rfl⟩))) rfl ?_
  exact y_vret dX17_save_104 rfl k
def gX17_load (w : bW) : bW := (b_up (b_up (b_up (b_cp (b_cp (b_cp (b_cp (b_cp w 77 0 71 0 200) 78 0 72 0 200) 79 0 73 0 200) 80 0 74 0 200) 81 0 75 0 200) 70 7 (w 70 19)) 70 8 (w 70 20)) 70 10 (w 70 21))
def oX17_load (n : Nat) (w : bW) : Prop := ((0 : Int) ≤ 0 ∧ (0 : Int) ≤ 0 ∧ (0 : Int) ≤ 200 ∧ (0 : Int) + 200 ≤ 200 ∧ (0 : Int) + 200 ≤ 200) ∧ (((0 : Int) ≤ 0 ∧ (0 : Int) ≤ 0 ∧ (0 : Int) ≤ 200 ∧ (0 : Int) + 200 ≤ 200 ∧ (0 : Int) + 200 ≤ 200) ∧ (((0 : Int) ≤ 0 ∧ (0 : Int) ≤ 0 ∧ (0 : Int) ≤ 200 ∧ (0 : Int) + 200 ≤ 200 ∧ (0 : Int) + 200 ≤ 200) ∧ (((0 : Int) ≤ 0 ∧ (0 : Int) ≤ 0 ∧ (0 : Int) ≤ 200 ∧ (0 : Int) + 200 ≤ 200 ∧ (0 : Int) + 200 ≤ 200) ∧ (((0 : Int) ≤ 0 ∧ (0 : Int) ≤ 0 ∧ (0 : Int) ≤ 200 ∧ (0 : Int) + 200 ≤ 200 ∧ (0 : Int) + 200 ≤ 200) ∧ (True)))))
theorem vX17_load {d n : Nat} {w : bW} {Q : Int → bW → Prop} {X : String → bW → Prop} (hn : 143 ≤ n) (ok : oX17_load n w) (k : Q 0 (gX17_load w)) : b_K (d + 1) mX17_load [(2, 70)] n w Q X := by
  have i70 := iz70 (Nat.le_trans (Nat.le_of_ble_eq_true rfl) hn)
  have i71 := iz71 (Nat.le_trans (Nat.le_of_ble_eq_true rfl) hn)
  have i72 := iz72 (Nat.le_trans (Nat.le_of_ble_eq_true rfl) hn)
  have i73 := iz73 (Nat.le_trans (Nat.le_of_ble_eq_true rfl) hn)
  have i74 := iz74 (Nat.le_trans (Nat.le_of_ble_eq_true rfl) hn)
  have i75 := iz75 (Nat.le_trans (Nat.le_of_ble_eq_true rfl) hn)
  have i77 := iz77 (Nat.le_trans (Nat.le_of_ble_eq_true rfl) hn)
  have i78 := iz78 (Nat.le_trans (Nat.le_of_ble_eq_true rfl) hn)
  have i79 := iz79 (Nat.le_trans (Nat.le_of_ble_eq_true rfl) hn)
  have i80 := iz80 (Nat.le_trans (Nat.le_of_ble_eq_true rfl) hn)
  have i81 := iz81 (Nat.le_trans (Nat.le_of_ble_eq_true rfl) hn)
  unfold gX17_load at k
  unfold oX17_load at ok
  refine k_of (by decide) rfl rfl rfl (ls := [(2, 70)]) rfl ?_
  refine x_aload_n 0 dX17_load_0 rfl rfl rfl rfl rfl ?_
  refine y_getF 30 14 (c := 16) (z := 77) dX17_load_1 i70 rfl in_X17 q1195 rfl rfl rfl fn_70_14 (Nat.le_trans (Nat.le_of_ble_eq_true rfl) hn) rfl ?_
  refine x_iconst 0 (z := 0) dX17_load_4 rfl (by decide) rfl ?_
  refine x_aload_n 0 dX17_load_5 rfl rfl rfl rfl rfl ?_
  refine y_getF 7 0 (c := 16) (z := 71) dX17_load_6 i70 rfl in_X17 q1159 rfl rfl rfl fn_70_0 (Nat.le_trans (Nat.le_of_ble_eq_true rfl) hn) rfl ?_
  refine x_iconst 0 (z := 0) dX17_load_9 rfl (by decide) rfl ?_
  refine x_sipush 200 (z := 200) dX17_load_10 rfl (by decide) rfl ?_
  obtain ⟨e1, ok⟩ := ok
  refine x_copyl 45 dX17_load_13 q2477 q1893 q1892 q400 i77 i71 (by decide) (by decide) e1.1 e1.2.1 e1.2.2.1 e1.2.2.2.1 e1.2.2.2.2 (Nat.le_add_left 1 d) rfl rfl ?_
  refine x_aload_n 0 dX17_load_16 rfl rfl rfl rfl rfl ?_
  refine y_getF 33 15 (c := 16) (z := 78) dX17_load_17 i70 rfl in_X17 q1196 rfl rfl rfl fn_70_15 (Nat.le_trans (Nat.le_of_ble_eq_true rfl) hn) rfl ?_
  refine x_iconst 0 (z := 0) dX17_load_20 rfl (by decide) rfl ?_
  refine x_aload_n 0 dX17_load_21 rfl rfl rfl rfl rfl ?_
  refine y_getF 13 1 (c := 16) (z := 72) dX17_load_22 i70 rfl in_X17 q1162 rfl rfl rfl fn_70_1 (Nat.le_trans (Nat.le_of_ble_eq_true rfl) hn) rfl ?_
  refine x_iconst 0 (z := 0) dX17_load_25 rfl (by decide) rfl ?_
  refine x_sipush 200 (z := 200) dX17_load_26 rfl (by decide) rfl ?_
  obtain ⟨e2, ok⟩ := ok
  refine x_copyi 45 dX17_load_29 q2477 q1893 q1892 q400 i78 i72 (by decide) (by decide) e2.1 e2.2.1 e2.2.2.1 e2.2.2.2.1 e2.2.2.2.2 (Nat.le_add_left 1 d) rfl rfl ?_
  refine x_aload_n 0 dX17_load_32 rfl rfl rfl rfl rfl ?_
  refine y_getF 36 16 (c := 16) (z := 79) dX17_load_33 i70 rfl in_X17 q1197 rfl rfl rfl fn_70_16 (Nat.le_trans (Nat.le_of_ble_eq_true rfl) hn) rfl ?_
  refine x_iconst 0 (z := 0) dX17_load_36 rfl (by decide) rfl ?_
  refine x_aload_n 0 dX17_load_37 rfl rfl rfl rfl rfl ?_
  refine y_getF 17 2 (c := 16) (z := 73) dX17_load_38 i70 rfl in_X17 q1166 rfl rfl rfl fn_70_2 (Nat.le_trans (Nat.le_of_ble_eq_true rfl) hn) rfl ?_
  refine x_iconst 0 (z := 0) dX17_load_41 rfl (by decide) rfl ?_
  refine x_sipush 200 (z := 200) dX17_load_42 rfl (by decide) rfl ?_
  obtain ⟨e3, ok⟩ := ok
  refine x_copyi 45 dX17_load_45 q2477 q1893 q1892 q400 i79 i73 (by decide) (by decide) e3.1 e3.2.1 e3.2.2.1 e3.2.2.2.1 e3.2.2.2.2 (Nat.le_add_left 1 d) rfl rfl ?_
  refine x_aload_n 0 dX17_load_48 rfl rfl rfl rfl rfl ?_
  refine y_getF 39 17 (c := 16) (z := 80) dX17_load_49 i70 rfl in_X17 q1198 rfl rfl rfl fn_70_17 (Nat.le_trans (Nat.le_of_ble_eq_true rfl) hn) rfl ?_
  refine x_iconst 0 (z := 0) dX17_load_52 rfl (by decide) rfl ?_
  refine x_aload_n 0 dX17_load_53 rfl rfl rfl rfl rfl ?_
  refine y_getF 21 3 (c := 16) (z := 74) dX17_load_54 i70 rfl in_X17 q1170 rfl rfl rfl fn_70_3 (Nat.le_trans (Nat.le_of_ble_eq_true rfl) hn) rfl ?_
  refine x_iconst 0 (z := 0) dX17_load_57 rfl (by decide) rfl ?_
  refine x_sipush 200 (z := 200) dX17_load_58 rfl (by decide) rfl ?_
  obtain ⟨e4, ok⟩ := ok
  refine x_copyi 45 dX17_load_61 q2477 q1893 q1892 q400 i80 i74 (by decide) (by decide) e4.1 e4.2.1 e4.2.2.1 e4.2.2.2.1 e4.2.2.2.2 (Nat.le_add_left 1 d) rfl rfl ?_
  refine x_aload_n 0 dX17_load_64 rfl rfl rfl rfl rfl ?_
  refine y_getF 42 18 (c := 16) (z := 81) dX17_load_65 i70 rfl in_X17 q1199 rfl rfl rfl fn_70_18 (Nat.le_trans (Nat.le_of_ble_eq_true rfl) hn) rfl ?_
  refine x_iconst 0 (z := 0) dX17_load_68 rfl (by decide) rfl ?_
  refine x_aload_n 0 dX17_load_69 rfl rfl rfl rfl rfl ?_
  refine y_getF 24 4 (c := 16) (z := 75) dX17_load_70 i70 rfl in_X17 q1173 rfl rfl rfl fn_70_4 (Nat.le_trans (Nat.le_of_ble_eq_true rfl) hn) rfl ?_
  refine x_iconst 0 (z := 0) dX17_load_73 rfl (by decide) rfl ?_
  refine x_sipush 200 (z := 200) dX17_load_74 rfl (by decide) rfl ?_
  obtain ⟨e5, ok⟩ := ok
  refine x_copyi 45 dX17_load_77 q2477 q1893 q1892 q400 i81 i75 (by decide) (by decide) e5.1 e5.2.1 e5.2.2.1 e5.2.2.2.1 e5.2.2.2.2 (Nat.le_add_left 1 d) rfl rfl ?_
  refine x_aload_n 0 dX17_load_80 rfl rfl rfl rfl rfl ?_
  refine x_aload_n 0 dX17_load_81 rfl rfl rfl rfl rfl ?_
  refine y_get 55 19 (c := 16) (z := w 70 19) dX17_load_82 i70 rfl in_X17 q1200 rfl rfl rfl rfl rfl ?_
  refine x_put 51 7 (c := 16) dX17_load_85 i70 rfl in_X17 tyX17_ok nmX17 q1179 rfl rfl rfl (Or.inl rfl) (Or.inl ⟨rfl, rfl⟩) rfl ?_
  refine x_aload_n 0 dX17_load_88 rfl rfl rfl rfl rfl ?_
  refine x_aload_n 0 dX17_load_89 rfl rfl rfl rfl rfl ?_
  refine y_get 61 20 (c := 16) (z := w 70 20) dX17_load_90 i70 rfl in_X17 q1201 rfl rfl rfl rfl rfl ?_
  refine x_put 58 8 (c := 16) dX17_load_93 i70 rfl in_X17 tyX17_ok nmX17 q1183 rfl rfl rfl (Or.inl rfl) (Or.inl ⟨rfl, rfl⟩) rfl ?_
  refine x_aload_n 0 dX17_load_96 rfl rfl rfl rfl rfl ?_
  refine x_aload_n 0 dX17_load_97 rfl rfl rfl rfl rfl ?_
  refine y_get 68 21 (c := 16) (z := w 70 21) dX17_load_98 i70 rfl in_X17 q1202 rfl rfl rfl rfl rfl ?_
  refine x_put 64 10 (c := 16) dX17_load_101 i70 rfl in_X17 tyX17_ok nmX17 q1187 rfl rfl rfl (Or.inl rfl) (Or.inr (Or.inr (Or.inl ⟨rfl, rfl⟩))) rfl ?_
  exact y_vret dX17_load_104 rfl k
def gX18_begin (w : bW) (a1 : Int) : bW := (b_up (b_up w 82 1 a1) 82 2 0)
theorem vX18_begin {d n : Nat} {w : bW} {Q : Int → bW → Prop} {X : String → bW → Prop} (hn : 83 ≤ n) (a1 : Int) (k : Q 0 (gX18_begin w a1)) : b_K (d + 1) mX18_begin [(2, 82), (0, a1)] n w Q X := by
  have i82 := iz82 (Nat.le_trans (Nat.le_of_ble_eq_true rfl) hn)
  unfold gX18_begin at k
  refine k_of (by decide) rfl rfl rfl (ls := [(2, 82), (0, a1)]) rfl ?_
  refine x_aload_n 0 dX18_begin_0 rfl rfl rfl rfl rfl ?_
  refine x_iload_n 1 dX18_begin_1 rfl rfl rfl ?_
  refine x_put 13 1 (c := 17) dX18_begin_2 i82 rfl in_X18 tyX18_ok nmX18 q1256 rfl rfl rfl (Or.inl rfl) (Or.inl ⟨rfl, rfl⟩) rfl ?_
  refine x_aload_n 0 dX18_begin_5 rfl rfl rfl rfl rfl ?_
  refine x_iconst 0 (z := 0) dX18_begin_6 rfl (by decide) rfl ?_
  refine x_put 17 2 (c := 17) dX18_begin_7 i82 rfl in_X18 tyX18_ok nmX18 q1257 rfl rfl rfl (Or.inl rfl) (Or.inl ⟨rfl, rfl⟩) rfl ?_
  exact y_vret dX18_begin_10 rfl k
def fX18_used (w : bW) : Int := w 82 2
theorem vX18_used {d n : Nat} {w : bW} {Q : Int → bW → Prop} {X : String → bW → Prop} (hn : 83 ≤ n) (k : Q (fX18_used w) w) : b_K (d + 1) mX18_used [(2, 82)] n w Q X := by
  have i82 := iz82 (Nat.le_trans (Nat.le_of_ble_eq_true rfl) hn)
  unfold fX18_used at k
  refine k_of (by decide) rfl rfl rfl (ls := [(2, 82)]) rfl ?_
  refine x_aload_n 0 dX18_used_0 rfl rfl rfl rfl rfl ?_
  refine y_get 17 2 (c := 17) (z := w 82 2) dX18_used_1 i82 rfl in_X18 q1257 rfl rfl rfl rfl rfl ?_
  exact y_iret dX18_used_4 rfl k
def gX19_push (w : bW) (a1 : Int) : bW := (b_up (b_up w 83 17 (b_i ((w 83 17) + 1))) 97 (w 83 17) a1)
def oX19_push (n : Nat) (w : bW) (a1 : Int) : Prop := (0 ≤ w 83 17 ∧ w 83 17 < 16000) ∧ (True)
theorem vX19_push {d n : Nat} {w : bW} {Q : Int → bW → Prop} {X : String → bW → Prop} (hn : 143 ≤ n) (a1 : Int) (ok : oX19_push n w a1) (k : Q 0 (gX19_push w a1)) : b_K (d + 1) mX19_push [(2, 83), (0, a1)] n w Q X := by
  have i83 := iz83 (Nat.le_trans (Nat.le_of_ble_eq_true rfl) hn)
  have i97 := iz97 (Nat.le_trans (Nat.le_of_ble_eq_true rfl) hn)
  unfold gX19_push at k
  unfold oX19_push at ok
  refine k_of (by decide) rfl rfl rfl (ls := [(2, 83), (0, a1)]) rfl ?_
  refine x_aload_n 0 dX19_push_0 rfl rfl rfl rfl rfl ?_
  refine y_getF 36 16 (c := 18) (z := 97) dX19_push_1 i83 rfl in_X19 q1308 rfl rfl rfl fn_83_16 (Nat.le_trans (Nat.le_of_ble_eq_true rfl) hn) rfl ?_
  refine x_aload_n 0 dX19_push_4 rfl rfl rfl rfl rfl ?_
  refine x_dup dX19_push_5 rfl rfl ?_
  refine y_get 98 17 (c := 18) (z := w 83 17) dX19_push_6 i83 rfl in_X19 q1309 rfl rfl rfl rfl rfl ?_
  refine x_dup_x1 dX19_push_9 rfl rfl rfl ?_
  refine x_iconst 1 (z := 1) dX19_push_10 rfl (by decide) rfl ?_
  refine x_iadd dX19_push_11 rfl ?_
  refine x_put 98 17 (c := 18) dX19_push_12 i83 rfl in_X19 tyX19_ok nmX19 q1309 rfl rfl rfl (Or.inl rfl) (Or.inl ⟨rfl, rfl⟩) rfl ?_
  refine x_iload_n 1 dX19_push_15 rfl rfl rfl ?_
  obtain ⟨e1, ok⟩ := ok
  refine y_iast (x' := a1) dX19_push_16 ⟨16000, i97, e1⟩ rfl rfl ?_
  exact y_vret dX19_push_17 rfl k
def fX19_cell (w : bW) (a1 : Int) (a2 : Int) : Int := w 64 (b_i (a1 + a2))
def oX19_cell (n : Nat) (w : bW) (a1 : Int) (a2 : Int) : Prop := (0 ≤ b_i (a1 + a2) ∧ b_i (a1 + a2) < 160000) ∧ (True)
theorem vX19_cell {d n : Nat} {w : bW} {Q : Int → bW → Prop} {X : String → bW → Prop} (hn : 143 ≤ n) (a1 : Int) (a2 : Int) (ok : oX19_cell n w a1 a2) (k : Q (fX19_cell w a1 a2) w) : b_K (d + 1) mX19_cell [(2, 83), (0, a1), (0, a2)] n w Q X := by
  have i53 := iz53 (Nat.le_trans (Nat.le_of_ble_eq_true rfl) hn)
  have i64 := iz64 (Nat.le_trans (Nat.le_of_ble_eq_true rfl) hn)
  have i83 := iz83 (Nat.le_trans (Nat.le_of_ble_eq_true rfl) hn)
  unfold fX19_cell at k
  unfold oX19_cell at ok
  refine k_of (by decide) rfl rfl rfl (ls := [(2, 83), (0, a1), (0, a2)]) rfl ?_
  refine x_aload_n 0 dX19_cell_0 rfl rfl rfl rfl rfl ?_
  refine y_getF 62 2 (c := 18) (z := 53) dX19_cell_1 i83 rfl in_X19 q1294 rfl rfl rfl fn_83_2 (Nat.le_trans (Nat.le_of_ble_eq_true rfl) hn) rfl ?_
  refine y_getF 114 12 (c := 14) (z := 64) dX19_cell_4 i53 rfl in_X15 q1056 rfl rfl rfl fn_53_12 (Nat.le_trans (Nat.le_of_ble_eq_true rfl) hn) rfl ?_
  refine x_iload_n 1 dX19_cell_7 rfl rfl rfl ?_
  refine x_iload_n 2 dX19_cell_8 rfl rfl rfl ?_
  refine x_iadd dX19_cell_9 rfl ?_
  obtain ⟨e1, ok⟩ := ok
  refine y_iald (z := w 64 (b_i (a1 + a2))) dX19_cell_10 ⟨160000, i64, e1⟩ rfl rfl ?_
  exact y_iret dX19_cell_11 rfl k
def fX19_pop (w : bW) : Int := w 97 (b_i ((w 83 17) - 1))
def gX19_pop (w : bW) : bW := (b_up w 83 17 (b_i ((w 83 17) - 1)))
def oX19_pop (n : Nat) (w : bW) : Prop := (0 ≤ b_i ((w 83 17) - 1) ∧ b_i ((w 83 17) - 1) < 16000) ∧ (True)
theorem vX19_pop {d n : Nat} {w : bW} {Q : Int → bW → Prop} {X : String → bW → Prop} (hn : 143 ≤ n) (ok : oX19_pop n w) (k : Q (fX19_pop w) (gX19_pop w)) : b_K (d + 1) mX19_pop [(2, 83)] n w Q X := by
  have i83 := iz83 (Nat.le_trans (Nat.le_of_ble_eq_true rfl) hn)
  have i97 := iz97 (Nat.le_trans (Nat.le_of_ble_eq_true rfl) hn)
  unfold fX19_pop gX19_pop at k
  unfold oX19_pop at ok
  refine k_of (by decide) rfl rfl rfl (ls := [(2, 83)]) rfl ?_
  refine x_aload_n 0 dX19_pop_0 rfl rfl rfl rfl rfl ?_
  refine y_getF 36 16 (c := 18) (z := 97) dX19_pop_1 i83 rfl in_X19 q1308 rfl rfl rfl fn_83_16 (Nat.le_trans (Nat.le_of_ble_eq_true rfl) hn) rfl ?_
  refine x_aload_n 0 dX19_pop_4 rfl rfl rfl rfl rfl ?_
  refine x_dup dX19_pop_5 rfl rfl ?_
  refine y_get 98 17 (c := 18) (z := w 83 17) dX19_pop_6 i83 rfl in_X19 q1309 rfl rfl rfl rfl rfl ?_
  refine x_iconst 1 (z := 1) dX19_pop_9 rfl (by decide) rfl ?_
  refine x_isub dX19_pop_10 rfl ?_
  refine x_dup_x1 dX19_pop_11 rfl rfl rfl ?_
  refine x_put 98 17 (c := 18) dX19_pop_12 i83 rfl in_X19 tyX19_ok nmX19 q1309 rfl rfl rfl (Or.inl rfl) (Or.inl ⟨rfl, rfl⟩) rfl ?_
  obtain ⟨e1, ok⟩ := ok
  refine y_iald (z := w 97 (b_i ((w 83 17) - 1))) dX19_pop_15 ⟨16000, i97, e1⟩ rfl rfl ?_
  exact y_iret dX19_pop_16 rfl k
def gX19_frame (w : bW) (a1 : Int) (a2 : Int) (a3 : Int) (a4 : Int) : bW := (b_up (b_up (b_up (b_up (b_up w 99 (w 83 21) a1) 99 (b_i ((w 83 21) + 1)) a2) 99 (b_i ((w 83 21) + 2)) a3) 99 (b_i ((w 83 21) + 3)) a4) 83 21 (b_i ((w 83 21) + 4)))
def oX19_frame (n : Nat) (w : bW) (a1 : Int) (a2 : Int) (a3 : Int) (a4 : Int) : Prop := (0 ≤ w 83 21 ∧ w 83 21 < 90000) ∧ ((0 ≤ b_i ((w 83 21) + 1) ∧ b_i ((w 83 21) + 1) < 90000) ∧ ((0 ≤ b_i ((w 83 21) + 2) ∧ b_i ((w 83 21) + 2) < 90000) ∧ ((0 ≤ b_i ((w 83 21) + 3) ∧ b_i ((w 83 21) + 3) < 90000) ∧ (True))))
theorem vX19_frame {d n : Nat} {w : bW} {Q : Int → bW → Prop} {X : String → bW → Prop} (hn : 143 ≤ n) (a1 : Int) (a2 : Int) (a3 : Int) (a4 : Int) (ok : oX19_frame n w a1 a2 a3 a4) (k : Q 0 (gX19_frame w a1 a2 a3 a4)) : b_K (d + 1) mX19_frame [(2, 83), (0, a1), (0, a2), (0, a3), (0, a4)] n w Q X := by
  have i83 := iz83 (Nat.le_trans (Nat.le_of_ble_eq_true rfl) hn)
  have i99 := iz99 (Nat.le_trans (Nat.le_of_ble_eq_true rfl) hn)
  unfold gX19_frame at k
  unfold oX19_frame at ok
  refine k_of (by decide) rfl rfl rfl (ls := [(2, 83), (0, a1), (0, a2), (0, a3), (0, a4)]) rfl ?_
  refine x_aload_n 0 dX19_frame_0 rfl rfl rfl rfl rfl ?_
  refine y_getF 44 20 (c := 18) (z := 99) dX19_frame_1 i83 rfl in_X19 q1312 rfl rfl rfl fn_83_20 (Nat.le_trans (Nat.le_of_ble_eq_true rfl) hn) rfl ?_
  refine x_aload_n 0 dX19_frame_4 rfl rfl rfl rfl rfl ?_
  refine y_get 111 21 (c := 18) (z := w 83 21) dX19_frame_5 i83 rfl in_X19 q1313 rfl rfl rfl rfl rfl ?_
  refine x_iload_n 1 dX19_frame_8 rfl rfl rfl ?_
  obtain ⟨e1, ok⟩ := ok
  refine y_iast (x' := a1) dX19_frame_9 ⟨90000, i99, e1⟩ rfl rfl ?_
  refine x_aload_n 0 dX19_frame_10 rfl rfl rfl rfl rfl ?_
  refine y_getF 44 20 (c := 18) (z := 99) dX19_frame_11 i83 rfl in_X19 q1312 rfl rfl rfl fn_83_20 (Nat.le_trans (Nat.le_of_ble_eq_true rfl) hn) rfl ?_
  refine x_aload_n 0 dX19_frame_14 rfl rfl rfl rfl rfl ?_
  refine y_get 111 21 (c := 18) (z := w 83 21) dX19_frame_15 i83 rfl in_X19 q1313 rfl rfl rfl rfl rfl ?_
  refine x_iconst 1 (z := 1) dX19_frame_18 rfl (by decide) rfl ?_
  refine x_iadd dX19_frame_19 rfl ?_
  refine x_iload_n 2 dX19_frame_20 rfl rfl rfl ?_
  obtain ⟨e2, ok⟩ := ok
  refine y_iast (x' := a2) dX19_frame_21 ⟨90000, i99, e2⟩ rfl rfl ?_
  refine x_aload_n 0 dX19_frame_22 rfl rfl rfl rfl rfl ?_
  refine y_getF 44 20 (c := 18) (z := 99) dX19_frame_23 i83 rfl in_X19 q1312 rfl rfl rfl fn_83_20 (Nat.le_trans (Nat.le_of_ble_eq_true rfl) hn) rfl ?_
  refine x_aload_n 0 dX19_frame_26 rfl rfl rfl rfl rfl ?_
  refine y_get 111 21 (c := 18) (z := w 83 21) dX19_frame_27 i83 rfl in_X19 q1313 rfl rfl rfl rfl rfl ?_
  refine x_iconst 2 (z := 2) dX19_frame_30 rfl (by decide) rfl ?_
  refine x_iadd dX19_frame_31 rfl ?_
  refine x_iload_n 3 dX19_frame_32 rfl rfl rfl ?_
  obtain ⟨e3, ok⟩ := ok
  refine y_iast (x' := a3) dX19_frame_33 ⟨90000, i99, e3⟩ rfl rfl ?_
  refine x_aload_n 0 dX19_frame_34 rfl rfl rfl rfl rfl ?_
  refine y_getF 44 20 (c := 18) (z := 99) dX19_frame_35 i83 rfl in_X19 q1312 rfl rfl rfl fn_83_20 (Nat.le_trans (Nat.le_of_ble_eq_true rfl) hn) rfl ?_
  refine x_aload_n 0 dX19_frame_38 rfl rfl rfl rfl rfl ?_
  refine y_get 111 21 (c := 18) (z := w 83 21) dX19_frame_39 i83 rfl in_X19 q1313 rfl rfl rfl rfl rfl ?_
  refine x_iconst 3 (z := 3) dX19_frame_42 rfl (by decide) rfl ?_
  refine x_iadd dX19_frame_43 rfl ?_
  refine x_iload 4 dX19_frame_44 rfl rfl ?_
  obtain ⟨e4, ok⟩ := ok
  refine y_iast (x' := a4) dX19_frame_46 ⟨90000, i99, e4⟩ rfl rfl ?_
  refine x_aload_n 0 dX19_frame_47 rfl rfl rfl rfl rfl ?_
  refine x_dup dX19_frame_48 rfl rfl ?_
  refine y_get 111 21 (c := 18) (z := w 83 21) dX19_frame_49 i83 rfl in_X19 q1313 rfl rfl rfl rfl rfl ?_
  refine x_iconst 4 (z := 4) dX19_frame_52 rfl (by decide) rfl ?_
  refine x_iadd dX19_frame_53 rfl ?_
  refine x_put 111 21 (c := 18) dX19_frame_54 i83 rfl in_X19 tyX19_ok nmX19 q1313 rfl rfl rfl (Or.inl rfl) (Or.inl ⟨rfl, rfl⟩) rfl ?_
  exact y_vret dX19_frame_57 rfl k
def fX19_at (w : bW) (a1 : Int) : Int := w 97 (b_i ((b_i ((w 83 17) - 1)) - a1))
def oX19_at (n : Nat) (w : bW) (a1 : Int) : Prop := (0 ≤ b_i ((b_i ((w 83 17) - 1)) - a1) ∧ b_i ((b_i ((w 83 17) - 1)) - a1) < 16000) ∧ (True)
theorem vX19_at {d n : Nat} {w : bW} {Q : Int → bW → Prop} {X : String → bW → Prop} (hn : 143 ≤ n) (a1 : Int) (ok : oX19_at n w a1) (k : Q (fX19_at w a1) w) : b_K (d + 1) mX19_at [(2, 83), (0, a1)] n w Q X := by
  have i83 := iz83 (Nat.le_trans (Nat.le_of_ble_eq_true rfl) hn)
  have i97 := iz97 (Nat.le_trans (Nat.le_of_ble_eq_true rfl) hn)
  unfold fX19_at at k
  unfold oX19_at at ok
  refine k_of (by decide) rfl rfl rfl (ls := [(2, 83), (0, a1)]) rfl ?_
  refine x_aload_n 0 dX19_at_0 rfl rfl rfl rfl rfl ?_
  refine y_getF 36 16 (c := 18) (z := 97) dX19_at_1 i83 rfl in_X19 q1308 rfl rfl rfl fn_83_16 (Nat.le_trans (Nat.le_of_ble_eq_true rfl) hn) rfl ?_
  refine x_aload_n 0 dX19_at_4 rfl rfl rfl rfl rfl ?_
  refine y_get 98 17 (c := 18) (z := w 83 17) dX19_at_5 i83 rfl in_X19 q1309 rfl rfl rfl rfl rfl ?_
  refine x_iconst 1 (z := 1) dX19_at_8 rfl (by decide) rfl ?_
  refine x_isub dX19_at_9 rfl ?_
  refine x_iload_n 1 dX19_at_10 rfl rfl rfl ?_
  refine x_isub dX19_at_11 rfl ?_
  obtain ⟨e1, ok⟩ := ok
  refine y_iald (z := w 97 (b_i ((b_i ((w 83 17) - 1)) - a1))) dX19_at_12 ⟨16000, i97, e1⟩ rfl rfl ?_
  exact y_iret dX19_at_13 rfl k
def gX19_enter (w : bW) (a1 : Int) : bW := (if w 83 22 = 0 then (b_up w 83 22 a1) else (b_up (gX19_frame w 0 (w 83 22) 0 0) 83 22 a1))
def oX19_enter (n : Nat) (w : bW) (a1 : Int) : Prop := if w 83 22 = 0 then True else ((oX19_frame n w 0 (w 83 22) 0 0) ∧ (True))
theorem vX19_enter {d n : Nat} {w : bW} {Q : Int → bW → Prop} {X : String → bW → Prop} (hn : 143 ≤ n) (a1 : Int) (ok : oX19_enter n w a1) (k : Q 0 (gX19_enter w a1)) : b_K (d + 2) mX19_enter [(2, 83), (0, a1)] n w Q X := by
  have i83 := iz83 (Nat.le_trans (Nat.le_of_ble_eq_true rfl) hn)
  unfold gX19_enter at k
  unfold oX19_enter at ok
  refine k_of (by decide) rfl rfl rfl (ls := [(2, 83), (0, a1)]) rfl ?_
  refine x_aload_n 0 dX19_enter_0 rfl rfl rfl rfl rfl ?_
  refine y_get 125 22 (c := 18) (z := w 83 22) dX19_enter_1 i83 rfl in_X19 q1314 rfl rfl rfl rfl rfl ?_
  refine x_if_eq (t := 18) 14 dX19_enter_4 rfl rfl (b_itqw ok k (fun hc ok k => ?_) (fun hc ok k => ?_))
  · refine x_aload_n 0 dX19_enter_18 rfl rfl rfl rfl rfl ?_
    refine x_iload_n 1 dX19_enter_19 rfl rfl rfl ?_
    refine x_put 125 22 (c := 18) dX19_enter_20 i83 rfl in_X19 tyX19_ok nmX19 q1314 rfl rfl rfl (Or.inl rfl) (Or.inl ⟨rfl, rfl⟩) rfl ?_
    exact y_vret dX19_enter_23 rfl k
  · refine x_aload_n 0 dX19_enter_7 rfl rfl rfl rfl rfl ?_
    refine x_iconst 0 (z := 0) dX19_enter_8 rfl (by decide) rfl ?_
    refine x_aload_n 0 dX19_enter_9 rfl rfl rfl rfl rfl ?_
    refine y_get 125 22 (c := 18) (z := w 83 22) dX19_enter_10 i83 rfl in_X19 q1314 rfl rfl rfl rfl rfl ?_
    refine x_iconst 0 (z := 0) dX19_enter_13 rfl (by decide) rfl ?_
    refine x_iconst 0 (z := 0) dX19_enter_14 rfl (by decide) rfl ?_
    obtain ⟨e3, ok⟩ := ok
    refine y_Vv 159 (M := mX19_frame) (As := [(0, 0), (0, w 83 22), (0, 0), (0, 0)]) (st := []) dX19_enter_15 i83 rfl q2587 q2589 qs113 q386 q2590 rfl hmX19_frame rfl rfl rfl rfl rfl rfl rfl (vX19_frame (Nat.le_trans (Nat.le_of_ble_eq_true rfl) hn) 0 (w 83 22) 0 0 e3 ?_)
    refine x_aload_n 0 dX19_enter_18 rfl rfl rfl rfl rfl ?_
    refine x_iload_n 1 dX19_enter_19 rfl rfl rfl ?_
    refine x_put 125 22 (c := 18) dX19_enter_20 i83 rfl in_X19 tyX19_ok nmX19 q1314 rfl rfl rfl (Or.inl rfl) (Or.inl ⟨rfl, rfl⟩) rfl ?_
    exact y_vret dX19_enter_23 rfl k
def fX19_isUnary (w : bW) (a0 : Int) : Int := (if a0 < 69 then (if a0 = 76 then 1 else (if a0 < 80 then 0 else (if 85 < a0 then 0 else 1))) else (if a0 ≤ 72 then 1 else (if a0 = 76 then 1 else (if a0 < 80 then 0 else (if 85 < a0 then 0 else 1)))))
theorem vX19_isUnary {d n : Nat} {w : bW} {Q : Int → bW → Prop} {X : String → bW → Prop} (a0 : Int) (k : Q (fX19_isUnary w a0) w) : b_K (d + 1) mX19_isUnary [(0, a0)] n w Q X := by
  unfold fX19_isUnary at k
  refine k_of (by decide) rfl rfl rfl (ls := [(0, a0)]) rfl ?_
  refine x_iload_n 0 dX19_isUnary_0 rfl rfl rfl ?_
  refine x_bipush 69 (z := 69) dX19_isUnary_1 rfl (by decide) rfl ?_
  refine x_icmp_lt (t := 12) 9 dX19_isUnary_3 rfl rfl (b_itqv (b_tt _) k (fun hc ok k => ?_) (fun hc ok k => ?_))
  · refine x_iload_n 0 dX19_isUnary_12 rfl rfl rfl ?_
    refine x_bipush 76 (z := 76) dX19_isUnary_13 rfl (by decide) rfl ?_
    refine x_icmp_eq (t := 30) 15 dX19_isUnary_15 rfl rfl (b_itqv (b_tt _) k (fun hc ok k => ?_) (fun hc ok k => ?_))
    · refine x_iconst 1 (z := 1) dX19_isUnary_30 rfl (by decide) rfl ?_
      refine x_goto 4 (q := 35) dX19_isUnary_31 rfl ?_
      exact y_zret dX19_isUnary_35 rfl (by decide) k
    · refine x_iload_n 0 dX19_isUnary_18 rfl rfl rfl ?_
      refine x_bipush 80 (z := 80) dX19_isUnary_19 rfl (by decide) rfl ?_
      refine x_icmp_lt (t := 34) 13 dX19_isUnary_21 rfl rfl (b_itqv (b_tt _) k (fun hc ok k => ?_) (fun hc ok k => ?_))
      · refine x_iconst 0 (z := 0) dX19_isUnary_34 rfl (by decide) rfl ?_
        exact y_zret dX19_isUnary_35 rfl (by decide) k
      · refine x_iload_n 0 dX19_isUnary_24 rfl rfl rfl ?_
        refine x_bipush 85 (z := 85) dX19_isUnary_25 rfl (by decide) rfl ?_
        refine x_icmp_gt (t := 34) 7 dX19_isUnary_27 rfl rfl (b_itqv (b_tt _) k (fun hc ok k => ?_) (fun hc ok k => ?_))
        · refine x_iconst 0 (z := 0) dX19_isUnary_34 rfl (by decide) rfl ?_
          exact y_zret dX19_isUnary_35 rfl (by decide) k
        · refine x_iconst 1 (z := 1) dX19_isUnary_30 rfl (by decide) rfl ?_
          refine x_goto 4 (q := 35) dX19_isUnary_31 rfl ?_
          exact y_zret dX19_isUnary_35 rfl (by decide) k
  · refine x_iload_n 0 dX19_isUnary_6 rfl rfl rfl ?_
    refine x_bipush 72 (z := 72) dX19_isUnary_7 rfl (by decide) rfl ?_
    refine x_icmp_le (t := 30) 21 dX19_isUnary_9 rfl rfl (b_itqv (b_tt _) k (fun hc ok k => ?_) (fun hc ok k => ?_))
    · refine x_iconst 1 (z := 1) dX19_isUnary_30 rfl (by decide) rfl ?_
      refine x_goto 4 (q := 35) dX19_isUnary_31 rfl ?_
      exact y_zret dX19_isUnary_35 rfl (by decide) k
    · refine x_iload_n 0 dX19_isUnary_12 rfl rfl rfl ?_
      refine x_bipush 76 (z := 76) dX19_isUnary_13 rfl (by decide) rfl ?_
      refine x_icmp_eq (t := 30) 15 dX19_isUnary_15 rfl rfl (b_itqv (b_tt _) k (fun hc ok k => ?_) (fun hc ok k => ?_))
      · refine x_iconst 1 (z := 1) dX19_isUnary_30 rfl (by decide) rfl ?_
        refine x_goto 4 (q := 35) dX19_isUnary_31 rfl ?_
        exact y_zret dX19_isUnary_35 rfl (by decide) k
      · refine x_iload_n 0 dX19_isUnary_18 rfl rfl rfl ?_
        refine x_bipush 80 (z := 80) dX19_isUnary_19 rfl (by decide) rfl ?_
        refine x_icmp_lt (t := 34) 13 dX19_isUnary_21 rfl rfl (b_itqv (b_tt _) k (fun hc ok k => ?_) (fun hc ok k => ?_))
        · refine x_iconst 0 (z := 0) dX19_isUnary_34 rfl (by decide) rfl ?_
          exact y_zret dX19_isUnary_35 rfl (by decide) k
        · refine x_iload_n 0 dX19_isUnary_24 rfl rfl rfl ?_
          refine x_bipush 85 (z := 85) dX19_isUnary_25 rfl (by decide) rfl ?_
          refine x_icmp_gt (t := 34) 7 dX19_isUnary_27 rfl rfl (b_itqv (b_tt _) k (fun hc ok k => ?_) (fun hc ok k => ?_))
          · refine x_iconst 0 (z := 0) dX19_isUnary_34 rfl (by decide) rfl ?_
            exact y_zret dX19_isUnary_35 rfl (by decide) k
          · refine x_iconst 1 (z := 1) dX19_isUnary_30 rfl (by decide) rfl ?_
            refine x_goto 4 (q := 35) dX19_isUnary_31 rfl ?_
            exact y_zret dX19_isUnary_35 rfl (by decide) k
def gX22_move (w : bW) (a1 : Int) (a2 : Int) (a3 : Int) : bW := (b_up (b_up w 71 a1 (b_l ((w 71 a1) - a3))) 71 a2 (b_l (((b_up w 71 a1 (b_l ((w 71 a1) - a3))) 71 a2) + a3)))
def oX22_move (n : Nat) (w : bW) (a1 : Int) (a2 : Int) (a3 : Int) : Prop := (0 ≤ a1 ∧ a1 < 200) ∧ ((0 ≤ a2 ∧ a2 < 200) ∧ (True))
theorem vX22_move {d n : Nat} {w : bW} {Q : Int → bW → Prop} {X : String → bW → Prop} (hn : 143 ≤ n) (a1 : Int) (a2 : Int) (a3 : Int) (ok : oX22_move n w a1 a2 a3) (k : Q 0 (gX22_move w a1 a2 a3)) : b_K (d + 1) mX22_move [(2, 102), (0, a1), (0, a2), (1, a3)] n w Q X := by
  have i70 := iz70 (Nat.le_trans (Nat.le_of_ble_eq_true rfl) hn)
  have i71 := iz71 (Nat.le_trans (Nat.le_of_ble_eq_true rfl) hn)
  have i102 := iz102 (Nat.le_trans (Nat.le_of_ble_eq_true rfl) hn)
  unfold gX22_move at k
  unfold oX22_move at ok
  refine k_of (by decide) rfl rfl rfl (ls := [(2, 102), (0, a1), (0, a2), (1, a3), (9, 0)]) rfl ?_
  refine x_aload_n 0 dX22_move_0 rfl rfl rfl rfl rfl ?_
  refine y_getF 64 8 (c := 20) (z := 70) dX22_move_1 i102 rfl in_X22 q1413 rfl rfl rfl fn_102_8 (Nat.le_trans (Nat.le_of_ble_eq_true rfl) hn) rfl ?_
  refine y_getF 280 0 (c := 16) (z := 71) dX22_move_4 i70 rfl in_X17 q1160 rfl rfl rfl fn_70_0 (Nat.le_trans (Nat.le_of_ble_eq_true rfl) hn) rfl ?_
  refine x_iload_n 1 dX22_move_7 rfl rfl rfl ?_
  refine x_dup2 dX22_move_8 rfl rfl rfl ?_
  obtain ⟨e1, ok⟩ := ok
  refine y_lald (z := w 71 a1) dX22_move_9 ⟨200, i71, e1⟩ rfl rfl ?_
  refine x_lload_n 3 dX22_move_10 rfl rfl rfl ?_
  refine x_lsub dX22_move_11 rfl ?_
  refine y_last (x' := b_l ((w 71 a1) - a3)) dX22_move_12 ⟨200, i71, e1⟩ rfl rfl ?_
  refine x_aload_n 0 dX22_move_13 rfl rfl rfl rfl rfl ?_
  refine y_getF 64 8 (c := 20) (z := 70) dX22_move_14 i102 rfl in_X22 q1413 rfl rfl rfl fn_102_8 (Nat.le_trans (Nat.le_of_ble_eq_true rfl) hn) rfl ?_
  refine y_getF 280 0 (c := 16) (z := 71) dX22_move_17 i70 rfl in_X17 q1160 rfl rfl rfl fn_70_0 (Nat.le_trans (Nat.le_of_ble_eq_true rfl) hn) rfl ?_
  refine x_iload_n 2 dX22_move_20 rfl rfl rfl ?_
  refine x_dup2 dX22_move_21 rfl rfl rfl ?_
  obtain ⟨e2, ok⟩ := ok
  refine y_lald (z := (b_up w 71 a1 (b_l ((w 71 a1) - a3))) 71 a2) dX22_move_22 ⟨200, i71, e2⟩ rfl rfl ?_
  refine x_lload_n 3 dX22_move_23 rfl rfl rfl ?_
  refine x_ladd dX22_move_24 rfl ?_
  refine y_last (x' := b_l (((b_up w 71 a1 (b_l ((w 71 a1) - a3))) 71 a2) + a3)) dX22_move_25 ⟨200, i71, e2⟩ rfl rfl ?_
  exact y_vret dX22_move_26 rfl k
def gX24_clear (w : bW) (t : Int) : bW := (b_up (b_up (b_up (b_up (b_up (b_up w t 0 3) t 1 0) t 2 0) t 3 0) t 4 0) t 5 (-1))
theorem vX24_clear {d n : Nat} {w : bW} {Q : Int → bW → Prop} {X : String → bW → Prop} (t : Int) (ht : b_is n t 0 22 6) (k : Q 0 (gX24_clear w t)) : b_K (d + 1) mX24_clear [(2, t)] n w Q X := by
  unfold gX24_clear at k
  refine k_of (by decide) rfl rfl rfl (ls := [(2, t)]) rfl ?_
  refine x_aload_n 0 dX24_clear_0 rfl rfl rfl rfl rfl ?_
  refine x_iconst 3 (z := 3) dX24_clear_1 rfl (by decide) rfl ?_
  refine x_put 11 0 (c := 22) dX24_clear_2 ht rfl in_X24 tyX24_ok nmX24 q1536 rfl rfl rfl (Or.inl rfl) (Or.inl ⟨rfl, rfl⟩) rfl ?_
  refine x_aload_n 0 dX24_clear_5 rfl rfl rfl rfl rfl ?_
  refine x_iconst 0 (z := 0) dX24_clear_6 rfl (by decide) rfl ?_
  refine x_put 15 1 (c := 22) dX24_clear_7 ht rfl in_X24 tyX24_ok nmX24 q1539 rfl rfl rfl (Or.inl rfl) (Or.inl ⟨rfl, rfl⟩) rfl ?_
  refine x_aload_n 0 dX24_clear_10 rfl rfl rfl rfl rfl ?_
  refine x_iconst 0 (z := 0) dX24_clear_11 rfl (by decide) rfl ?_
  refine x_put 18 2 (c := 22) dX24_clear_12 ht rfl in_X24 tyX24_ok nmX24 q1542 rfl rfl rfl (Or.inl rfl) (Or.inl ⟨rfl, rfl⟩) rfl ?_
  refine x_aload_n 0 dX24_clear_15 rfl rfl rfl rfl rfl ?_
  refine x_iconst 0 (z := 0) dX24_clear_16 rfl (by decide) rfl ?_
  refine x_put 21 3 (c := 22) dX24_clear_17 ht rfl in_X24 tyX24_ok nmX24 q1545 rfl rfl rfl (Or.inl rfl) (Or.inl ⟨rfl, rfl⟩) rfl ?_
  refine x_aload_n 0 dX24_clear_20 rfl rfl rfl rfl rfl ?_
  refine x_iconst 0 (z := 0) dX24_clear_21 rfl (by decide) rfl ?_
  refine x_put 24 4 (c := 22) dX24_clear_22 ht rfl in_X24 tyX24_ok nmX24 q1548 rfl rfl rfl (Or.inl rfl) (Or.inl ⟨rfl, rfl⟩) rfl ?_
  refine x_aload_n 0 dX24_clear_25 rfl rfl rfl rfl rfl ?_
  refine x_iconst (-1) (z := (-1)) dX24_clear_26 rfl (by decide) rfl ?_
  refine x_put 27 5 (c := 22) dX24_clear_27 ht rfl in_X24 tyX24_ok nmX24 q1551 rfl rfl rfl (Or.inl rfl) (Or.inl ⟨rfl, rfl⟩) rfl ?_
  exact y_vret dX24_clear_30 rfl k
def fX25_firstValue (w : bW) (a0 : Int) : Int := (if a0 = 6 ∨ a0 = 7 ∨ a0 = 8 ∨ a0 = 9 ∨ a0 = 10 ∨ a0 = 15 ∨ a0 = 17 then 2 else (if a0 = 11 ∨ a0 = 12 ∨ a0 = 13 ∨ a0 = 14 then 3 else (if a0 = 16 then 8 else 1048576)))
theorem vX25_firstValue {d n : Nat} {w : bW} {Q : Int → bW → Prop} {X : String → bW → Prop} (a0 : Int) (k : Q (fX25_firstValue w a0) w) : b_K (d + 1) mX25_firstValue [(0, a0)] n w Q X := by
  unfold fX25_firstValue at k
  refine k_of (by decide) rfl rfl rfl (ls := [(0, a0)]) rfl ?_
  refine x_iload_n 0 dX25_firstValue_0 rfl rfl rfl ?_
  refine b_icqv (c := a0 = 6 ∨ a0 = 7 ∨ a0 = 8 ∨ a0 = 9 ∨ a0 = 10 ∨ a0 = 15 ∨ a0 = 17) (b_tt _) k (fun hc ok k => ?_) (fun hn ok k => ?_)
  · have key : b_Y (d + 1) mX25_firstValue n Q X 64 [(0, a0)] [] w := by
        refine x_iconst 2 (z := 2) dX25_firstValue_64 rfl (by decide) rfl ?_
        exact y_iret dX25_firstValue_65 rfl k
    rcases hc with e | e | e | e | e | e | e
    · exact x_tsI (off := 63) (t := 64) dX25_firstValue_1 (by rw [e]; decide) (by rw [e]; decide) (by rw [e]; rfl) rfl key
    · exact x_tsI (off := 63) (t := 64) dX25_firstValue_1 (by rw [e]; decide) (by rw [e]; decide) (by rw [e]; rfl) rfl key
    · exact x_tsI (off := 63) (t := 64) dX25_firstValue_1 (by rw [e]; decide) (by rw [e]; decide) (by rw [e]; rfl) rfl key
    · exact x_tsI (off := 63) (t := 64) dX25_firstValue_1 (by rw [e]; decide) (by rw [e]; decide) (by rw [e]; rfl) rfl key
    · exact x_tsI (off := 63) (t := 64) dX25_firstValue_1 (by rw [e]; decide) (by rw [e]; decide) (by rw [e]; rfl) rfl key
    · exact x_tsI (off := 63) (t := 64) dX25_firstValue_1 (by rw [e]; decide) (by rw [e]; decide) (by rw [e]; rfl) rfl key
    · exact x_tsI (off := 63) (t := 64) dX25_firstValue_1 (by rw [e]; decide) (by rw [e]; decide) (by rw [e]; rfl) rfl key
  have hx63 := hn
  refine b_icqv (c := a0 = 11 ∨ a0 = 12 ∨ a0 = 13 ∨ a0 = 14) (b_tt _) k (fun hc ok k => ?_) (fun hn ok k => ?_)
  · have key : b_Y (d + 1) mX25_firstValue n Q X 66 [(0, a0)] [] w := by
        refine x_iconst 3 (z := 3) dX25_firstValue_66 rfl (by decide) rfl ?_
        exact y_iret dX25_firstValue_67 rfl k
    rcases hc with e | e | e | e
    · exact x_tsI (off := 65) (t := 66) dX25_firstValue_1 (by rw [e]; decide) (by rw [e]; decide) (by rw [e]; rfl) rfl key
    · exact x_tsI (off := 65) (t := 66) dX25_firstValue_1 (by rw [e]; decide) (by rw [e]; decide) (by rw [e]; rfl) rfl key
    · exact x_tsI (off := 65) (t := 66) dX25_firstValue_1 (by rw [e]; decide) (by rw [e]; decide) (by rw [e]; rfl) rfl key
    · exact x_tsI (off := 65) (t := 66) dX25_firstValue_1 (by rw [e]; decide) (by rw [e]; decide) (by rw [e]; rfl) rfl key
  have hx65 := hn
  refine b_icqv (c := a0 = 16) (b_tt _) k (fun hc ok k => ?_) (fun hn ok k => ?_)
  · have key : b_Y (d + 1) mX25_firstValue n Q X 68 [(0, a0)] [] w := by
        refine x_bipush 8 (z := 8) dX25_firstValue_68 rfl (by decide) rfl ?_
        exact y_iret dX25_firstValue_70 rfl k
    have e := hc
    exact x_tsI (off := 67) (t := 68) dX25_firstValue_1 (by rw [e]; decide) (by rw [e]; decide) (by rw [e]; rfl) rfl key
  have hx67 := hn
  have key : b_Y (d + 1) mX25_firstValue n Q X 71 [(0, a0)] [] w := by
      refine x_ldc 18 (x := 1048576) dX25_firstValue_71 q3157 rfl (by decide) rfl ?_
      exact y_iret dX25_firstValue_73 rfl k
  exact x_tsO (t := 71) dX25_firstValue_1 (by omega) rfl key
def fX25_ask (w : bW) (a1 : Int) : Int := (if b_l ((w 143 54) + a1) ≤ w 143 55 then 1 else 0)
def gX25_ask (w : bW) (a1 : Int) : bW := (if b_l ((w 143 54) + a1) ≤ w 143 55 then (b_up w 143 54 (b_i ((w 143 54) + (b_i a1)))) else (b_up (b_up w 143 54 (w 143 55)) 143 56 4))
theorem vX25_ask {d n : Nat} {w : bW} {Q : Int → bW → Prop} {X : String → bW → Prop} (hn : 144 ≤ n) (a1 : Int) (k : Q (fX25_ask w a1) (gX25_ask w a1)) : b_K (d + 1) mX25_ask [(2, 143), (1, a1)] n w Q X := by
  have i143 := iz143 (Nat.le_trans (Nat.le_of_ble_eq_true rfl) hn)
  unfold fX25_ask gX25_ask at k
  refine k_of (by decide) rfl rfl rfl (ls := [(2, 143), (1, a1), (9, 0)]) rfl ?_
  refine x_aload_n 0 dX25_ask_0 rfl rfl rfl rfl rfl ?_
  refine y_get 642 54 (c := 23) (z := w 143 54) dX25_ask_1 i143 rfl in_X25 q4289 rfl rfl rfl rfl rfl ?_
  refine x_i2l dX25_ask_4 rfl ?_
  refine x_lload_n 1 dX25_ask_5 rfl rfl rfl ?_
  refine x_ladd dX25_ask_6 rfl ?_
  refine x_aload_n 0 dX25_ask_7 rfl rfl rfl rfl rfl ?_
  refine y_get 645 55 (c := 23) (z := w 143 55) dX25_ask_8 i143 rfl in_X25 q4290 rfl rfl rfl rfl rfl ?_
  refine x_i2l dX25_ask_11 rfl ?_
  refine x_lc_le (q := 16) (t := 31) 18 dX25_ask_12 dX25_ask_13 rfl rfl (b_itq (b_tt _) k (fun hc ok k => ?_) (fun hc ok k => ?_))
  · refine x_aload_n 0 dX25_ask_31 rfl rfl rfl rfl rfl ?_
    refine x_dup dX25_ask_32 rfl rfl ?_
    refine y_get 642 54 (c := 23) (z := w 143 54) dX25_ask_33 i143 rfl in_X25 q4289 rfl rfl rfl rfl rfl ?_
    refine x_lload_n 1 dX25_ask_36 rfl rfl rfl ?_
    refine x_l2i dX25_ask_37 rfl ?_
    refine x_iadd dX25_ask_38 rfl ?_
    refine x_put 642 54 (c := 23) dX25_ask_39 i143 rfl in_X25 tyX25_ok nmX25 q4289 rfl rfl rfl (Or.inl rfl) (Or.inl ⟨rfl, rfl⟩) rfl ?_
    refine x_iconst 1 (z := 1) dX25_ask_42 rfl (by decide) rfl ?_
    exact y_zret dX25_ask_43 rfl (by decide) k
  · refine x_aload_n 0 dX25_ask_16 rfl rfl rfl rfl rfl ?_
    refine x_aload_n 0 dX25_ask_17 rfl rfl rfl rfl rfl ?_
    refine y_get 645 55 (c := 23) (z := w 143 55) dX25_ask_18 i143 rfl in_X25 q4290 rfl rfl rfl rfl rfl ?_
    refine x_put 642 54 (c := 23) dX25_ask_21 i143 rfl in_X25 tyX25_ok nmX25 q4289 rfl rfl rfl (Or.inl rfl) (Or.inl ⟨rfl, rfl⟩) rfl ?_
    refine x_aload_n 0 dX25_ask_24 rfl rfl rfl rfl rfl ?_
    refine x_iconst 4 (z := 4) dX25_ask_25 rfl (by decide) rfl ?_
    refine x_put 648 56 (c := 23) dX25_ask_26 i143 rfl in_X25 tyX25_ok nmX25 q4291 rfl rfl rfl (Or.inl rfl) (Or.inl ⟨rfl, rfl⟩) rfl ?_
    refine x_iconst 0 (z := 0) dX25_ask_29 rfl (by decide) rfl ?_
    exact y_zret dX25_ask_30 rfl (by decide) k
def fX25_make (w : bW) (a1 : Int) (a2 : Int) (a3 : Int) : Int := w 143 2
def gX25_make (w : bW) (a1 : Int) (a2 : Int) (a3 : Int) : bW := (if a3 ≤ 1073741824 then (b_up (b_up (b_up w 143 2 (b_i ((w 143 2) + a2))) (w 143 0) (w 143 2) (b_or a1 (b_shl a2 8))) ((b_up (b_up w 143 2 (b_i ((w 143 2) + a2))) (w 143 0) (w 143 2) (b_or a1 (b_shl a2 8))) 143 0) (b_i ((w 143 2) + 1)) (b_i a3)) else (b_up (b_up (b_up w 143 2 (b_i ((w 143 2) + a2))) (w 143 0) (w 143 2) (b_or a1 (b_shl a2 8))) ((b_up (b_up w 143 2 (b_i ((w 143 2) + a2))) (w 143 0) (w 143 2) (b_or a1 (b_shl a2 8))) 143 0) (b_i ((w 143 2) + 1)) (b_i 1073741824)))
def oX25_make (n : Nat) (w : bW) (a1 : Int) (a2 : Int) (a3 : Int) : Prop := b_ai n (w 143 0) 1 0 (w 143 2) ∧ (if a3 ≤ 1073741824 then (b_ai n ((b_up (b_up w 143 2 (b_i ((w 143 2) + a2))) (w 143 0) (w 143 2) (b_or a1 (b_shl a2 8))) 143 0) 1 0 (b_i ((w 143 2) + 1)) ∧ (True)) else (b_ai n ((b_up (b_up w 143 2 (b_i ((w 143 2) + a2))) (w 143 0) (w 143 2) (b_or a1 (b_shl a2 8))) 143 0) 1 0 (b_i ((w 143 2) + 1)) ∧ (True)))
theorem vX25_make {d n : Nat} {w : bW} {Q : Int → bW → Prop} {X : String → bW → Prop} (hn : 144 ≤ n) (a1 : Int) (a2 : Int) (a3 : Int) (ok : oX25_make n w a1 a2 a3) (k : Q (fX25_make w a1 a2 a3) (gX25_make w a1 a2 a3)) : b_K (d + 1) mX25_make [(2, 143), (0, a1), (0, a2), (1, a3)] n w Q X := by
  have i143 := iz143 (Nat.le_trans (Nat.le_of_ble_eq_true rfl) hn)
  unfold fX25_make gX25_make at k
  unfold oX25_make at ok
  refine k_of (by decide) rfl rfl rfl (ls := [(2, 143), (0, a1), (0, a2), (1, a3), (9, 0), (9, 0)]) rfl ?_
  refine x_aload_n 0 dX25_make_0 rfl rfl rfl rfl rfl ?_
  refine y_get 7 2 (c := 23) (z := w 143 2) dX25_make_1 i143 rfl in_X25 q4237 rfl rfl rfl rfl rfl ?_
  refine x_istore 5 (ls' := [(2, 143), (0, a1), (0, a2), (1, a3), (9, 0), (0, w 143 2)]) dX25_make_4 rfl rfl rfl ?_
  refine x_aload_n 0 dX25_make_6 rfl rfl rfl rfl rfl ?_
  refine x_dup dX25_make_7 rfl rfl ?_
  refine y_get 7 2 (c := 23) (z := w 143 2) dX25_make_8 i143 rfl in_X25 q4237 rfl rfl rfl rfl rfl ?_
  refine x_iload_n 2 dX25_make_11 rfl rfl rfl ?_
  refine x_iadd dX25_make_12 rfl ?_
  refine x_put 7 2 (c := 23) dX25_make_13 i143 rfl in_X25 tyX25_ok nmX25 q4237 rfl rfl rfl (Or.inl rfl) (Or.inl ⟨rfl, rfl⟩) rfl ?_
  refine x_aload_n 0 dX25_make_16 rfl rfl rfl rfl rfl ?_
  refine y_get 11 0 (c := 23) (z := w 143 0) dX25_make_17 i143 rfl in_X25 q4235 rfl rfl rfl rfl rfl ?_
  refine x_iload 5 dX25_make_20 rfl rfl ?_
  refine x_iload_n 1 dX25_make_22 rfl rfl rfl ?_
  refine x_iload_n 2 dX25_make_23 rfl rfl rfl ?_
  refine x_bipush 8 (z := 8) dX25_make_24 rfl (by decide) rfl ?_
  refine x_ishl dX25_make_26 rfl ?_
  refine x_ior dX25_make_27 rfl ?_
  obtain ⟨e1, ok⟩ := ok
  refine y_iast (x' := b_or a1 (b_shl a2 8)) dX25_make_28 e1 rfl rfl ?_
  refine x_aload_n 0 dX25_make_29 rfl rfl rfl rfl rfl ?_
  refine y_get 11 0 (c := 23) (z := (b_up (b_up w 143 2 (b_i ((w 143 2) + a2))) (w 143 0) (w 143 2) (b_or a1 (b_shl a2 8))) 143 0) dX25_make_30 i143 rfl in_X25 q4235 rfl rfl rfl rfl rfl ?_
  refine x_iload 5 dX25_make_33 rfl rfl ?_
  refine x_iconst 1 (z := 1) dX25_make_35 rfl (by decide) rfl ?_
  refine x_iadd dX25_make_36 rfl ?_
  refine x_lload_n 3 dX25_make_37 rfl rfl rfl ?_
  refine x_ldc2 73 (x := 1073741824) dX25_make_38 q3284 rfl (by decide) rfl ?_
  refine x_lc_le (q := 45) (t := 51) 9 dX25_make_41 dX25_make_42 rfl rfl (b_itqw ok k (fun hc ok k => ?_) (fun hc ok k => ?_))
  · refine x_lload_n 3 dX25_make_51 rfl rfl rfl ?_
    refine x_l2i dX25_make_52 rfl ?_
    obtain ⟨e2, ok⟩ := ok
    refine y_iast (x' := b_i a3) dX25_make_53 e2 rfl rfl ?_
    refine x_iload 5 dX25_make_54 rfl rfl ?_
    exact y_iret dX25_make_56 rfl k
  · refine x_ldc2 73 (x := 1073741824) dX25_make_45 q3284 rfl (by decide) rfl ?_
    refine x_goto 4 (q := 52) dX25_make_48 rfl ?_
    refine x_l2i dX25_make_52 rfl ?_
    obtain ⟨e3, ok⟩ := ok
    refine y_iast (x' := b_i 1073741824) dX25_make_53 e3 rfl rfl ?_
    refine x_iload 5 dX25_make_54 rfl rfl ?_
    exact y_iret dX25_make_56 rfl k
def gX25_setByte (w : bW) (a1 : Int) (a2 : Int) (a3 : Int) : bW := (b_up w (w 143 0) (b_i ((b_i (a1 + 3)) + (b_div a2 4))) (b_or (w (w 143 0) (b_i ((b_i (a1 + 3)) + (b_div a2 4)))) (b_shl (b_and a3 255) (b_i (8 * (b_rem a2 4))))))
def oX25_setByte (n : Nat) (w : bW) (a1 : Int) (a2 : Int) (a3 : Int) : Prop := b_ai n (w 143 0) 1 0 (b_i ((b_i (a1 + 3)) + (b_div a2 4))) ∧ (True)
theorem vX25_setByte {d n : Nat} {w : bW} {Q : Int → bW → Prop} {X : String → bW → Prop} (hn : 144 ≤ n) (a1 : Int) (a2 : Int) (a3 : Int) (ok : oX25_setByte n w a1 a2 a3) (k : Q 0 (gX25_setByte w a1 a2 a3)) : b_K (d + 1) mX25_setByte [(2, 143), (0, a1), (0, a2), (0, a3)] n w Q X := by
  have i143 := iz143 (Nat.le_trans (Nat.le_of_ble_eq_true rfl) hn)
  unfold gX25_setByte at k
  unfold oX25_setByte at ok
  refine k_of (by decide) rfl rfl rfl (ls := [(2, 143), (0, a1), (0, a2), (0, a3)]) rfl ?_
  refine x_aload_n 0 dX25_setByte_0 rfl rfl rfl rfl rfl ?_
  refine y_get 11 0 (c := 23) (z := w 143 0) dX25_setByte_1 i143 rfl in_X25 q4235 rfl rfl rfl rfl rfl ?_
  refine x_iload_n 1 dX25_setByte_4 rfl rfl rfl ?_
  refine x_iconst 3 (z := 3) dX25_setByte_5 rfl (by decide) rfl ?_
  refine x_iadd dX25_setByte_6 rfl ?_
  refine x_iload_n 2 dX25_setByte_7 rfl rfl rfl ?_
  refine x_iconst 4 (z := 4) dX25_setByte_8 rfl (by decide) rfl ?_
  refine x_idiv dX25_setByte_9 (by decide) rfl ?_
  refine x_iadd dX25_setByte_10 rfl ?_
  refine x_dup2 dX25_setByte_11 rfl rfl rfl ?_
  obtain ⟨e1, ok⟩ := ok
  refine y_iald (z := w (w 143 0) (b_i ((b_i (a1 + 3)) + (b_div a2 4)))) dX25_setByte_12 e1 rfl rfl ?_
  refine x_iload_n 3 dX25_setByte_13 rfl rfl rfl ?_
  refine x_sipush 255 (z := 255) dX25_setByte_14 rfl (by decide) rfl ?_
  refine x_iand dX25_setByte_17 rfl ?_
  refine x_bipush 8 (z := 8) dX25_setByte_18 rfl (by decide) rfl ?_
  refine x_iload_n 2 dX25_setByte_20 rfl rfl rfl ?_
  refine x_iconst 4 (z := 4) dX25_setByte_21 rfl (by decide) rfl ?_
  refine x_irem dX25_setByte_22 (by decide) rfl ?_
  refine x_imul dX25_setByte_23 rfl ?_
  refine x_ishl dX25_setByte_24 rfl ?_
  refine x_ior dX25_setByte_25 rfl ?_
  refine y_iast (x' := b_or (w (w 143 0) (b_i ((b_i (a1 + 3)) + (b_div a2 4)))) (b_shl (b_and a3 255) (b_i (8 * (b_rem a2 4))))) dX25_setByte_26 e1 rfl rfl ?_
  exact y_vret dX25_setByte_27 rfl k
def fX25_pushType (w : bW) (a1 : Int) : Int := (if a1 < 0 then 0 else (if w 143 40 ≠ 300 then 1 else 0))
def gX25_pushType (w : bW) (a1 : Int) : bW := (if a1 < 0 then w else (if w 143 40 ≠ 300 then (b_up (b_up w 176 (w 143 40) a1) 143 40 (b_i ((w 143 40) + 1))) else w))
def oX25_pushType (n : Nat) (w : bW) (a1 : Int) : Prop := if a1 < 0 then True else (if w 143 40 ≠ 300 then ((0 ≤ w 143 40 ∧ w 143 40 < 304) ∧ (True)) else True)
theorem vX25_pushType {d n : Nat} {w : bW} {Q : Int → bW → Prop} {X : String → bW → Prop} (hn : 254 ≤ n) (a1 : Int) (ok : oX25_pushType n w a1) (k : Q (fX25_pushType w a1) (gX25_pushType w a1)) : b_K (d + 1) mX25_pushType [(2, 143), (0, a1)] n w Q X := by
  have i143 := iz143 (Nat.le_trans (Nat.le_of_ble_eq_true rfl) hn)
  have i176 := iz176 (Nat.le_trans (Nat.le_of_ble_eq_true rfl) hn)
  unfold fX25_pushType gX25_pushType at k
  unfold oX25_pushType at ok
  refine k_of (by decide) rfl rfl rfl (ls := [(2, 143), (0, a1)]) rfl ?_
  refine x_iload_n 1 dX25_pushType_0 rfl rfl rfl ?_
  refine x_if_lt (t := 14) 13 dX25_pushType_1 rfl rfl (b_itq ok k (fun hc ok k => ?_) (fun hc ok k => ?_))
  · refine x_iconst 0 (z := 0) dX25_pushType_14 rfl (by decide) rfl ?_
    exact y_zret dX25_pushType_15 rfl (by decide) k
  · refine x_aload_n 0 dX25_pushType_4 rfl rfl rfl rfl rfl ?_
    refine y_get 487 40 (c := 23) (z := w 143 40) dX25_pushType_5 i143 rfl in_X25 q4275 rfl rfl rfl rfl rfl ?_
    refine x_sipush 300 (z := 300) dX25_pushType_8 rfl (by decide) rfl ?_
    refine x_icmp_ne (t := 16) 5 dX25_pushType_11 rfl rfl (b_itq ok k (fun hc ok k => ?_) (fun hc ok k => ?_))
    · refine x_aload_n 0 dX25_pushType_16 rfl rfl rfl rfl rfl ?_
      refine y_getF 490 39 (c := 23) (z := 176) dX25_pushType_17 i143 rfl in_X25 q4274 rfl rfl rfl fn_143_39 (Nat.le_trans (Nat.le_of_ble_eq_true rfl) hn) rfl ?_
      refine x_aload_n 0 dX25_pushType_20 rfl rfl rfl rfl rfl ?_
      refine y_get 487 40 (c := 23) (z := w 143 40) dX25_pushType_21 i143 rfl in_X25 q4275 rfl rfl rfl rfl rfl ?_
      refine x_iload_n 1 dX25_pushType_24 rfl rfl rfl ?_
      obtain ⟨e1, ok⟩ := ok
      refine y_iast (x' := a1) dX25_pushType_25 ⟨304, i176, e1⟩ rfl rfl ?_
      refine x_aload_n 0 dX25_pushType_26 rfl rfl rfl rfl rfl ?_
      refine x_dup dX25_pushType_27 rfl rfl ?_
      refine y_get 487 40 (c := 23) (z := w 143 40) dX25_pushType_28 i143 rfl in_X25 q4275 rfl rfl rfl rfl rfl ?_
      refine x_iconst 1 (z := 1) dX25_pushType_31 rfl (by decide) rfl ?_
      refine x_iadd dX25_pushType_32 rfl ?_
      refine x_put 487 40 (c := 23) dX25_pushType_33 i143 rfl in_X25 tyX25_ok nmX25 q4275 rfl rfl rfl (Or.inl rfl) (Or.inl ⟨rfl, rfl⟩) rfl ?_
      refine x_iconst 1 (z := 1) dX25_pushType_36 rfl (by decide) rfl ?_
      exact y_zret dX25_pushType_37 rfl (by decide) k
    · refine x_iconst 0 (z := 0) dX25_pushType_14 rfl (by decide) rfl ?_
      exact y_zret dX25_pushType_15 rfl (by decide) k
def fX25_bad (w : bW) (a1 : Int) : Int := (-1)
def gX25_bad (w : bW) (a1 : Int) : bW := (b_up w 143 43 a1)
theorem vX25_bad {d n : Nat} {w : bW} {Q : Int → bW → Prop} {X : String → bW → Prop} (hn : 144 ≤ n) (a1 : Int) (k : Q (fX25_bad w a1) (gX25_bad w a1)) : b_K (d + 1) mX25_bad [(2, 143), (0, a1)] n w Q X := by
  have i143 := iz143 (Nat.le_trans (Nat.le_of_ble_eq_true rfl) hn)
  unfold fX25_bad gX25_bad at k
  refine k_of (by decide) rfl rfl rfl (ls := [(2, 143), (0, a1)]) rfl ?_
  refine x_aload_n 0 dX25_bad_0 rfl rfl rfl rfl rfl ?_
  refine x_iload_n 1 dX25_bad_1 rfl rfl rfl ?_
  refine x_put 484 43 (c := 23) dX25_bad_2 i143 rfl in_X25 tyX25_ok nmX25 q4278 rfl rfl rfl (Or.inl rfl) (Or.inl ⟨rfl, rfl⟩) rfl ?_
  refine x_iconst (-1) (z := (-1)) dX25_bad_5 rfl (by decide) rfl ?_
  exact y_iret dX25_bad_6 rfl k
def fX25_topType (w : bW) (a1 : Int) : Int := (if w 143 40 ≤ a1 then (-1) else w 176 (b_i ((b_i ((w 143 40) - 1)) - a1)))
def oX25_topType (n : Nat) (w : bW) (a1 : Int) : Prop := if w 143 40 ≤ a1 then True else ((0 ≤ b_i ((b_i ((w 143 40) - 1)) - a1) ∧ b_i ((b_i ((w 143 40) - 1)) - a1) < 304) ∧ (True))
theorem vX25_topType {d n : Nat} {w : bW} {Q : Int → bW → Prop} {X : String → bW → Prop} (hn : 254 ≤ n) (a1 : Int) (ok : oX25_topType n w a1) (k : Q (fX25_topType w a1) w) : b_K (d + 1) mX25_topType [(2, 143), (0, a1)] n w Q X := by
  have i143 := iz143 (Nat.le_trans (Nat.le_of_ble_eq_true rfl) hn)
  have i176 := iz176 (Nat.le_trans (Nat.le_of_ble_eq_true rfl) hn)
  unfold fX25_topType at k
  unfold oX25_topType at ok
  refine k_of (by decide) rfl rfl rfl (ls := [(2, 143), (0, a1)]) rfl ?_
  refine x_iload_n 1 dX25_topType_0 rfl rfl rfl ?_
  refine x_aload_n 0 dX25_topType_1 rfl rfl rfl rfl rfl ?_
  refine y_get 487 40 (c := 23) (z := w 143 40) dX25_topType_2 i143 rfl in_X25 q4275 rfl rfl rfl rfl rfl ?_
  refine x_icmp_ge (t := 24) 19 dX25_topType_5 rfl rfl (b_itqv ok k (fun hc ok k => ?_) (fun hc ok k => ?_))
  · refine x_iconst (-1) (z := (-1)) dX25_topType_24 rfl (by decide) rfl ?_
    exact y_iret dX25_topType_25 rfl k
  · refine x_aload_n 0 dX25_topType_8 rfl rfl rfl rfl rfl ?_
    refine y_getF 490 39 (c := 23) (z := 176) dX25_topType_9 i143 rfl in_X25 q4274 rfl rfl rfl fn_143_39 (Nat.le_trans (Nat.le_of_ble_eq_true rfl) hn) rfl ?_
    refine x_aload_n 0 dX25_topType_12 rfl rfl rfl rfl rfl ?_
    refine y_get 487 40 (c := 23) (z := w 143 40) dX25_topType_13 i143 rfl in_X25 q4275 rfl rfl rfl rfl rfl ?_
    refine x_iconst 1 (z := 1) dX25_topType_16 rfl (by decide) rfl ?_
    refine x_isub dX25_topType_17 rfl ?_
    refine x_iload_n 1 dX25_topType_18 rfl rfl rfl ?_
    refine x_isub dX25_topType_19 rfl ?_
    obtain ⟨e1, ok⟩ := ok
    refine y_iald (z := w 176 (b_i ((b_i ((w 143 40) - 1)) - a1))) dX25_topType_20 ⟨304, i176, e1⟩ rfl rfl ?_
    refine x_goto 4 (q := 25) dX25_topType_21 rfl ?_
    exact y_iret dX25_topType_25 rfl k
def fX25_instead (w : bW) (a1 : Int) (a2 : Int) : Int := (if 0 ≤ a2 then fX25_pushType (b_up w 143 40 (b_i ((w 143 40) - a1))) a2 else 0)
def gX25_instead (w : bW) (a1 : Int) (a2 : Int) : bW := (if 0 ≤ a2 then (gX25_pushType (b_up w 143 40 (b_i ((w 143 40) - a1))) a2) else w)
def oX25_instead (n : Nat) (w : bW) (a1 : Int) (a2 : Int) : Prop := if 0 ≤ a2 then ((oX25_pushType n (b_up w 143 40 (b_i ((w 143 40) - a1))) a2) ∧ ((fX25_pushType (b_up w 143 40 (b_i ((w 143 40) - a1))) a2 = 0 ∨ fX25_pushType (b_up w 143 40 (b_i ((w 143 40) - a1))) a2 = 1))) else True
theorem vX25_instead {d n : Nat} {w : bW} {Q : Int → bW → Prop} {X : String → bW → Prop} (hn : 254 ≤ n) (a1 : Int) (a2 : Int) (ok : oX25_instead n w a1 a2) (k : Q (fX25_instead w a1 a2) (gX25_instead w a1 a2)) : b_K (d + 2) mX25_instead [(2, 143), (0, a1), (0, a2)] n w Q X := by
  have i143 := iz143 (Nat.le_trans (Nat.le_of_ble_eq_true rfl) hn)
  unfold fX25_instead gX25_instead at k
  unfold oX25_instead at ok
  refine k_of (by decide) rfl rfl rfl (ls := [(2, 143), (0, a1), (0, a2)]) rfl ?_
  refine x_iload_n 2 dX25_instead_0 rfl rfl rfl ?_
  refine x_if_ge (t := 6) 5 dX25_instead_1 rfl rfl (b_itq ok k (fun hc ok k => ?_) (fun hc ok k => ?_))
  · refine x_aload_n 0 dX25_instead_6 rfl rfl rfl rfl rfl ?_
    refine x_dup dX25_instead_7 rfl rfl ?_
    refine y_get 487 40 (c := 23) (z := w 143 40) dX25_instead_8 i143 rfl in_X25 q4275 rfl rfl rfl rfl rfl ?_
    refine x_iload_n 1 dX25_instead_11 rfl rfl rfl ?_
    refine x_isub dX25_instead_12 rfl ?_
    refine x_put 487 40 (c := 23) dX25_instead_13 i143 rfl in_X25 tyX25_ok nmX25 q4275 rfl rfl rfl (Or.inl rfl) (Or.inl ⟨rfl, rfl⟩) rfl ?_
    refine x_aload_n 0 dX25_instead_16 rfl rfl rfl rfl rfl ?_
    refine x_iload_n 2 dX25_instead_17 rfl rfl rfl ?_
    obtain ⟨e3, ok⟩ := ok
    refine y_Vi 505 (M := mX25_pushType) (As := [(0, a2)]) (st := []) dX25_instead_18 i143 rfl q3371 q3373 qs209 q392 q3374 rfl hmX25_pushType rfl rfl rfl rfl rfl rfl rfl rfl (vX25_pushType (Nat.le_trans (Nat.le_of_ble_eq_true rfl) hn) a2 e3 ?_)
    exact y_zret dX25_instead_21 rfl ok k
  · refine x_iconst 0 (z := 0) dX25_instead_4 rfl (by decide) rfl ?_
    exact y_zret dX25_instead_5 rfl (by decide) k
def fX25_isOfOne (w : bW) (a0 : Int) : Int := (if a0 < 69 then (if a0 ≠ 76 then 0 else 1) else (if a0 ≤ 72 then 1 else (if a0 ≠ 76 then 0 else 1)))
theorem vX25_isOfOne {d n : Nat} {w : bW} {Q : Int → bW → Prop} {X : String → bW → Prop} (a0 : Int) (k : Q (fX25_isOfOne w a0) w) : b_K (d + 1) mX25_isOfOne [(0, a0)] n w Q X := by
  unfold fX25_isOfOne at k
  refine k_of (by decide) rfl rfl rfl (ls := [(0, a0)]) rfl ?_
  refine x_iload_n 0 dX25_isOfOne_0 rfl rfl rfl ?_
  refine x_bipush 69 (z := 69) dX25_isOfOne_1 rfl (by decide) rfl ?_
  refine x_icmp_lt (t := 12) 9 dX25_isOfOne_3 rfl rfl (b_itqv (b_tt _) k (fun hc ok k => ?_) (fun hc ok k => ?_))
  · refine x_iload_n 0 dX25_isOfOne_12 rfl rfl rfl ?_
    refine x_bipush 76 (z := 76) dX25_isOfOne_13 rfl (by decide) rfl ?_
    refine x_icmp_ne (t := 22) 7 dX25_isOfOne_15 rfl rfl (b_itqv (b_tt _) k (fun hc ok k => ?_) (fun hc ok k => ?_))
    · refine x_iconst 0 (z := 0) dX25_isOfOne_22 rfl (by decide) rfl ?_
      exact y_zret dX25_isOfOne_23 rfl (by decide) k
    · refine x_iconst 1 (z := 1) dX25_isOfOne_18 rfl (by decide) rfl ?_
      refine x_goto 4 (q := 23) dX25_isOfOne_19 rfl ?_
      exact y_zret dX25_isOfOne_23 rfl (by decide) k
  · refine x_iload_n 0 dX25_isOfOne_6 rfl rfl rfl ?_
    refine x_bipush 72 (z := 72) dX25_isOfOne_7 rfl (by decide) rfl ?_
    refine x_icmp_le (t := 18) 9 dX25_isOfOne_9 rfl rfl (b_itqv (b_tt _) k (fun hc ok k => ?_) (fun hc ok k => ?_))
    · refine x_iconst 1 (z := 1) dX25_isOfOne_18 rfl (by decide) rfl ?_
      refine x_goto 4 (q := 23) dX25_isOfOne_19 rfl ?_
      exact y_zret dX25_isOfOne_23 rfl (by decide) k
    · refine x_iload_n 0 dX25_isOfOne_12 rfl rfl rfl ?_
      refine x_bipush 76 (z := 76) dX25_isOfOne_13 rfl (by decide) rfl ?_
      refine x_icmp_ne (t := 22) 7 dX25_isOfOne_15 rfl rfl (b_itqv (b_tt _) k (fun hc ok k => ?_) (fun hc ok k => ?_))
      · refine x_iconst 0 (z := 0) dX25_isOfOne_22 rfl (by decide) rfl ?_
        exact y_zret dX25_isOfOne_23 rfl (by decide) k
      · refine x_iconst 1 (z := 1) dX25_isOfOne_18 rfl (by decide) rfl ?_
        refine x_goto 4 (q := 23) dX25_isOfOne_19 rfl ?_
        exact y_zret dX25_isOfOne_23 rfl (by decide) k
def fX25_isWhole (w : bW) (a0 : Int) : Int := (if a0 = 2 then 1 else (if a0 ≠ 3 then 0 else 1))
theorem vX25_isWhole {d n : Nat} {w : bW} {Q : Int → bW → Prop} {X : String → bW → Prop} (a0 : Int) (k : Q (fX25_isWhole w a0) w) : b_K (d + 1) mX25_isWhole [(0, a0)] n w Q X := by
  unfold fX25_isWhole at k
  refine k_of (by decide) rfl rfl rfl (ls := [(0, a0)]) rfl ?_
  refine x_iload_n 0 dX25_isWhole_0 rfl rfl rfl ?_
  refine x_iconst 2 (z := 2) dX25_isWhole_1 rfl (by decide) rfl ?_
  refine x_icmp_eq (t := 10) 8 dX25_isWhole_2 rfl rfl (b_itqv (b_tt _) k (fun hc ok k => ?_) (fun hc ok k => ?_))
  · refine x_iconst 1 (z := 1) dX25_isWhole_10 rfl (by decide) rfl ?_
    refine x_goto 4 (q := 15) dX25_isWhole_11 rfl ?_
    exact y_zret dX25_isWhole_15 rfl (by decide) k
  · refine x_iload_n 0 dX25_isWhole_5 rfl rfl rfl ?_
    refine x_iconst 3 (z := 3) dX25_isWhole_6 rfl (by decide) rfl ?_
    refine x_icmp_ne (t := 14) 7 dX25_isWhole_7 rfl rfl (b_itqv (b_tt _) k (fun hc ok k => ?_) (fun hc ok k => ?_))
    · refine x_iconst 0 (z := 0) dX25_isWhole_14 rfl (by decide) rfl ?_
      exact y_zret dX25_isWhole_15 rfl (by decide) k
    · refine x_iconst 1 (z := 1) dX25_isWhole_10 rfl (by decide) rfl ?_
      refine x_goto 4 (q := 15) dX25_isWhole_11 rfl ?_
      exact y_zret dX25_isWhole_15 rfl (by decide) k
def fX25_lengthOf (w : bW) (a1 : Int) : Int := (if 16 ≤ a1 then w (w 143 0) (b_i (a1 + 1)) else (if a1 ≠ 5 then 2 else 5))
def oX25_lengthOf (n : Nat) (w : bW) (a1 : Int) : Prop := if 16 ≤ a1 then (b_ai n (w 143 0) 1 0 (b_i (a1 + 1)) ∧ (True)) else True
theorem vX25_lengthOf {d n : Nat} {w : bW} {Q : Int → bW → Prop} {X : String → bW → Prop} (hn : 144 ≤ n) (a1 : Int) (ok : oX25_lengthOf n w a1) (k : Q (fX25_lengthOf w a1) w) : b_K (d + 1) mX25_lengthOf [(2, 143), (0, a1)] n w Q X := by
  have i143 := iz143 (Nat.le_trans (Nat.le_of_ble_eq_true rfl) hn)
  unfold fX25_lengthOf at k
  unfold oX25_lengthOf at ok
  refine k_of (by decide) rfl rfl rfl (ls := [(2, 143), (0, a1)]) rfl ?_
  refine x_iload_n 1 dX25_lengthOf_0 rfl rfl rfl ?_
  refine x_bipush 16 (z := 16) dX25_lengthOf_1 rfl (by decide) rfl ?_
  refine x_icmp_ge (t := 19) 16 dX25_lengthOf_3 rfl rfl (b_itqv ok k (fun hc ok k => ?_) (fun hc ok k => ?_))
  · refine x_aload_n 0 dX25_lengthOf_19 rfl rfl rfl rfl rfl ?_
    refine y_get 11 0 (c := 23) (z := w 143 0) dX25_lengthOf_20 i143 rfl in_X25 q4235 rfl rfl rfl rfl rfl ?_
    refine x_iload_n 1 dX25_lengthOf_23 rfl rfl rfl ?_
    refine x_iconst 1 (z := 1) dX25_lengthOf_24 rfl (by decide) rfl ?_
    refine x_iadd dX25_lengthOf_25 rfl ?_
    obtain ⟨e1, ok⟩ := ok
    refine y_iald (z := w (w 143 0) (b_i (a1 + 1))) dX25_lengthOf_26 e1 rfl rfl ?_
    exact y_iret dX25_lengthOf_27 rfl k
  · refine x_iload_n 1 dX25_lengthOf_6 rfl rfl rfl ?_
    refine x_iconst 5 (z := 5) dX25_lengthOf_7 rfl (by decide) rfl ?_
    refine x_icmp_ne (t := 15) 7 dX25_lengthOf_8 rfl rfl (b_itqv (b_tt _) k (fun hc ok k => ?_) (fun hc ok k => ?_))
    · refine x_iconst 2 (z := 2) dX25_lengthOf_15 rfl (by decide) rfl ?_
      refine x_goto 11 (q := 27) dX25_lengthOf_16 rfl ?_
      exact y_iret dX25_lengthOf_27 rfl k
    · refine x_iconst 5 (z := 5) dX25_lengthOf_11 rfl (by decide) rfl ?_
      refine x_goto 15 (q := 27) dX25_lengthOf_12 rfl ?_
      exact y_iret dX25_lengthOf_27 rfl k
def fX25_two (w : bW) (a1 : Int) (a2 : Int) (a3 : Int) (a4 : Int) : Int := fX25_make w a1 4 a4
def gX25_two (w : bW) (a1 : Int) (a2 : Int) (a3 : Int) (a4 : Int) : bW := (b_up (b_up (gX25_make w a1 4 a4) ((gX25_make w a1 4 a4) 143 0) (b_i ((fX25_make w a1 4 a4) + 2)) a2) ((b_up (gX25_make w a1 4 a4) ((gX25_make w a1 4 a4) 143 0) (b_i ((fX25_make w a1 4 a4) + 2)) a2) 143 0) (b_i ((fX25_make w a1 4 a4) + 3)) a3)
def oX25_two (n : Nat) (w : bW) (a1 : Int) (a2 : Int) (a3 : Int) (a4 : Int) : Prop := (oX25_make n w a1 4 a4) ∧ (b_ai n ((gX25_make w a1 4 a4) 143 0) 1 0 (b_i ((fX25_make w a1 4 a4) + 2)) ∧ (b_ai n ((b_up (gX25_make w a1 4 a4) ((gX25_make w a1 4 a4) 143 0) (b_i ((fX25_make w a1 4 a4) + 2)) a2) 143 0) 1 0 (b_i ((fX25_make w a1 4 a4) + 3)) ∧ (True)))
theorem vX25_two {d n : Nat} {w : bW} {Q : Int → bW → Prop} {X : String → bW → Prop} (hn : 144 ≤ n) (a1 : Int) (a2 : Int) (a3 : Int) (a4 : Int) (ok : oX25_two n w a1 a2 a3 a4) (k : Q (fX25_two w a1 a2 a3 a4) (gX25_two w a1 a2 a3 a4)) : b_K (d + 2) mX25_two [(2, 143), (0, a1), (0, a2), (0, a3), (1, a4)] n w Q X := by
  have i143 := iz143 (Nat.le_trans (Nat.le_of_ble_eq_true rfl) hn)
  unfold fX25_two gX25_two at k
  unfold oX25_two at ok
  refine k_of (by decide) rfl rfl rfl (ls := [(2, 143), (0, a1), (0, a2), (0, a3), (1, a4), (9, 0), (9, 0)]) rfl ?_
  refine x_aload_n 0 dX25_two_0 rfl rfl rfl rfl rfl ?_
  refine x_iload_n 1 dX25_two_1 rfl rfl rfl ?_
  refine x_iconst 4 (z := 4) dX25_two_2 rfl (by decide) rfl ?_
  refine x_lload 4 dX25_two_3 rfl rfl ?_
  obtain ⟨e3, ok⟩ := ok
  refine y_Vi 80 (M := mX25_make) (As := [(0, a1), (0, 4), (1, a4)]) (st := []) dX25_two_5 i143 rfl q3280 q3282 qs198 q392 q3283 rfl hmX25_make rfl rfl rfl rfl rfl rfl rfl rfl (vX25_make (Nat.le_trans (Nat.le_of_ble_eq_true rfl) hn) a1 4 a4 e3 ?_)
  refine x_istore 6 (ls' := [(2, 143), (0, a1), (0, a2), (0, a3), (1, a4), (9, 0), (0, fX25_make w a1 4 a4)]) dX25_two_8 rfl rfl rfl ?_
  refine x_aload_n 0 dX25_two_10 rfl rfl rfl rfl rfl ?_
  refine y_get 11 0 (c := 23) (z := (gX25_make w a1 4 a4) 143 0) dX25_two_11 i143 rfl in_X25 q4235 rfl rfl rfl rfl rfl ?_
  refine x_iload 6 dX25_two_14 rfl rfl ?_
  refine x_iconst 2 (z := 2) dX25_two_16 rfl (by decide) rfl ?_
  refine x_iadd dX25_two_17 rfl ?_
  refine x_iload_n 2 dX25_two_18 rfl rfl rfl ?_
  obtain ⟨e4, ok⟩ := ok
  refine y_iast (x' := a2) dX25_two_19 e4 rfl rfl ?_
  refine x_aload_n 0 dX25_two_20 rfl rfl rfl rfl rfl ?_
  refine y_get 11 0 (c := 23) (z := (b_up (gX25_make w a1 4 a4) ((gX25_make w a1 4 a4) 143 0) (b_i ((fX25_make w a1 4 a4) + 2)) a2) 143 0) dX25_two_21 i143 rfl in_X25 q4235 rfl rfl rfl rfl rfl ?_
  refine x_iload 6 dX25_two_24 rfl rfl ?_
  refine x_iconst 3 (z := 3) dX25_two_26 rfl (by decide) rfl ?_
  refine x_iadd dX25_two_27 rfl ?_
  refine x_iload_n 3 dX25_two_28 rfl rfl rfl ?_
  obtain ⟨e5, ok⟩ := ok
  refine y_iast (x' := a3) dX25_two_29 e5 rfl rfl ?_
  refine x_iload 6 dX25_two_30 rfl rfl ?_
  exact y_iret dX25_two_32 rfl k
def fX25_one (w : bW) (a1 : Int) (a2 : Int) : Int := fX25_make w a1 3 (b_l (2 + (fX25_lengthOf w a2)))
def gX25_one (w : bW) (a1 : Int) (a2 : Int) : bW := (b_up (gX25_make w a1 3 (b_l (2 + (fX25_lengthOf w a2)))) ((gX25_make w a1 3 (b_l (2 + (fX25_lengthOf w a2)))) 143 0) (b_i ((fX25_make w a1 3 (b_l (2 + (fX25_lengthOf w a2)))) + 2)) a2)
def oX25_one (n : Nat) (w : bW) (a1 : Int) (a2 : Int) : Prop := (oX25_lengthOf n w a2) ∧ ((oX25_make n w a1 3 (b_l (2 + (fX25_lengthOf w a2)))) ∧ (b_ai n ((gX25_make w a1 3 (b_l (2 + (fX25_lengthOf w a2)))) 143 0) 1 0 (b_i ((fX25_make w a1 3 (b_l (2 + (fX25_lengthOf w a2)))) + 2)) ∧ (True)))
theorem vX25_one {d n : Nat} {w : bW} {Q : Int → bW → Prop} {X : String → bW → Prop} (hn : 144 ≤ n) (a1 : Int) (a2 : Int) (ok : oX25_one n w a1 a2) (k : Q (fX25_one w a1 a2) (gX25_one w a1 a2)) : b_K (d + 2) mX25_one [(2, 143), (0, a1), (0, a2)] n w Q X := by
  have i143 := iz143 (Nat.le_trans (Nat.le_of_ble_eq_true rfl) hn)
  unfold fX25_one gX25_one at k
  unfold oX25_one at ok
  refine k_of (by decide) rfl rfl rfl (ls := [(2, 143), (0, a1), (0, a2), (9, 0)]) rfl ?_
  refine x_aload_n 0 dX25_one_0 rfl rfl rfl rfl rfl ?_
  refine x_iload_n 1 dX25_one_1 rfl rfl rfl ?_
  refine x_iconst 3 (z := 3) dX25_one_2 rfl (by decide) rfl ?_
  refine x_ldc2 75 (x := 2) dX25_one_3 q3256 rfl (by decide) rfl ?_
  refine x_aload_n 0 dX25_one_6 rfl rfl rfl rfl rfl ?_
  refine x_iload_n 2 dX25_one_7 rfl rfl rfl ?_
  obtain ⟨e3, ok⟩ := ok
  refine y_Vi 77 (M := mX25_lengthOf) (As := [(0, a2)]) (st := [(1, 2), (0, 3), (0, a1), (2, 143)]) dX25_one_8 i143 rfl q3508 q3510 qs238 q392 q3511 rfl hmX25_lengthOf rfl rfl rfl rfl rfl rfl rfl rfl (vX25_lengthOf (Nat.le_trans (Nat.le_of_ble_eq_true rfl) hn) a2 e3 ?_)
  refine x_i2l dX25_one_11 rfl ?_
  refine x_ladd dX25_one_12 rfl ?_
  obtain ⟨e6, ok⟩ := ok
  refine y_Vi 80 (M := mX25_make) (As := [(0, a1), (0, 3), (1, b_l (2 + (fX25_lengthOf w a2)))]) (st := []) dX25_one_13 i143 rfl q3280 q3282 qs198 q392 q3283 rfl hmX25_make rfl rfl rfl rfl rfl rfl rfl rfl (vX25_make (Nat.le_trans (Nat.le_of_ble_eq_true rfl) hn) a1 3 (b_l (2 + (fX25_lengthOf w a2))) e6 ?_)
  refine x_istore_n 3 (ls' := [(2, 143), (0, a1), (0, a2), (0, fX25_make w a1 3 (b_l (2 + (fX25_lengthOf w a2))))]) dX25_one_16 rfl rfl rfl rfl ?_
  refine x_aload_n 0 dX25_one_17 rfl rfl rfl rfl rfl ?_
  refine y_get 11 0 (c := 23) (z := (gX25_make w a1 3 (b_l (2 + (fX25_lengthOf w a2)))) 143 0) dX25_one_18 i143 rfl in_X25 q4235 rfl rfl rfl rfl rfl ?_
  refine x_iload_n 3 dX25_one_21 rfl rfl rfl ?_
  refine x_iconst 2 (z := 2) dX25_one_22 rfl (by decide) rfl ?_
  refine x_iadd dX25_one_23 rfl ?_
  refine x_iload_n 2 dX25_one_24 rfl rfl rfl ?_
  obtain ⟨e7, ok⟩ := ok
  refine y_iast (x' := a2) dX25_one_25 e7 rfl rfl ?_
  refine x_iload_n 3 dX25_one_26 rfl rfl rfl ?_
  exact y_iret dX25_one_27 rfl k
def fX25_tagOf (w : bW) (a1 : Int) : Int := (if 16 ≤ a1 then b_and (w (w 143 0) a1) 255 else b_i (100 + a1))
def oX25_tagOf (n : Nat) (w : bW) (a1 : Int) : Prop := if 16 ≤ a1 then (b_ai n (w 143 0) 1 0 a1 ∧ (True)) else True
theorem vX25_tagOf {d n : Nat} {w : bW} {Q : Int → bW → Prop} {X : String → bW → Prop} (hn : 144 ≤ n) (a1 : Int) (ok : oX25_tagOf n w a1) (k : Q (fX25_tagOf w a1) w) : b_K (d + 1) mX25_tagOf [(2, 143), (0, a1)] n w Q X := by
  have i143 := iz143 (Nat.le_trans (Nat.le_of_ble_eq_true rfl) hn)
  unfold fX25_tagOf at k
  unfold oX25_tagOf at ok
  refine k_of (by decide) rfl rfl rfl (ls := [(2, 143), (0, a1)]) rfl ?_
  refine x_iload_n 1 dX25_tagOf_0 rfl rfl rfl ?_
  refine x_bipush 16 (z := 16) dX25_tagOf_1 rfl (by decide) rfl ?_
  refine x_icmp_ge (t := 13) 10 dX25_tagOf_3 rfl rfl (b_itqv ok k (fun hc ok k => ?_) (fun hc ok k => ?_))
  · refine x_aload_n 0 dX25_tagOf_13 rfl rfl rfl rfl rfl ?_
    refine y_get 11 0 (c := 23) (z := w 143 0) dX25_tagOf_14 i143 rfl in_X25 q4235 rfl rfl rfl rfl rfl ?_
    refine x_iload_n 1 dX25_tagOf_17 rfl rfl rfl ?_
    obtain ⟨e1, ok⟩ := ok
    refine y_iald (z := w (w 143 0) a1) dX25_tagOf_18 e1 rfl rfl ?_
    refine x_sipush 255 (z := 255) dX25_tagOf_19 rfl (by decide) rfl ?_
    refine x_iand dX25_tagOf_22 rfl ?_
    exact y_iret dX25_tagOf_23 rfl k
  · refine x_bipush 100 (z := 100) dX25_tagOf_6 rfl (by decide) rfl ?_
    refine x_iload_n 1 dX25_tagOf_8 rfl rfl rfl ?_
    refine x_iadd dX25_tagOf_9 rfl ?_
    refine x_goto 13 (q := 23) dX25_tagOf_10 rfl ?_
    exact y_iret dX25_tagOf_23 rfl k
def fX25_cellsOf (w : bW) (a1 : Int) : Int := b_shr (w (w 143 0) a1) 8
def oX25_cellsOf (n : Nat) (w : bW) (a1 : Int) : Prop := b_ai n (w 143 0) 1 0 a1 ∧ (True)
theorem vX25_cellsOf {d n : Nat} {w : bW} {Q : Int → bW → Prop} {X : String → bW → Prop} (hn : 144 ≤ n) (a1 : Int) (ok : oX25_cellsOf n w a1) (k : Q (fX25_cellsOf w a1) w) : b_K (d + 1) mX25_cellsOf [(2, 143), (0, a1)] n w Q X := by
  have i143 := iz143 (Nat.le_trans (Nat.le_of_ble_eq_true rfl) hn)
  unfold fX25_cellsOf at k
  unfold oX25_cellsOf at ok
  refine k_of (by decide) rfl rfl rfl (ls := [(2, 143), (0, a1)]) rfl ?_
  refine x_aload_n 0 dX25_cellsOf_0 rfl rfl rfl rfl rfl ?_
  refine y_get 11 0 (c := 23) (z := w 143 0) dX25_cellsOf_1 i143 rfl in_X25 q4235 rfl rfl rfl rfl rfl ?_
  refine x_iload_n 1 dX25_cellsOf_4 rfl rfl rfl ?_
  obtain ⟨e1, ok⟩ := ok
  refine y_iald (z := w (w 143 0) a1) dX25_cellsOf_5 e1 rfl rfl ?_
  refine x_bipush 8 (z := 8) dX25_cellsOf_6 rfl (by decide) rfl ?_
  refine x_ishr dX25_cellsOf_8 rfl ?_
  exact y_iret dX25_cellsOf_9 rfl k
def fX25_rowSize (w : bW) (a1 : Int) : Int := w (w 143 0) (b_i (a1 + 2))
def oX25_rowSize (n : Nat) (w : bW) (a1 : Int) : Prop := b_ai n (w 143 0) 1 0 (b_i (a1 + 2)) ∧ (True)
theorem vX25_rowSize {d n : Nat} {w : bW} {Q : Int → bW → Prop} {X : String → bW → Prop} (hn : 144 ≤ n) (a1 : Int) (ok : oX25_rowSize n w a1) (k : Q (fX25_rowSize w a1) w) : b_K (d + 1) mX25_rowSize [(2, 143), (0, a1)] n w Q X := by
  have i143 := iz143 (Nat.le_trans (Nat.le_of_ble_eq_true rfl) hn)
  unfold fX25_rowSize at k
  unfold oX25_rowSize at ok
  refine k_of (by decide) rfl rfl rfl (ls := [(2, 143), (0, a1)]) rfl ?_
  refine x_aload_n 0 dX25_rowSize_0 rfl rfl rfl rfl rfl ?_
  refine y_get 11 0 (c := 23) (z := w 143 0) dX25_rowSize_1 i143 rfl in_X25 q4235 rfl rfl rfl rfl rfl ?_
  refine x_iload_n 1 dX25_rowSize_4 rfl rfl rfl ?_
  refine x_iconst 2 (z := 2) dX25_rowSize_5 rfl (by decide) rfl ?_
  refine x_iadd dX25_rowSize_6 rfl ?_
  obtain ⟨e1, ok⟩ := ok
  refine y_iald (z := w (w 143 0) (b_i (a1 + 2))) dX25_rowSize_7 e1 rfl rfl ?_
  exact y_iret dX25_rowSize_8 rfl k
def fX25_byteAt (w : bW) (a1 : Int) (a2 : Int) : Int := b_and (b_shr (w (w 143 0) (b_i ((b_i (a1 + 3)) + (b_div a2 4)))) (b_i (8 * (b_rem a2 4)))) 255
def oX25_byteAt (n : Nat) (w : bW) (a1 : Int) (a2 : Int) : Prop := b_ai n (w 143 0) 1 0 (b_i ((b_i (a1 + 3)) + (b_div a2 4))) ∧ (True)
theorem vX25_byteAt {d n : Nat} {w : bW} {Q : Int → bW → Prop} {X : String → bW → Prop} (hn : 144 ≤ n) (a1 : Int) (a2 : Int) (ok : oX25_byteAt n w a1 a2) (k : Q (fX25_byteAt w a1 a2) w) : b_K (d + 1) mX25_byteAt [(2, 143), (0, a1), (0, a2)] n w Q X := by
  have i143 := iz143 (Nat.le_trans (Nat.le_of_ble_eq_true rfl) hn)
  unfold fX25_byteAt at k
  unfold oX25_byteAt at ok
  refine k_of (by decide) rfl rfl rfl (ls := [(2, 143), (0, a1), (0, a2)]) rfl ?_
  refine x_aload_n 0 dX25_byteAt_0 rfl rfl rfl rfl rfl ?_
  refine y_get 11 0 (c := 23) (z := w 143 0) dX25_byteAt_1 i143 rfl in_X25 q4235 rfl rfl rfl rfl rfl ?_
  refine x_iload_n 1 dX25_byteAt_4 rfl rfl rfl ?_
  refine x_iconst 3 (z := 3) dX25_byteAt_5 rfl (by decide) rfl ?_
  refine x_iadd dX25_byteAt_6 rfl ?_
  refine x_iload_n 2 dX25_byteAt_7 rfl rfl rfl ?_
  refine x_iconst 4 (z := 4) dX25_byteAt_8 rfl (by decide) rfl ?_
  refine x_idiv dX25_byteAt_9 (by decide) rfl ?_
  refine x_iadd dX25_byteAt_10 rfl ?_
  obtain ⟨e1, ok⟩ := ok
  refine y_iald (z := w (w 143 0) (b_i ((b_i (a1 + 3)) + (b_div a2 4)))) dX25_byteAt_11 e1 rfl rfl ?_
  refine x_bipush 8 (z := 8) dX25_byteAt_12 rfl (by decide) rfl ?_
  refine x_iload_n 2 dX25_byteAt_14 rfl rfl rfl ?_
  refine x_iconst 4 (z := 4) dX25_byteAt_15 rfl (by decide) rfl ?_
  refine x_irem dX25_byteAt_16 (by decide) rfl ?_
  refine x_imul dX25_byteAt_17 rfl ?_
  refine x_ishr dX25_byteAt_18 rfl ?_
  refine x_sipush 255 (z := 255) dX25_byteAt_19 rfl (by decide) rfl ?_
  refine x_iand dX25_byteAt_22 rfl ?_
  exact y_iret dX25_byteAt_23 rfl k
def fX25_left (w : bW) (a1 : Int) : Int := w (w 143 0) (b_i (a1 + 2))
def oX25_left (n : Nat) (w : bW) (a1 : Int) : Prop := b_ai n (w 143 0) 1 0 (b_i (a1 + 2)) ∧ (True)
theorem vX25_left {d n : Nat} {w : bW} {Q : Int → bW → Prop} {X : String → bW → Prop} (hn : 144 ≤ n) (a1 : Int) (ok : oX25_left n w a1) (k : Q (fX25_left w a1) w) : b_K (d + 1) mX25_left [(2, 143), (0, a1)] n w Q X := by
  have i143 := iz143 (Nat.le_trans (Nat.le_of_ble_eq_true rfl) hn)
  unfold fX25_left at k
  unfold oX25_left at ok
  refine k_of (by decide) rfl rfl rfl (ls := [(2, 143), (0, a1)]) rfl ?_
  refine x_aload_n 0 dX25_left_0 rfl rfl rfl rfl rfl ?_
  refine y_get 11 0 (c := 23) (z := w 143 0) dX25_left_1 i143 rfl in_X25 q4235 rfl rfl rfl rfl rfl ?_
  refine x_iload_n 1 dX25_left_4 rfl rfl rfl ?_
  refine x_iconst 2 (z := 2) dX25_left_5 rfl (by decide) rfl ?_
  refine x_iadd dX25_left_6 rfl ?_
  obtain ⟨e1, ok⟩ := ok
  refine y_iald (z := w (w 143 0) (b_i (a1 + 2))) dX25_left_7 e1 rfl rfl ?_
  exact y_iret dX25_left_8 rfl k
def fX25_right (w : bW) (a1 : Int) : Int := w (w 143 0) (b_i (a1 + 3))
def oX25_right (n : Nat) (w : bW) (a1 : Int) : Prop := b_ai n (w 143 0) 1 0 (b_i (a1 + 3)) ∧ (True)
theorem vX25_right {d n : Nat} {w : bW} {Q : Int → bW → Prop} {X : String → bW → Prop} (hn : 144 ≤ n) (a1 : Int) (ok : oX25_right n w a1) (k : Q (fX25_right w a1) w) : b_K (d + 1) mX25_right [(2, 143), (0, a1)] n w Q X := by
  have i143 := iz143 (Nat.le_trans (Nat.le_of_ble_eq_true rfl) hn)
  unfold fX25_right at k
  unfold oX25_right at ok
  refine k_of (by decide) rfl rfl rfl (ls := [(2, 143), (0, a1)]) rfl ?_
  refine x_aload_n 0 dX25_right_0 rfl rfl rfl rfl rfl ?_
  refine y_get 11 0 (c := 23) (z := w 143 0) dX25_right_1 i143 rfl in_X25 q4235 rfl rfl rfl rfl rfl ?_
  refine x_iload_n 1 dX25_right_4 rfl rfl rfl ?_
  refine x_iconst 3 (z := 3) dX25_right_5 rfl (by decide) rfl ?_
  refine x_iadd dX25_right_6 rfl ?_
  obtain ⟨e1, ok⟩ := ok
  refine y_iald (z := w (w 143 0) (b_i (a1 + 3))) dX25_right_7 e1 rfl rfl ?_
  exact y_iret dX25_right_8 rfl k
def fX25_rank (w : bW) (a1 : Int) : Int := (if fX25_tagOf w a1 = 104 then 0 else (if fX25_tagOf w a1 ≠ 7 then 1 else 0))
def oX25_rank (n : Nat) (w : bW) (a1 : Int) : Prop := (oX25_tagOf n w a1) ∧ (True)
theorem vX25_rank {d n : Nat} {w : bW} {Q : Int → bW → Prop} {X : String → bW → Prop} (hn : 144 ≤ n) (a1 : Int) (ok : oX25_rank n w a1) (k : Q (fX25_rank w a1) w) : b_K (d + 2) mX25_rank [(2, 143), (0, a1)] n w Q X := by
  have i143 := iz143 (Nat.le_trans (Nat.le_of_ble_eq_true rfl) hn)
  unfold fX25_rank at k
  unfold oX25_rank at ok
  refine k_of (by decide) rfl rfl rfl (ls := [(2, 143), (0, a1), (9, 0)]) rfl ?_
  refine x_aload_n 0 dX25_rank_0 rfl rfl rfl rfl rfl ?_
  refine x_iload_n 1 dX25_rank_1 rfl rfl rfl ?_
  obtain ⟨e3, ok⟩ := ok
  refine y_Vi 143 (M := mX25_tagOf) (As := [(0, a1)]) (st := []) dX25_rank_2 i143 rfl q3554 q3556 qs247 q392 q3557 rfl hmX25_tagOf rfl rfl rfl rfl rfl rfl rfl rfl (vX25_tagOf (Nat.le_trans (Nat.le_of_ble_eq_true rfl) hn) a1 e3 ?_)
  refine x_istore_n 2 (ls' := [(2, 143), (0, a1), (0, fX25_tagOf w a1)]) dX25_rank_5 rfl rfl rfl rfl ?_
  refine x_iload_n 2 dX25_rank_6 rfl rfl rfl ?_
  refine x_bipush 104 (z := 104) dX25_rank_7 rfl (by decide) rfl ?_
  refine x_icmp_eq (t := 18) 9 dX25_rank_9 rfl rfl (b_itqv (b_tt _) k (fun hc ok k => ?_) (fun hc ok k => ?_))
  · refine x_iconst 0 (z := 0) dX25_rank_18 rfl (by decide) rfl ?_
    refine x_goto 4 (q := 23) dX25_rank_19 rfl ?_
    exact y_iret dX25_rank_23 rfl k
  · refine x_iload_n 2 dX25_rank_12 rfl rfl rfl ?_
    refine x_bipush 7 (z := 7) dX25_rank_13 rfl (by decide) rfl ?_
    refine x_icmp_ne (t := 22) 7 dX25_rank_15 rfl rfl (b_itqv (b_tt _) k (fun hc ok k => ?_) (fun hc ok k => ?_))
    · refine x_iconst 1 (z := 1) dX25_rank_22 rfl (by decide) rfl ?_
      exact y_iret dX25_rank_23 rfl k
    · refine x_iconst 0 (z := 0) dX25_rank_18 rfl (by decide) rfl ?_
      refine x_goto 4 (q := 23) dX25_rank_19 rfl ?_
      exact y_iret dX25_rank_23 rfl k
def gX25_lay (w : bW) (a1 : Int) : bW := (b_up (b_up w 161 (w 143 23) a1) 143 23 (b_i ((w 143 23) + 1)))
def oX25_lay (n : Nat) (w : bW) (a1 : Int) : Prop := (0 ≤ w 143 23 ∧ w 143 23 < 40000) ∧ (True)
theorem vX25_lay {d n : Nat} {w : bW} {Q : Int → bW → Prop} {X : String → bW → Prop} (hn : 254 ≤ n) (a1 : Int) (ok : oX25_lay n w a1) (k : Q 0 (gX25_lay w a1)) : b_K (d + 1) mX25_lay [(2, 143), (0, a1)] n w Q X := by
  have i143 := iz143 (Nat.le_trans (Nat.le_of_ble_eq_true rfl) hn)
  have i161 := iz161 (Nat.le_trans (Nat.le_of_ble_eq_true rfl) hn)
  unfold gX25_lay at k
  unfold oX25_lay at ok
  refine k_of (by decide) rfl rfl rfl (ls := [(2, 143), (0, a1)]) rfl ?_
  refine x_aload_n 0 dX25_lay_0 rfl rfl rfl rfl rfl ?_
  refine y_getF 213 22 (c := 23) (z := 161) dX25_lay_1 i143 rfl in_X25 q4257 rfl rfl rfl fn_143_22 (Nat.le_trans (Nat.le_of_ble_eq_true rfl) hn) rfl ?_
  refine x_aload_n 0 dX25_lay_4 rfl rfl rfl rfl rfl ?_
  refine y_get 216 23 (c := 23) (z := w 143 23) dX25_lay_5 i143 rfl in_X25 q4258 rfl rfl rfl rfl rfl ?_
  refine x_iload_n 1 dX25_lay_8 rfl rfl rfl ?_
  obtain ⟨e1, ok⟩ := ok
  refine y_iast (x' := a1) dX25_lay_9 ⟨40000, i161, e1⟩ rfl rfl ?_
  refine x_aload_n 0 dX25_lay_10 rfl rfl rfl rfl rfl ?_
  refine x_dup dX25_lay_11 rfl rfl ?_
  refine y_get 216 23 (c := 23) (z := w 143 23) dX25_lay_12 i143 rfl in_X25 q4258 rfl rfl rfl rfl rfl ?_
  refine x_iconst 1 (z := 1) dX25_lay_15 rfl (by decide) rfl ?_
  refine x_iadd dX25_lay_16 rfl ?_
  refine x_put 216 23 (c := 23) dX25_lay_17 i143 rfl in_X25 tyX25_ok nmX25 q4258 rfl rfl rfl (Or.inl rfl) (Or.inl ⟨rfl, rfl⟩) rfl ?_
  exact y_vret dX25_lay_20 rfl k
def fX25_width (w : bW) (a0 : Int) : Int := (if a0 ≠ 11 then 2 else 1)
theorem vX25_width {d n : Nat} {w : bW} {Q : Int → bW → Prop} {X : String → bW → Prop} (a0 : Int) (k : Q (fX25_width w a0) w) : b_K (d + 1) mX25_width [(0, a0)] n w Q X := by
  unfold fX25_width at k
  refine k_of (by decide) rfl rfl rfl (ls := [(0, a0)]) rfl ?_
  refine x_iload_n 0 dX25_width_0 rfl rfl rfl ?_
  refine x_bipush 11 (z := 11) dX25_width_1 rfl (by decide) rfl ?_
  refine x_icmp_ne (t := 10) 7 dX25_width_3 rfl rfl (b_itqv (b_tt _) k (fun hc ok k => ?_) (fun hc ok k => ?_))
  · refine x_iconst 2 (z := 2) dX25_width_10 rfl (by decide) rfl ?_
    exact y_iret dX25_width_11 rfl k
  · refine x_iconst 1 (z := 1) dX25_width_6 rfl (by decide) rfl ?_
    refine x_goto 4 (q := 11) dX25_width_7 rfl ?_
    exact y_iret dX25_width_11 rfl k
def fX25_block (w : bW) (a1 : Int) (a2 : Int) : Int := w 143 2
def gX25_block (w : bW) (a1 : Int) (a2 : Int) : bW := (b_up (b_up (b_up w 143 2 (b_i ((w 143 2) + (b_i (2 + (b_i (a2 * a1))))))) (w 143 0) (w 143 2) (b_or 17 (b_shl (b_i (2 + (b_i (a2 * a1)))) 8))) ((b_up (b_up w 143 2 (b_i ((w 143 2) + (b_i (2 + (b_i (a2 * a1))))))) (w 143 0) (w 143 2) (b_or 17 (b_shl (b_i (2 + (b_i (a2 * a1)))) 8))) 143 0) (b_i ((w 143 2) + 1)) a1)
def oX25_block (n : Nat) (w : bW) (a1 : Int) (a2 : Int) : Prop := b_ai n (w 143 0) 1 0 (w 143 2) ∧ (b_ai n ((b_up (b_up w 143 2 (b_i ((w 143 2) + (b_i (2 + (b_i (a2 * a1))))))) (w 143 0) (w 143 2) (b_or 17 (b_shl (b_i (2 + (b_i (a2 * a1)))) 8))) 143 0) 1 0 (b_i ((w 143 2) + 1)) ∧ (True))
theorem vX25_block {d n : Nat} {w : bW} {Q : Int → bW → Prop} {X : String → bW → Prop} (hn : 144 ≤ n) (a1 : Int) (a2 : Int) (ok : oX25_block n w a1 a2) (k : Q (fX25_block w a1 a2) (gX25_block w a1 a2)) : b_K (d + 1) mX25_block [(2, 143), (0, a1), (0, a2)] n w Q X := by
  have i143 := iz143 (Nat.le_trans (Nat.le_of_ble_eq_true rfl) hn)
  unfold fX25_block gX25_block at k
  unfold oX25_block at ok
  refine k_of (by decide) rfl rfl rfl (ls := [(2, 143), (0, a1), (0, a2), (9, 0)]) rfl ?_
  refine x_aload_n 0 dX25_block_0 rfl rfl rfl rfl rfl ?_
  refine y_get 7 2 (c := 23) (z := w 143 2) dX25_block_1 i143 rfl in_X25 q4237 rfl rfl rfl rfl rfl ?_
  refine x_istore_n 3 (ls' := [(2, 143), (0, a1), (0, a2), (0, w 143 2)]) dX25_block_4 rfl rfl rfl rfl ?_
  refine x_aload_n 0 dX25_block_5 rfl rfl rfl rfl rfl ?_
  refine x_dup dX25_block_6 rfl rfl ?_
  refine y_get 7 2 (c := 23) (z := w 143 2) dX25_block_7 i143 rfl in_X25 q4237 rfl rfl rfl rfl rfl ?_
  refine x_iconst 2 (z := 2) dX25_block_10 rfl (by decide) rfl ?_
  refine x_iload_n 2 dX25_block_11 rfl rfl rfl ?_
  refine x_iload_n 1 dX25_block_12 rfl rfl rfl ?_
  refine x_imul dX25_block_13 rfl ?_
  refine x_iadd dX25_block_14 rfl ?_
  refine x_iadd dX25_block_15 rfl ?_
  refine x_put 7 2 (c := 23) dX25_block_16 i143 rfl in_X25 tyX25_ok nmX25 q4237 rfl rfl rfl (Or.inl rfl) (Or.inl ⟨rfl, rfl⟩) rfl ?_
  refine x_aload_n 0 dX25_block_19 rfl rfl rfl rfl rfl ?_
  refine y_get 11 0 (c := 23) (z := w 143 0) dX25_block_20 i143 rfl in_X25 q4235 rfl rfl rfl rfl rfl ?_
  refine x_iload_n 3 dX25_block_23 rfl rfl rfl ?_
  refine x_bipush 17 (z := 17) dX25_block_24 rfl (by decide) rfl ?_
  refine x_iconst 2 (z := 2) dX25_block_26 rfl (by decide) rfl ?_
  refine x_iload_n 2 dX25_block_27 rfl rfl rfl ?_
  refine x_iload_n 1 dX25_block_28 rfl rfl rfl ?_
  refine x_imul dX25_block_29 rfl ?_
  refine x_iadd dX25_block_30 rfl ?_
  refine x_bipush 8 (z := 8) dX25_block_31 rfl (by decide) rfl ?_
  refine x_ishl dX25_block_33 rfl ?_
  refine x_ior dX25_block_34 rfl ?_
  obtain ⟨e1, ok⟩ := ok
  refine y_iast (x' := b_or 17 (b_shl (b_i (2 + (b_i (a2 * a1)))) 8)) dX25_block_35 e1 rfl rfl ?_
  refine x_aload_n 0 dX25_block_36 rfl rfl rfl rfl rfl ?_
  refine y_get 11 0 (c := 23) (z := (b_up (b_up w 143 2 (b_i ((w 143 2) + (b_i (2 + (b_i (a2 * a1))))))) (w 143 0) (w 143 2) (b_or 17 (b_shl (b_i (2 + (b_i (a2 * a1)))) 8))) 143 0) dX25_block_37 i143 rfl in_X25 q4235 rfl rfl rfl rfl rfl ?_
  refine x_iload_n 3 dX25_block_40 rfl rfl rfl ?_
  refine x_iconst 1 (z := 1) dX25_block_41 rfl (by decide) rfl ?_
  refine x_iadd dX25_block_42 rfl ?_
  refine x_iload_n 1 dX25_block_43 rfl rfl rfl ?_
  obtain ⟨e2, ok⟩ := ok
  refine y_iast (x' := a1) dX25_block_44 e2 rfl rfl ?_
  refine x_iload_n 3 dX25_block_45 rfl rfl rfl ?_
  exact y_iret dX25_block_46 rfl k
def fX25_blocks (w : bW) (a1 : Int) : Int := b_i ((fX25_cellsOf w a1) - 3)
def oX25_blocks (n : Nat) (w : bW) (a1 : Int) : Prop := (oX25_cellsOf n w a1) ∧ (True)
theorem vX25_blocks {d n : Nat} {w : bW} {Q : Int → bW → Prop} {X : String → bW → Prop} (hn : 144 ≤ n) (a1 : Int) (ok : oX25_blocks n w a1) (k : Q (fX25_blocks w a1) w) : b_K (d + 2) mX25_blocks [(2, 143), (0, a1)] n w Q X := by
  have i143 := iz143 (Nat.le_trans (Nat.le_of_ble_eq_true rfl) hn)
  unfold fX25_blocks at k
  unfold oX25_blocks at ok
  refine k_of (by decide) rfl rfl rfl (ls := [(2, 143), (0, a1)]) rfl ?_
  refine x_aload_n 0 dX25_blocks_0 rfl rfl rfl rfl rfl ?_
  refine x_iload_n 1 dX25_blocks_1 rfl rfl rfl ?_
  obtain ⟨e3, ok⟩ := ok
  refine y_Vi 104 (M := mX25_cellsOf) (As := [(0, a1)]) (st := []) dX25_blocks_2 i143 rfl q3562 q3564 qs249 q392 q3565 rfl hmX25_cellsOf rfl rfl rfl rfl rfl rfl rfl rfl (vX25_cellsOf (Nat.le_trans (Nat.le_of_ble_eq_true rfl) hn) a1 e3 ?_)
  refine x_iconst 3 (z := 3) dX25_blocks_5 rfl (by decide) rfl ?_
  refine x_isub dX25_blocks_6 rfl ?_
  exact y_iret dX25_blocks_7 rfl k
def fX25_blockAt (w : bW) (a1 : Int) (a2 : Int) : Int := w (w 143 0) (b_i ((b_i (a1 + 3)) + a2))
def oX25_blockAt (n : Nat) (w : bW) (a1 : Int) (a2 : Int) : Prop := b_ai n (w 143 0) 1 0 (b_i ((b_i (a1 + 3)) + a2)) ∧ (True)
theorem vX25_blockAt {d n : Nat} {w : bW} {Q : Int → bW → Prop} {X : String → bW → Prop} (hn : 144 ≤ n) (a1 : Int) (a2 : Int) (ok : oX25_blockAt n w a1 a2) (k : Q (fX25_blockAt w a1 a2) w) : b_K (d + 1) mX25_blockAt [(2, 143), (0, a1), (0, a2)] n w Q X := by
  have i143 := iz143 (Nat.le_trans (Nat.le_of_ble_eq_true rfl) hn)
  unfold fX25_blockAt at k
  unfold oX25_blockAt at ok
  refine k_of (by decide) rfl rfl rfl (ls := [(2, 143), (0, a1), (0, a2)]) rfl ?_
  refine x_aload_n 0 dX25_blockAt_0 rfl rfl rfl rfl rfl ?_
  refine y_get 11 0 (c := 23) (z := w 143 0) dX25_blockAt_1 i143 rfl in_X25 q4235 rfl rfl rfl rfl rfl ?_
  refine x_iload_n 1 dX25_blockAt_4 rfl rfl rfl ?_
  refine x_iconst 3 (z := 3) dX25_blockAt_5 rfl (by decide) rfl ?_
  refine x_iadd dX25_blockAt_6 rfl ?_
  refine x_iload_n 2 dX25_blockAt_7 rfl rfl rfl ?_
  refine x_iadd dX25_blockAt_8 rfl ?_
  obtain ⟨e1, ok⟩ := ok
  refine y_iald (z := w (w 143 0) (b_i ((b_i (a1 + 3)) + a2))) dX25_blockAt_9 e1 rfl rfl ?_
  exact y_iret dX25_blockAt_10 rfl k
def fX25_entries (w : bW) (a1 : Int) : Int := w (w 143 0) (b_i (a1 + 1))
def oX25_entries (n : Nat) (w : bW) (a1 : Int) : Prop := b_ai n (w 143 0) 1 0 (b_i (a1 + 1)) ∧ (True)
theorem vX25_entries {d n : Nat} {w : bW} {Q : Int → bW → Prop} {X : String → bW → Prop} (hn : 144 ≤ n) (a1 : Int) (ok : oX25_entries n w a1) (k : Q (fX25_entries w a1) w) : b_K (d + 1) mX25_entries [(2, 143), (0, a1)] n w Q X := by
  have i143 := iz143 (Nat.le_trans (Nat.le_of_ble_eq_true rfl) hn)
  unfold fX25_entries at k
  unfold oX25_entries at ok
  refine k_of (by decide) rfl rfl rfl (ls := [(2, 143), (0, a1)]) rfl ?_
  refine x_aload_n 0 dX25_entries_0 rfl rfl rfl rfl rfl ?_
  refine y_get 11 0 (c := 23) (z := w 143 0) dX25_entries_1 i143 rfl in_X25 q4235 rfl rfl rfl rfl rfl ?_
  refine x_iload_n 1 dX25_entries_4 rfl rfl rfl ?_
  refine x_iconst 1 (z := 1) dX25_entries_5 rfl (by decide) rfl ?_
  refine x_iadd dX25_entries_6 rfl ?_
  obtain ⟨e1, ok⟩ := ok
  refine y_iald (z := w (w 143 0) (b_i (a1 + 1))) dX25_entries_7 e1 rfl rfl ?_
  exact y_iret dX25_entries_8 rfl k
def fX25_keyAt (w : bW) (a1 : Int) (a2 : Int) (a3 : Int) : Int := w (w 143 0) (b_i ((b_i (a1 + 2)) + (b_i (a3 * a2))))
def oX25_keyAt (n : Nat) (w : bW) (a1 : Int) (a2 : Int) (a3 : Int) : Prop := b_ai n (w 143 0) 1 0 (b_i ((b_i (a1 + 2)) + (b_i (a3 * a2)))) ∧ (True)
theorem vX25_keyAt {d n : Nat} {w : bW} {Q : Int → bW → Prop} {X : String → bW → Prop} (hn : 144 ≤ n) (a1 : Int) (a2 : Int) (a3 : Int) (ok : oX25_keyAt n w a1 a2 a3) (k : Q (fX25_keyAt w a1 a2 a3) w) : b_K (d + 1) mX25_keyAt [(2, 143), (0, a1), (0, a2), (0, a3)] n w Q X := by
  have i143 := iz143 (Nat.le_trans (Nat.le_of_ble_eq_true rfl) hn)
  unfold fX25_keyAt at k
  unfold oX25_keyAt at ok
  refine k_of (by decide) rfl rfl rfl (ls := [(2, 143), (0, a1), (0, a2), (0, a3)]) rfl ?_
  refine x_aload_n 0 dX25_keyAt_0 rfl rfl rfl rfl rfl ?_
  refine y_get 11 0 (c := 23) (z := w 143 0) dX25_keyAt_1 i143 rfl in_X25 q4235 rfl rfl rfl rfl rfl ?_
  refine x_iload_n 1 dX25_keyAt_4 rfl rfl rfl ?_
  refine x_iconst 2 (z := 2) dX25_keyAt_5 rfl (by decide) rfl ?_
  refine x_iadd dX25_keyAt_6 rfl ?_
  refine x_iload_n 3 dX25_keyAt_7 rfl rfl rfl ?_
  refine x_iload_n 2 dX25_keyAt_8 rfl rfl rfl ?_
  refine x_imul dX25_keyAt_9 rfl ?_
  refine x_iadd dX25_keyAt_10 rfl ?_
  obtain ⟨e1, ok⟩ := ok
  refine y_iald (z := w (w 143 0) (b_i ((b_i (a1 + 2)) + (b_i (a3 * a2))))) dX25_keyAt_11 e1 rfl rfl ?_
  exact y_iret dX25_keyAt_12 rfl k
def fX25_goes (w : bW) (a1 : Int) (a2 : Int) (a3 : Int) (a4 : Int) (a5 : Int) : Int := (if a1 = 0 then (if a5 ≤ w 231 a2 then 1 else 0) else (if a5 ≤ w 234 a2 then 1 else 0))
def gX25_goes (w : bW) (a1 : Int) (a2 : Int) (a3 : Int) (a4 : Int) (a5 : Int) : bW := (if a1 = 0 then (if a5 ≤ w 231 a2 then (if a1 = 0 then (if a3 = 0 then (b_up (b_up w 231 a2 (b_l ((w 231 a2) - a5))) 231 a4 (b_l (((b_up w 231 a2 (b_l ((w 231 a2) - a5))) 231 a4) + a5))) else (b_up (b_up w 231 a2 (b_l ((w 231 a2) - a5))) 234 a4 (b_l ((w 234 a4) + a5)))) else (if a3 = 0 then (b_up (b_up w 234 a2 (b_l ((w 234 a2) - a5))) 231 a4 (b_l ((w 231 a4) + a5))) else (b_up (b_up w 234 a2 (b_l ((w 234 a2) - a5))) 234 a4 (b_l (((b_up w 234 a2 (b_l ((w 234 a2) - a5))) 234 a4) + a5))))) else (b_up w 143 56 5)) else (if a5 ≤ w 234 a2 then (if a1 = 0 then (if a3 = 0 then (b_up (b_up w 231 a2 (b_l ((w 231 a2) - a5))) 231 a4 (b_l (((b_up w 231 a2 (b_l ((w 231 a2) - a5))) 231 a4) + a5))) else (b_up (b_up w 231 a2 (b_l ((w 231 a2) - a5))) 234 a4 (b_l ((w 234 a4) + a5)))) else (if a3 = 0 then (b_up (b_up w 234 a2 (b_l ((w 234 a2) - a5))) 231 a4 (b_l ((w 231 a4) + a5))) else (b_up (b_up w 234 a2 (b_l ((w 234 a2) - a5))) 234 a4 (b_l (((b_up w 234 a2 (b_l ((w 234 a2) - a5))) 234 a4) + a5))))) else (b_up w 143 56 5)))
def oX25_goes (n : Nat) (w : bW) (a1 : Int) (a2 : Int) (a3 : Int) (a4 : Int) (a5 : Int) : Prop := if a1 = 0 then ((0 ≤ a2 ∧ a2 < 100) ∧ (if a5 ≤ w 231 a2 then (if a1 = 0 then (if a3 = 0 then ((0 ≤ a4 ∧ a4 < 100) ∧ (True)) else ((0 ≤ a4 ∧ a4 < 100) ∧ (True))) else ((0 ≤ a2 ∧ a2 < 100) ∧ (if a3 = 0 then ((0 ≤ a4 ∧ a4 < 100) ∧ (True)) else ((0 ≤ a4 ∧ a4 < 100) ∧ (True))))) else True)) else ((0 ≤ a2 ∧ a2 < 100) ∧ (if a5 ≤ w 234 a2 then (if a1 = 0 then ((0 ≤ a2 ∧ a2 < 100) ∧ (if a3 = 0 then ((0 ≤ a4 ∧ a4 < 100) ∧ (True)) else ((0 ≤ a4 ∧ a4 < 100) ∧ (True)))) else (if a3 = 0 then ((0 ≤ a4 ∧ a4 < 100) ∧ (True)) else ((0 ≤ a4 ∧ a4 < 100) ∧ (True)))) else True))
theorem vX25_goes {d n : Nat} {w : bW} {Q : Int → bW → Prop} {X : String → bW → Prop} (hn : 254 ≤ n) (a1 : Int) (a2 : Int) (a3 : Int) (a4 : Int) (a5 : Int) (ok : oX25_goes n w a1 a2 a3 a4 a5) (k : Q (fX25_goes w a1 a2 a3 a4 a5) (gX25_goes w a1 a2 a3 a4 a5)) : b_K (d + 1) mX25_goes [(2, 143), (0, a1), (0, a2), (0, a3), (0, a4), (1, a5)] n w Q X := by
  have i143 := iz143 (Nat.le_trans (Nat.le_of_ble_eq_true rfl) hn)
  have i231 := iz231 (Nat.le_trans (Nat.le_of_ble_eq_true rfl) hn)
  have i234 := iz234 (Nat.le_trans (Nat.le_of_ble_eq_true rfl) hn)
  unfold fX25_goes gX25_goes at k
  unfold oX25_goes at ok
  refine k_of (by decide) rfl rfl rfl (ls := [(2, 143), (0, a1), (0, a2), (0, a3), (0, a4), (1, a5), (9, 0)]) rfl ?_
  refine x_iload_n 1 dX25_goes_0 rfl rfl rfl ?_
  refine x_if_eq (t := 13) 12 dX25_goes_1 rfl rfl (b_itq ok k (fun hc ok k => ?_) (fun hc ok k => ?_))
  · refine x_aload_n 0 dX25_goes_13 rfl rfl rfl rfl rfl ?_
    refine y_getF 946 66 (c := 23) (z := 231) dX25_goes_14 i143 rfl in_X25 q4301 rfl rfl rfl fn_143_66 (Nat.le_trans (Nat.le_of_ble_eq_true rfl) hn) rfl ?_
    refine x_iload_n 2 dX25_goes_17 rfl rfl rfl ?_
    obtain ⟨e1, ok⟩ := ok
    refine y_lald (z := w 231 a2) dX25_goes_18 ⟨100, i231, e1⟩ rfl rfl ?_
    refine x_lload 5 dX25_goes_19 rfl rfl ?_
    refine x_lc_ge (q := 25) (t := 32) 10 dX25_goes_21 dX25_goes_22 rfl rfl (b_itq ok k (fun hc ok k => ?_) (fun hc ok k => ?_))
    · refine x_iload_n 1 dX25_goes_32 rfl rfl rfl ?_
      refine x_if_eq (t := 50) 17 dX25_goes_33 rfl rfl (b_itqw ok k (fun hc ok k => ?_) (fun hc ok k => ?_))
      · refine x_aload_n 0 dX25_goes_50 rfl rfl rfl rfl rfl ?_
        refine y_getF 946 66 (c := 23) (z := 231) dX25_goes_51 i143 rfl in_X25 q4301 rfl rfl rfl fn_143_66 (Nat.le_trans (Nat.le_of_ble_eq_true rfl) hn) rfl ?_
        refine x_iload_n 2 dX25_goes_54 rfl rfl rfl ?_
        refine x_dup2 dX25_goes_55 rfl rfl rfl ?_
        refine y_lald (z := w 231 a2) dX25_goes_56 ⟨100, i231, e1⟩ rfl rfl ?_
        refine x_lload 5 dX25_goes_57 rfl rfl ?_
        refine x_lsub dX25_goes_59 rfl ?_
        refine y_last (x' := b_l ((w 231 a2) - a5)) dX25_goes_60 ⟨100, i231, e1⟩ rfl rfl ?_
        refine x_iload_n 3 dX25_goes_61 rfl rfl rfl ?_
        refine x_if_eq (t := 80) 18 dX25_goes_62 rfl rfl (b_itqw ok k (fun hc ok k => ?_) (fun hc ok k => ?_))
        · refine x_aload_n 0 dX25_goes_80 rfl rfl rfl rfl rfl ?_
          refine y_getF 946 66 (c := 23) (z := 231) dX25_goes_81 i143 rfl in_X25 q4301 rfl rfl rfl fn_143_66 (Nat.le_trans (Nat.le_of_ble_eq_true rfl) hn) rfl ?_
          refine x_iload 4 dX25_goes_84 rfl rfl ?_
          refine x_dup2 dX25_goes_86 rfl rfl rfl ?_
          obtain ⟨e2, ok⟩ := ok
          refine y_lald (z := (b_up w 231 a2 (b_l ((w 231 a2) - a5))) 231 a4) dX25_goes_87 ⟨100, i231, e2⟩ rfl rfl ?_
          refine x_lload 5 dX25_goes_88 rfl rfl ?_
          refine x_ladd dX25_goes_90 rfl ?_
          refine y_last (x' := b_l (((b_up w 231 a2 (b_l ((w 231 a2) - a5))) 231 a4) + a5)) dX25_goes_91 ⟨100, i231, e2⟩ rfl rfl ?_
          refine x_iconst 1 (z := 1) dX25_goes_92 rfl (by decide) rfl ?_
          exact y_zret dX25_goes_93 rfl (by decide) k
        · refine x_aload_n 0 dX25_goes_65 rfl rfl rfl rfl rfl ?_
          refine y_getF 942 70 (c := 23) (z := 234) dX25_goes_66 i143 rfl in_X25 q4305 rfl rfl rfl fn_143_70 (Nat.le_trans (Nat.le_of_ble_eq_true rfl) hn) rfl ?_
          refine x_iload 4 dX25_goes_69 rfl rfl ?_
          refine x_dup2 dX25_goes_71 rfl rfl rfl ?_
          obtain ⟨e3, ok⟩ := ok
          refine y_lald (z := w 234 a4) dX25_goes_72 ⟨100, i234, e3⟩ rfl rfl ?_
          refine x_lload 5 dX25_goes_73 rfl rfl ?_
          refine x_ladd dX25_goes_75 rfl ?_
          refine y_last (x' := b_l ((w 234 a4) + a5)) dX25_goes_76 ⟨100, i234, e3⟩ rfl rfl ?_
          refine x_goto 15 (q := 92) dX25_goes_77 rfl ?_
          refine x_iconst 1 (z := 1) dX25_goes_92 rfl (by decide) rfl ?_
          exact y_zret dX25_goes_93 rfl (by decide) k
      · refine x_aload_n 0 dX25_goes_36 rfl rfl rfl rfl rfl ?_
        refine y_getF 942 70 (c := 23) (z := 234) dX25_goes_37 i143 rfl in_X25 q4305 rfl rfl rfl fn_143_70 (Nat.le_trans (Nat.le_of_ble_eq_true rfl) hn) rfl ?_
        refine x_iload_n 2 dX25_goes_40 rfl rfl rfl ?_
        refine x_dup2 dX25_goes_41 rfl rfl rfl ?_
        obtain ⟨e4, ok⟩ := ok
        refine y_lald (z := w 234 a2) dX25_goes_42 ⟨100, i234, e4⟩ rfl rfl ?_
        refine x_lload 5 dX25_goes_43 rfl rfl ?_
        refine x_lsub dX25_goes_45 rfl ?_
        refine y_last (x' := b_l ((w 234 a2) - a5)) dX25_goes_46 ⟨100, i234, e4⟩ rfl rfl ?_
        refine x_goto 14 (q := 61) dX25_goes_47 rfl ?_
        refine x_iload_n 3 dX25_goes_61 rfl rfl rfl ?_
        refine x_if_eq (t := 80) 18 dX25_goes_62 rfl rfl (b_itqw ok k (fun hc ok k => ?_) (fun hc ok k => ?_))
        · refine x_aload_n 0 dX25_goes_80 rfl rfl rfl rfl rfl ?_
          refine y_getF 946 66 (c := 23) (z := 231) dX25_goes_81 i143 rfl in_X25 q4301 rfl rfl rfl fn_143_66 (Nat.le_trans (Nat.le_of_ble_eq_true rfl) hn) rfl ?_
          refine x_iload 4 dX25_goes_84 rfl rfl ?_
          refine x_dup2 dX25_goes_86 rfl rfl rfl ?_
          obtain ⟨e5, ok⟩ := ok
          refine y_lald (z := w 231 a4) dX25_goes_87 ⟨100, i231, e5⟩ rfl rfl ?_
          refine x_lload 5 dX25_goes_88 rfl rfl ?_
          refine x_ladd dX25_goes_90 rfl ?_
          refine y_last (x' := b_l ((w 231 a4) + a5)) dX25_goes_91 ⟨100, i231, e5⟩ rfl rfl ?_
          refine x_iconst 1 (z := 1) dX25_goes_92 rfl (by decide) rfl ?_
          exact y_zret dX25_goes_93 rfl (by decide) k
        · refine x_aload_n 0 dX25_goes_65 rfl rfl rfl rfl rfl ?_
          refine y_getF 942 70 (c := 23) (z := 234) dX25_goes_66 i143 rfl in_X25 q4305 rfl rfl rfl fn_143_70 (Nat.le_trans (Nat.le_of_ble_eq_true rfl) hn) rfl ?_
          refine x_iload 4 dX25_goes_69 rfl rfl ?_
          refine x_dup2 dX25_goes_71 rfl rfl rfl ?_
          obtain ⟨e6, ok⟩ := ok
          refine y_lald (z := (b_up w 234 a2 (b_l ((w 234 a2) - a5))) 234 a4) dX25_goes_72 ⟨100, i234, e6⟩ rfl rfl ?_
          refine x_lload 5 dX25_goes_73 rfl rfl ?_
          refine x_ladd dX25_goes_75 rfl ?_
          refine y_last (x' := b_l (((b_up w 234 a2 (b_l ((w 234 a2) - a5))) 234 a4) + a5)) dX25_goes_76 ⟨100, i234, e6⟩ rfl rfl ?_
          refine x_goto 15 (q := 92) dX25_goes_77 rfl ?_
          refine x_iconst 1 (z := 1) dX25_goes_92 rfl (by decide) rfl ?_
          exact y_zret dX25_goes_93 rfl (by decide) k
    · refine x_aload_n 0 dX25_goes_25 rfl rfl rfl rfl rfl ?_
      refine x_iconst 5 (z := 5) dX25_goes_26 rfl (by decide) rfl ?_
      refine x_put 648 56 (c := 23) dX25_goes_27 i143 rfl in_X25 tyX25_ok nmX25 q4291 rfl rfl rfl (Or.inl rfl) (Or.inl ⟨rfl, rfl⟩) rfl ?_
      refine x_iconst 0 (z := 0) dX25_goes_30 rfl (by decide) rfl ?_
      exact y_zret dX25_goes_31 rfl (by decide) k
  · refine x_aload_n 0 dX25_goes_4 rfl rfl rfl rfl rfl ?_
    refine y_getF 942 70 (c := 23) (z := 234) dX25_goes_5 i143 rfl in_X25 q4305 rfl rfl rfl fn_143_70 (Nat.le_trans (Nat.le_of_ble_eq_true rfl) hn) rfl ?_
    refine x_iload_n 2 dX25_goes_8 rfl rfl rfl ?_
    obtain ⟨e7, ok⟩ := ok
    refine y_lald (z := w 234 a2) dX25_goes_9 ⟨100, i234, e7⟩ rfl rfl ?_
    refine x_goto 9 (q := 19) dX25_goes_10 rfl ?_
    refine x_lload 5 dX25_goes_19 rfl rfl ?_
    refine x_lc_ge (q := 25) (t := 32) 10 dX25_goes_21 dX25_goes_22 rfl rfl (b_itq ok k (fun hc ok k => ?_) (fun hc ok k => ?_))
    · refine x_iload_n 1 dX25_goes_32 rfl rfl rfl ?_
      refine x_if_eq (t := 50) 17 dX25_goes_33 rfl rfl (b_itqw ok k (fun hc ok k => ?_) (fun hc ok k => ?_))
      · refine x_aload_n 0 dX25_goes_50 rfl rfl rfl rfl rfl ?_
        refine y_getF 946 66 (c := 23) (z := 231) dX25_goes_51 i143 rfl in_X25 q4301 rfl rfl rfl fn_143_66 (Nat.le_trans (Nat.le_of_ble_eq_true rfl) hn) rfl ?_
        refine x_iload_n 2 dX25_goes_54 rfl rfl rfl ?_
        refine x_dup2 dX25_goes_55 rfl rfl rfl ?_
        obtain ⟨e8, ok⟩ := ok
        refine y_lald (z := w 231 a2) dX25_goes_56 ⟨100, i231, e8⟩ rfl rfl ?_
        refine x_lload 5 dX25_goes_57 rfl rfl ?_
        refine x_lsub dX25_goes_59 rfl ?_
        refine y_last (x' := b_l ((w 231 a2) - a5)) dX25_goes_60 ⟨100, i231, e8⟩ rfl rfl ?_
        refine x_iload_n 3 dX25_goes_61 rfl rfl rfl ?_
        refine x_if_eq (t := 80) 18 dX25_goes_62 rfl rfl (b_itqw ok k (fun hc ok k => ?_) (fun hc ok k => ?_))
        · refine x_aload_n 0 dX25_goes_80 rfl rfl rfl rfl rfl ?_
          refine y_getF 946 66 (c := 23) (z := 231) dX25_goes_81 i143 rfl in_X25 q4301 rfl rfl rfl fn_143_66 (Nat.le_trans (Nat.le_of_ble_eq_true rfl) hn) rfl ?_
          refine x_iload 4 dX25_goes_84 rfl rfl ?_
          refine x_dup2 dX25_goes_86 rfl rfl rfl ?_
          obtain ⟨e9, ok⟩ := ok
          refine y_lald (z := (b_up w 231 a2 (b_l ((w 231 a2) - a5))) 231 a4) dX25_goes_87 ⟨100, i231, e9⟩ rfl rfl ?_
          refine x_lload 5 dX25_goes_88 rfl rfl ?_
          refine x_ladd dX25_goes_90 rfl ?_
          refine y_last (x' := b_l (((b_up w 231 a2 (b_l ((w 231 a2) - a5))) 231 a4) + a5)) dX25_goes_91 ⟨100, i231, e9⟩ rfl rfl ?_
          refine x_iconst 1 (z := 1) dX25_goes_92 rfl (by decide) rfl ?_
          exact y_zret dX25_goes_93 rfl (by decide) k
        · refine x_aload_n 0 dX25_goes_65 rfl rfl rfl rfl rfl ?_
          refine y_getF 942 70 (c := 23) (z := 234) dX25_goes_66 i143 rfl in_X25 q4305 rfl rfl rfl fn_143_70 (Nat.le_trans (Nat.le_of_ble_eq_true rfl) hn) rfl ?_
          refine x_iload 4 dX25_goes_69 rfl rfl ?_
          refine x_dup2 dX25_goes_71 rfl rfl rfl ?_
          obtain ⟨e10, ok⟩ := ok
          refine y_lald (z := w 234 a4) dX25_goes_72 ⟨100, i234, e10⟩ rfl rfl ?_
          refine x_lload 5 dX25_goes_73 rfl rfl ?_
          refine x_ladd dX25_goes_75 rfl ?_
          refine y_last (x' := b_l ((w 234 a4) + a5)) dX25_goes_76 ⟨100, i234, e10⟩ rfl rfl ?_
          refine x_goto 15 (q := 92) dX25_goes_77 rfl ?_
          refine x_iconst 1 (z := 1) dX25_goes_92 rfl (by decide) rfl ?_
          exact y_zret dX25_goes_93 rfl (by decide) k
      · refine x_aload_n 0 dX25_goes_36 rfl rfl rfl rfl rfl ?_
        refine y_getF 942 70 (c := 23) (z := 234) dX25_goes_37 i143 rfl in_X25 q4305 rfl rfl rfl fn_143_70 (Nat.le_trans (Nat.le_of_ble_eq_true rfl) hn) rfl ?_
        refine x_iload_n 2 dX25_goes_40 rfl rfl rfl ?_
        refine x_dup2 dX25_goes_41 rfl rfl rfl ?_
        refine y_lald (z := w 234 a2) dX25_goes_42 ⟨100, i234, e7⟩ rfl rfl ?_
        refine x_lload 5 dX25_goes_43 rfl rfl ?_
        refine x_lsub dX25_goes_45 rfl ?_
        refine y_last (x' := b_l ((w 234 a2) - a5)) dX25_goes_46 ⟨100, i234, e7⟩ rfl rfl ?_
        refine x_goto 14 (q := 61) dX25_goes_47 rfl ?_
        refine x_iload_n 3 dX25_goes_61 rfl rfl rfl ?_
        refine x_if_eq (t := 80) 18 dX25_goes_62 rfl rfl (b_itqw ok k (fun hc ok k => ?_) (fun hc ok k => ?_))
        · refine x_aload_n 0 dX25_goes_80 rfl rfl rfl rfl rfl ?_
          refine y_getF 946 66 (c := 23) (z := 231) dX25_goes_81 i143 rfl in_X25 q4301 rfl rfl rfl fn_143_66 (Nat.le_trans (Nat.le_of_ble_eq_true rfl) hn) rfl ?_
          refine x_iload 4 dX25_goes_84 rfl rfl ?_
          refine x_dup2 dX25_goes_86 rfl rfl rfl ?_
          obtain ⟨e11, ok⟩ := ok
          refine y_lald (z := w 231 a4) dX25_goes_87 ⟨100, i231, e11⟩ rfl rfl ?_
          refine x_lload 5 dX25_goes_88 rfl rfl ?_
          refine x_ladd dX25_goes_90 rfl ?_
          refine y_last (x' := b_l ((w 231 a4) + a5)) dX25_goes_91 ⟨100, i231, e11⟩ rfl rfl ?_
          refine x_iconst 1 (z := 1) dX25_goes_92 rfl (by decide) rfl ?_
          exact y_zret dX25_goes_93 rfl (by decide) k
        · refine x_aload_n 0 dX25_goes_65 rfl rfl rfl rfl rfl ?_
          refine y_getF 942 70 (c := 23) (z := 234) dX25_goes_66 i143 rfl in_X25 q4305 rfl rfl rfl fn_143_70 (Nat.le_trans (Nat.le_of_ble_eq_true rfl) hn) rfl ?_
          refine x_iload 4 dX25_goes_69 rfl rfl ?_
          refine x_dup2 dX25_goes_71 rfl rfl rfl ?_
          obtain ⟨e12, ok⟩ := ok
          refine y_lald (z := (b_up w 234 a2 (b_l ((w 234 a2) - a5))) 234 a4) dX25_goes_72 ⟨100, i234, e12⟩ rfl rfl ?_
          refine x_lload 5 dX25_goes_73 rfl rfl ?_
          refine x_ladd dX25_goes_75 rfl ?_
          refine y_last (x' := b_l (((b_up w 234 a2 (b_l ((w 234 a2) - a5))) 234 a4) + a5)) dX25_goes_76 ⟨100, i234, e12⟩ rfl rfl ?_
          refine x_goto 15 (q := 92) dX25_goes_77 rfl ?_
          refine x_iconst 1 (z := 1) dX25_goes_92 rfl (by decide) rfl ?_
          exact y_zret dX25_goes_93 rfl (by decide) k
    · refine x_aload_n 0 dX25_goes_25 rfl rfl rfl rfl rfl ?_
      refine x_iconst 5 (z := 5) dX25_goes_26 rfl (by decide) rfl ?_
      refine x_put 648 56 (c := 23) dX25_goes_27 i143 rfl in_X25 tyX25_ok nmX25 q4291 rfl rfl rfl (Or.inl rfl) (Or.inl ⟨rfl, rfl⟩) rfl ?_
      refine x_iconst 0 (z := 0) dX25_goes_30 rfl (by decide) rfl ?_
      exact y_zret dX25_goes_31 rfl (by decide) k
def gX25_payFor (w : bW) (a1 : Int) : bW := (if b_i ((w 143 101) + a1) ≤ w 143 102 then (if b_l (250 * a1) ≤ w 231 (w 143 88) then (b_up (b_up (b_up w 143 101 (b_i ((w 143 101) + a1))) 231 (w 143 88) (b_l ((w 231 (w 143 88)) - (b_l (250 * a1))))) 143 78 (b_l ((w 143 78) + (b_l (250 * a1))))) else (b_up w 143 56 5)) else (b_up w 143 56 9))
def oX25_payFor (n : Nat) (w : bW) (a1 : Int) : Prop := if b_i ((w 143 101) + a1) ≤ w 143 102 then ((0 ≤ w 143 88 ∧ w 143 88 < 100) ∧ (True)) else True
theorem vX25_payFor {d n : Nat} {w : bW} {Q : Int → bW → Prop} {X : String → bW → Prop} (hn : 254 ≤ n) (a1 : Int) (ok : oX25_payFor n w a1) (k : Q 0 (gX25_payFor w a1)) : b_K (d + 1) mX25_payFor [(2, 143), (0, a1)] n w Q X := by
  have i143 := iz143 (Nat.le_trans (Nat.le_of_ble_eq_true rfl) hn)
  have i231 := iz231 (Nat.le_trans (Nat.le_of_ble_eq_true rfl) hn)
  unfold gX25_payFor at k
  unfold oX25_payFor at ok
  refine k_of (by decide) rfl rfl rfl (ls := [(2, 143), (0, a1)]) rfl ?_
  refine x_aload_n 0 dX25_payFor_0 rfl rfl rfl rfl rfl ?_
  refine y_get 949 101 (c := 23) (z := w 143 101) dX25_payFor_1 i143 rfl in_X25 q4336 rfl rfl rfl rfl rfl ?_
  refine x_iload_n 1 dX25_payFor_4 rfl rfl rfl ?_
  refine x_iadd dX25_payFor_5 rfl ?_
  refine x_aload_n 0 dX25_payFor_6 rfl rfl rfl rfl rfl ?_
  refine y_get 952 102 (c := 23) (z := w 143 102) dX25_payFor_7 i143 rfl in_X25 q4337 rfl rfl rfl rfl rfl ?_
  refine x_icmp_le (t := 22) 12 dX25_payFor_10 rfl rfl (b_itqw ok k (fun hc ok k => ?_) (fun hc ok k => ?_))
  · refine x_aload_n 0 dX25_payFor_22 rfl rfl rfl rfl rfl ?_
    refine y_getF 946 66 (c := 23) (z := 231) dX25_payFor_23 i143 rfl in_X25 q4301 rfl rfl rfl fn_143_66 (Nat.le_trans (Nat.le_of_ble_eq_true rfl) hn) rfl ?_
    refine x_aload_n 0 dX25_payFor_26 rfl rfl rfl rfl rfl ?_
    refine y_get 867 88 (c := 23) (z := w 143 88) dX25_payFor_27 i143 rfl in_X25 q4323 rfl rfl rfl rfl rfl ?_
    obtain ⟨e1, ok⟩ := ok
    refine y_lald (z := w 231 (w 143 88)) dX25_payFor_30 ⟨100, i231, e1⟩ rfl rfl ?_
    refine x_ldc2 955 (x := 250) dX25_payFor_31 q3678 rfl (by decide) rfl ?_
    refine x_iload_n 1 dX25_payFor_34 rfl rfl rfl ?_
    refine x_i2l dX25_payFor_35 rfl ?_
    refine x_lmul dX25_payFor_36 rfl ?_
    refine x_lc_ge (q := 41) (t := 49) 11 dX25_payFor_37 dX25_payFor_38 rfl rfl (b_itqw (b_tt _) k (fun hc ok k => ?_) (fun hc ok k => ?_))
    · refine x_aload_n 0 dX25_payFor_49 rfl rfl rfl rfl rfl ?_
      refine x_dup dX25_payFor_50 rfl rfl ?_
      refine y_get 949 101 (c := 23) (z := w 143 101) dX25_payFor_51 i143 rfl in_X25 q4336 rfl rfl rfl rfl rfl ?_
      refine x_iload_n 1 dX25_payFor_54 rfl rfl rfl ?_
      refine x_iadd dX25_payFor_55 rfl ?_
      refine x_put 949 101 (c := 23) dX25_payFor_56 i143 rfl in_X25 tyX25_ok nmX25 q4336 rfl rfl rfl (Or.inl rfl) (Or.inl ⟨rfl, rfl⟩) rfl ?_
      refine x_aload_n 0 dX25_payFor_59 rfl rfl rfl rfl rfl ?_
      refine y_getF 946 66 (c := 23) (z := 231) dX25_payFor_60 i143 rfl in_X25 q4301 rfl rfl rfl fn_143_66 (Nat.le_trans (Nat.le_of_ble_eq_true rfl) hn) rfl ?_
      refine x_aload_n 0 dX25_payFor_63 rfl rfl rfl rfl rfl ?_
      refine y_get 867 88 (c := 23) (z := w 143 88) dX25_payFor_64 i143 rfl in_X25 q4323 rfl rfl rfl rfl rfl ?_
      refine x_dup2 dX25_payFor_67 rfl rfl rfl ?_
      refine y_lald (z := w 231 (w 143 88)) dX25_payFor_68 ⟨100, i231, e1⟩ rfl rfl ?_
      refine x_ldc2 955 (x := 250) dX25_payFor_69 q3678 rfl (by decide) rfl ?_
      refine x_iload_n 1 dX25_payFor_72 rfl rfl rfl ?_
      refine x_i2l dX25_payFor_73 rfl ?_
      refine x_lmul dX25_payFor_74 rfl ?_
      refine x_lsub dX25_payFor_75 rfl ?_
      refine y_last (x' := b_l ((w 231 (w 143 88)) - (b_l (250 * a1)))) dX25_payFor_76 ⟨100, i231, e1⟩ rfl rfl ?_
      refine x_aload_n 0 dX25_payFor_77 rfl rfl rfl rfl rfl ?_
      refine x_dup dX25_payFor_78 rfl rfl ?_
      refine y_get 957 78 (c := 23) (z := w 143 78) dX25_payFor_79 i143 rfl in_X25 q4313 rfl rfl rfl rfl rfl ?_
      refine x_ldc2 955 (x := 250) dX25_payFor_82 q3678 rfl (by decide) rfl ?_
      refine x_iload_n 1 dX25_payFor_85 rfl rfl rfl ?_
      refine x_i2l dX25_payFor_86 rfl ?_
      refine x_lmul dX25_payFor_87 rfl ?_
      refine x_ladd dX25_payFor_88 rfl ?_
      refine x_put 957 78 (c := 23) dX25_payFor_89 i143 rfl in_X25 tyX25_ok nmX25 q4313 rfl rfl rfl (Or.inl rfl) (Or.inr (Or.inr (Or.inl ⟨rfl, rfl⟩))) rfl ?_
      exact y_vret dX25_payFor_92 rfl k
    · refine x_aload_n 0 dX25_payFor_41 rfl rfl rfl rfl rfl ?_
      refine x_iconst 5 (z := 5) dX25_payFor_42 rfl (by decide) rfl ?_
      refine x_put 648 56 (c := 23) dX25_payFor_43 i143 rfl in_X25 tyX25_ok nmX25 q4291 rfl rfl rfl (Or.inl rfl) (Or.inl ⟨rfl, rfl⟩) rfl ?_
      refine x_goto 46 (q := 92) dX25_payFor_46 rfl ?_
      exact y_vret dX25_payFor_92 rfl k
  · refine x_aload_n 0 dX25_payFor_13 rfl rfl rfl rfl rfl ?_
    refine x_bipush 9 (z := 9) dX25_payFor_14 rfl (by decide) rfl ?_
    refine x_put 648 56 (c := 23) dX25_payFor_16 i143 rfl in_X25 tyX25_ok nmX25 q4291 rfl rfl rfl (Or.inl rfl) (Or.inl ⟨rfl, rfl⟩) rfl ?_
    refine x_goto 73 (q := 92) dX25_payFor_19 rfl ?_
    exact y_vret dX25_payFor_92 rfl k
def fX25_exists (w : bW) (a1 : Int) (a2 : Int) : Int := (if a1 = 0 then (if w 143 65 ≤ a2 then 0 else 1) else (if w 143 68 ≤ a2 then 0 else (if w 233 a2 = 0 then 0 else 1)))
def oX25_exists (n : Nat) (w : bW) (a1 : Int) (a2 : Int) : Prop := if a1 = 0 then True else (if w 143 68 ≤ a2 then True else ((0 ≤ a2 ∧ a2 < 100) ∧ (True)))
theorem vX25_exists {d n : Nat} {w : bW} {Q : Int → bW → Prop} {X : String → bW → Prop} (hn : 254 ≤ n) (a1 : Int) (a2 : Int) (ok : oX25_exists n w a1 a2) (k : Q (fX25_exists w a1 a2) w) : b_K (d + 1) mX25_exists [(2, 143), (0, a1), (0, a2)] n w Q X := by
  have i143 := iz143 (Nat.le_trans (Nat.le_of_ble_eq_true rfl) hn)
  have i233 := iz233 (Nat.le_trans (Nat.le_of_ble_eq_true rfl) hn)
  unfold fX25_exists at k
  unfold oX25_exists at ok
  refine k_of (by decide) rfl rfl rfl (ls := [(2, 143), (0, a1), (0, a2)]) rfl ?_
  refine x_iload_n 1 dX25_exists_0 rfl rfl rfl ?_
  refine x_if_eq (t := 29) 28 dX25_exists_1 rfl rfl (b_itqv ok k (fun hc ok k => ?_) (fun hc ok k => ?_))
  · refine x_iload_n 2 dX25_exists_29 rfl rfl rfl ?_
    refine x_aload_n 0 dX25_exists_30 rfl rfl rfl rfl rfl ?_
    refine y_get 888 65 (c := 23) (z := w 143 65) dX25_exists_31 i143 rfl in_X25 q4300 rfl rfl rfl rfl rfl ?_
    refine x_icmp_ge (t := 41) 7 dX25_exists_34 rfl rfl (b_itqv (b_tt _) k (fun hc ok k => ?_) (fun hc ok k => ?_))
    · refine x_iconst 0 (z := 0) dX25_exists_41 rfl (by decide) rfl ?_
      exact y_zret dX25_exists_42 rfl (by decide) k
    · refine x_iconst 1 (z := 1) dX25_exists_37 rfl (by decide) rfl ?_
      refine x_goto 4 (q := 42) dX25_exists_38 rfl ?_
      exact y_zret dX25_exists_42 rfl (by decide) k
  · refine x_iload_n 2 dX25_exists_4 rfl rfl rfl ?_
    refine x_aload_n 0 dX25_exists_5 rfl rfl rfl rfl rfl ?_
    refine y_get 891 68 (c := 23) (z := w 143 68) dX25_exists_6 i143 rfl in_X25 q4303 rfl rfl rfl rfl rfl ?_
    refine x_icmp_ge (t := 25) 16 dX25_exists_9 rfl rfl (b_itqv ok k (fun hc ok k => ?_) (fun hc ok k => ?_))
    · refine x_iconst 0 (z := 0) dX25_exists_25 rfl (by decide) rfl ?_
      refine x_goto 16 (q := 42) dX25_exists_26 rfl ?_
      exact y_zret dX25_exists_42 rfl (by decide) k
    · refine x_aload_n 0 dX25_exists_12 rfl rfl rfl rfl rfl ?_
      refine y_getF 894 69 (c := 23) (z := 233) dX25_exists_13 i143 rfl in_X25 q4304 rfl rfl rfl fn_143_69 (Nat.le_trans (Nat.le_of_ble_eq_true rfl) hn) rfl ?_
      refine x_iload_n 2 dX25_exists_16 rfl rfl rfl ?_
      obtain ⟨e1, ok⟩ := ok
      refine y_zald (z := w 233 a2) dX25_exists_17 ⟨100, i233, e1⟩ rfl rfl ?_
      refine x_if_eq (t := 25) 7 dX25_exists_18 rfl rfl (b_itqv (b_tt _) k (fun hc ok k => ?_) (fun hc ok k => ?_))
      · refine x_iconst 0 (z := 0) dX25_exists_25 rfl (by decide) rfl ?_
        refine x_goto 16 (q := 42) dX25_exists_26 rfl ?_
        exact y_zret dX25_exists_42 rfl (by decide) k
      · refine x_iconst 1 (z := 1) dX25_exists_21 rfl (by decide) rfl ?_
        refine x_goto 20 (q := 42) dX25_exists_22 rfl ?_
        exact y_zret dX25_exists_42 rfl (by decide) k
def gX25_expect (w : bW) (a1 : Int) : bW := (if a1 = 0 then (b_up w 143 57 (b_i ((w 143 57) + 1))) else (b_up w 143 57 (w 143 57)))
theorem vX25_expect {d n : Nat} {w : bW} {Q : Int → bW → Prop} {X : String → bW → Prop} (hn : 144 ≤ n) (a1 : Int) (k : Q 0 (gX25_expect w a1)) : b_K (d + 1) mX25_expect [(2, 143), (0, a1)] n w Q X := by
  have i143 := iz143 (Nat.le_trans (Nat.le_of_ble_eq_true rfl) hn)
  unfold gX25_expect at k
  refine k_of (by decide) rfl rfl rfl (ls := [(2, 143), (0, a1)]) rfl ?_
  refine x_aload_n 0 dX25_expect_0 rfl rfl rfl rfl rfl ?_
  refine x_iload_n 1 dX25_expect_1 rfl rfl rfl ?_
  refine x_if_eq (t := 12) 10 dX25_expect_2 rfl rfl (b_itqw (b_tt _) k (fun hc ok k => ?_) (fun hc ok k => ?_))
  · refine x_aload_n 0 dX25_expect_12 rfl rfl rfl rfl rfl ?_
    refine y_get 249 57 (c := 23) (z := w 143 57) dX25_expect_13 i143 rfl in_X25 q4292 rfl rfl rfl rfl rfl ?_
    refine x_iconst 1 (z := 1) dX25_expect_16 rfl (by decide) rfl ?_
    refine x_iadd dX25_expect_17 rfl ?_
    refine x_put 249 57 (c := 23) dX25_expect_18 i143 rfl in_X25 tyX25_ok nmX25 q4292 rfl rfl rfl (Or.inl rfl) (Or.inl ⟨rfl, rfl⟩) rfl ?_
    exact y_vret dX25_expect_21 rfl k
  · refine x_aload_n 0 dX25_expect_5 rfl rfl rfl rfl rfl ?_
    refine y_get 249 57 (c := 23) (z := w 143 57) dX25_expect_6 i143 rfl in_X25 q4292 rfl rfl rfl rfl rfl ?_
    refine x_goto 9 (q := 18) dX25_expect_9 rfl ?_
    refine x_put 249 57 (c := 23) dX25_expect_18 i143 rfl in_X25 tyX25_ok nmX25 q4292 rfl rfl rfl (Or.inl rfl) (Or.inl ⟨rfl, rfl⟩) rfl ?_
    exact y_vret dX25_expect_21 rfl k
def gX25_push (w : bW) (a1 : Int) : bW := (b_up (b_up w 146 (w 143 4) a1) 143 4 (b_i ((w 143 4) + 1)))
def oX25_push (n : Nat) (w : bW) (a1 : Int) : Prop := (0 ≤ w 143 4 ∧ w 143 4 < 20000) ∧ (True)
theorem vX25_push {d n : Nat} {w : bW} {Q : Int → bW → Prop} {X : String → bW → Prop} (hn : 254 ≤ n) (a1 : Int) (ok : oX25_push n w a1) (k : Q 0 (gX25_push w a1)) : b_K (d + 1) mX25_push [(2, 143), (0, a1)] n w Q X := by
  have i143 := iz143 (Nat.le_trans (Nat.le_of_ble_eq_true rfl) hn)
  have i146 := iz146 (Nat.le_trans (Nat.le_of_ble_eq_true rfl) hn)
  unfold gX25_push at k
  unfold oX25_push at ok
  refine k_of (by decide) rfl rfl rfl (ls := [(2, 143), (0, a1)]) rfl ?_
  refine x_aload_n 0 dX25_push_0 rfl rfl rfl rfl rfl ?_
  refine y_getF 19 3 (c := 23) (z := 146) dX25_push_1 i143 rfl in_X25 q4238 rfl rfl rfl fn_143_3 (Nat.le_trans (Nat.le_of_ble_eq_true rfl) hn) rfl ?_
  refine x_aload_n 0 dX25_push_4 rfl rfl rfl rfl rfl ?_
  refine y_get 22 4 (c := 23) (z := w 143 4) dX25_push_5 i143 rfl in_X25 q4239 rfl rfl rfl rfl rfl ?_
  refine x_iload_n 1 dX25_push_8 rfl rfl rfl ?_
  obtain ⟨e1, ok⟩ := ok
  refine y_iast (x' := a1) dX25_push_9 ⟨20000, i146, e1⟩ rfl rfl ?_
  refine x_aload_n 0 dX25_push_10 rfl rfl rfl rfl rfl ?_
  refine x_dup dX25_push_11 rfl rfl ?_
  refine y_get 22 4 (c := 23) (z := w 143 4) dX25_push_12 i143 rfl in_X25 q4239 rfl rfl rfl rfl rfl ?_
  refine x_iconst 1 (z := 1) dX25_push_15 rfl (by decide) rfl ?_
  refine x_iadd dX25_push_16 rfl ?_
  refine x_put 22 4 (c := 23) dX25_push_17 i143 rfl in_X25 tyX25_ok nmX25 q4239 rfl rfl rfl (Or.inl rfl) (Or.inl ⟨rfl, rfl⟩) rfl ?_
  exact y_vret dX25_push_20 rfl k
def fX25_pull (w : bW) : Int := w 146 (b_i ((w 143 4) - 1))
def gX25_pull (w : bW) : bW := (b_up w 143 4 (b_i ((w 143 4) - 1)))
def oX25_pull (n : Nat) (w : bW) : Prop := (0 ≤ b_i ((w 143 4) - 1) ∧ b_i ((w 143 4) - 1) < 20000) ∧ (True)
theorem vX25_pull {d n : Nat} {w : bW} {Q : Int → bW → Prop} {X : String → bW → Prop} (hn : 254 ≤ n) (ok : oX25_pull n w) (k : Q (fX25_pull w) (gX25_pull w)) : b_K (d + 1) mX25_pull [(2, 143)] n w Q X := by
  have i143 := iz143 (Nat.le_trans (Nat.le_of_ble_eq_true rfl) hn)
  have i146 := iz146 (Nat.le_trans (Nat.le_of_ble_eq_true rfl) hn)
  unfold fX25_pull gX25_pull at k
  unfold oX25_pull at ok
  refine k_of (by decide) rfl rfl rfl (ls := [(2, 143)]) rfl ?_
  refine x_aload_n 0 dX25_pull_0 rfl rfl rfl rfl rfl ?_
  refine x_dup dX25_pull_1 rfl rfl ?_
  refine y_get 22 4 (c := 23) (z := w 143 4) dX25_pull_2 i143 rfl in_X25 q4239 rfl rfl rfl rfl rfl ?_
  refine x_iconst 1 (z := 1) dX25_pull_5 rfl (by decide) rfl ?_
  refine x_isub dX25_pull_6 rfl ?_
  refine x_put 22 4 (c := 23) dX25_pull_7 i143 rfl in_X25 tyX25_ok nmX25 q4239 rfl rfl rfl (Or.inl rfl) (Or.inl ⟨rfl, rfl⟩) rfl ?_
  refine x_aload_n 0 dX25_pull_10 rfl rfl rfl rfl rfl ?_
  refine y_getF 19 3 (c := 23) (z := 146) dX25_pull_11 i143 rfl in_X25 q4238 rfl rfl rfl fn_143_3 (Nat.le_trans (Nat.le_of_ble_eq_true rfl) hn) rfl ?_
  refine x_aload_n 0 dX25_pull_14 rfl rfl rfl rfl rfl ?_
  refine y_get 22 4 (c := 23) (z := b_i ((w 143 4) - 1)) dX25_pull_15 i143 rfl in_X25 q4239 rfl rfl rfl rfl rfl ?_
  obtain ⟨e1, ok⟩ := ok
  refine y_iald (z := w 146 (b_i ((w 143 4) - 1))) dX25_pull_18 ⟨20000, i146, e1⟩ rfl rfl ?_
  exact y_iret dX25_pull_19 rfl k
def fX25_isList (w : bW) (a1 : Int) : Int := (if a1 = 5 then 1 else (if fX25_tagOf w a1 ≠ 10 then 0 else 1))
def oX25_isList (n : Nat) (w : bW) (a1 : Int) : Prop := if a1 = 5 then True else ((oX25_tagOf n w a1) ∧ (True))
theorem vX25_isList {d n : Nat} {w : bW} {Q : Int → bW → Prop} {X : String → bW → Prop} (hn : 144 ≤ n) (a1 : Int) (ok : oX25_isList n w a1) (k : Q (fX25_isList w a1) w) : b_K (d + 2) mX25_isList [(2, 143), (0, a1)] n w Q X := by
  have i143 := iz143 (Nat.le_trans (Nat.le_of_ble_eq_true rfl) hn)
  unfold fX25_isList at k
  unfold oX25_isList at ok
  refine k_of (by decide) rfl rfl rfl (ls := [(2, 143), (0, a1)]) rfl ?_
  refine x_iload_n 1 dX25_isList_0 rfl rfl rfl ?_
  refine x_iconst 5 (z := 5) dX25_isList_1 rfl (by decide) rfl ?_
  refine x_icmp_eq (t := 15) 13 dX25_isList_2 rfl rfl (b_itqv ok k (fun hc ok k => ?_) (fun hc ok k => ?_))
  · refine x_iconst 1 (z := 1) dX25_isList_15 rfl (by decide) rfl ?_
    refine x_goto 4 (q := 20) dX25_isList_16 rfl ?_
    exact y_zret dX25_isList_20 rfl (by decide) k
  · refine x_aload_n 0 dX25_isList_5 rfl rfl rfl rfl rfl ?_
    refine x_iload_n 1 dX25_isList_6 rfl rfl rfl ?_
    obtain ⟨e3, ok⟩ := ok
    refine y_Vi 143 (M := mX25_tagOf) (As := [(0, a1)]) (st := []) dX25_isList_7 i143 rfl q3554 q3556 qs247 q392 q3557 rfl hmX25_tagOf rfl rfl rfl rfl rfl rfl rfl rfl (vX25_tagOf (Nat.le_trans (Nat.le_of_ble_eq_true rfl) hn) a1 e3 ?_)
    refine x_bipush 10 (z := 10) dX25_isList_10 rfl (by decide) rfl ?_
    refine x_icmp_ne (t := 19) 7 dX25_isList_12 rfl rfl (b_itqv (b_tt _) k (fun hc ok k => ?_) (fun hc ok k => ?_))
    · refine x_iconst 0 (z := 0) dX25_isList_19 rfl (by decide) rfl ?_
      exact y_zret dX25_isList_20 rfl (by decide) k
    · refine x_iconst 1 (z := 1) dX25_isList_15 rfl (by decide) rfl ?_
      refine x_goto 4 (q := 20) dX25_isList_16 rfl ?_
      exact y_zret dX25_isList_20 rfl (by decide) k
def fX25_isRow (w : bW) (a0 : Int) : Int := (if a0 = 11 then 1 else (if a0 = 12 then 1 else (if a0 ≠ 13 then 0 else 1)))
theorem vX25_isRow {d n : Nat} {w : bW} {Q : Int → bW → Prop} {X : String → bW → Prop} (a0 : Int) (k : Q (fX25_isRow w a0) w) : b_K (d + 1) mX25_isRow [(0, a0)] n w Q X := by
  unfold fX25_isRow at k
  refine k_of (by decide) rfl rfl rfl (ls := [(0, a0)]) rfl ?_
  refine x_iload_n 0 dX25_isRow_0 rfl rfl rfl ?_
  refine x_bipush 11 (z := 11) dX25_isRow_1 rfl (by decide) rfl ?_
  refine x_icmp_eq (t := 18) 15 dX25_isRow_3 rfl rfl (b_itqv (b_tt _) k (fun hc ok k => ?_) (fun hc ok k => ?_))
  · refine x_iconst 1 (z := 1) dX25_isRow_18 rfl (by decide) rfl ?_
    refine x_goto 4 (q := 23) dX25_isRow_19 rfl ?_
    exact y_zret dX25_isRow_23 rfl (by decide) k
  · refine x_iload_n 0 dX25_isRow_6 rfl rfl rfl ?_
    refine x_bipush 12 (z := 12) dX25_isRow_7 rfl (by decide) rfl ?_
    refine x_icmp_eq (t := 18) 9 dX25_isRow_9 rfl rfl (b_itqv (b_tt _) k (fun hc ok k => ?_) (fun hc ok k => ?_))
    · refine x_iconst 1 (z := 1) dX25_isRow_18 rfl (by decide) rfl ?_
      refine x_goto 4 (q := 23) dX25_isRow_19 rfl ?_
      exact y_zret dX25_isRow_23 rfl (by decide) k
    · refine x_iload_n 0 dX25_isRow_12 rfl rfl rfl ?_
      refine x_bipush 13 (z := 13) dX25_isRow_13 rfl (by decide) rfl ?_
      refine x_icmp_ne (t := 22) 7 dX25_isRow_15 rfl rfl (b_itqv (b_tt _) k (fun hc ok k => ?_) (fun hc ok k => ?_))
      · refine x_iconst 0 (z := 0) dX25_isRow_22 rfl (by decide) rfl ?_
        exact y_zret dX25_isRow_23 rfl (by decide) k
      · refine x_iconst 1 (z := 1) dX25_isRow_18 rfl (by decide) rfl ?_
        refine x_goto 4 (q := 23) dX25_isRow_19 rfl ?_
        exact y_zret dX25_isRow_23 rfl (by decide) k
def gX25_frame (w : bW) (a1 : Int) (a2 : Int) (a3 : Int) (a4 : Int) : bW := (b_up (b_up (b_up (b_up (b_up w 229 (w 143 53) a2) 229 (b_i ((w 143 53) + 1)) a3) 229 (b_i ((w 143 53) + 2)) a4) 229 (b_i ((w 143 53) + 3)) a1) 143 53 (b_i ((w 143 53) + 4)))
def oX25_frame (n : Nat) (w : bW) (a1 : Int) (a2 : Int) (a3 : Int) (a4 : Int) : Prop := (0 ≤ w 143 53 ∧ w 143 53 < 40000) ∧ ((0 ≤ b_i ((w 143 53) + 1) ∧ b_i ((w 143 53) + 1) < 40000) ∧ ((0 ≤ b_i ((w 143 53) + 2) ∧ b_i ((w 143 53) + 2) < 40000) ∧ ((0 ≤ b_i ((w 143 53) + 3) ∧ b_i ((w 143 53) + 3) < 40000) ∧ (True))))
theorem vX25_frame {d n : Nat} {w : bW} {Q : Int → bW → Prop} {X : String → bW → Prop} (hn : 254 ≤ n) (a1 : Int) (a2 : Int) (a3 : Int) (a4 : Int) (ok : oX25_frame n w a1 a2 a3 a4) (k : Q 0 (gX25_frame w a1 a2 a3 a4)) : b_K (d + 1) mX25_frame [(2, 143), (0, a1), (0, a2), (0, a3), (0, a4)] n w Q X := by
  have i143 := iz143 (Nat.le_trans (Nat.le_of_ble_eq_true rfl) hn)
  have i229 := iz229 (Nat.le_trans (Nat.le_of_ble_eq_true rfl) hn)
  unfold gX25_frame at k
  unfold oX25_frame at ok
  refine k_of (by decide) rfl rfl rfl (ls := [(2, 143), (0, a1), (0, a2), (0, a3), (0, a4)]) rfl ?_
  refine x_aload_n 0 dX25_frame_0 rfl rfl rfl rfl rfl ?_
  refine y_getF 654 52 (c := 23) (z := 229) dX25_frame_1 i143 rfl in_X25 q4287 rfl rfl rfl fn_143_52 (Nat.le_trans (Nat.le_of_ble_eq_true rfl) hn) rfl ?_
  refine x_aload_n 0 dX25_frame_4 rfl rfl rfl rfl rfl ?_
  refine y_get 657 53 (c := 23) (z := w 143 53) dX25_frame_5 i143 rfl in_X25 q4288 rfl rfl rfl rfl rfl ?_
  refine x_iload_n 2 dX25_frame_8 rfl rfl rfl ?_
  obtain ⟨e1, ok⟩ := ok
  refine y_iast (x' := a2) dX25_frame_9 ⟨40000, i229, e1⟩ rfl rfl ?_
  refine x_aload_n 0 dX25_frame_10 rfl rfl rfl rfl rfl ?_
  refine y_getF 654 52 (c := 23) (z := 229) dX25_frame_11 i143 rfl in_X25 q4287 rfl rfl rfl fn_143_52 (Nat.le_trans (Nat.le_of_ble_eq_true rfl) hn) rfl ?_
  refine x_aload_n 0 dX25_frame_14 rfl rfl rfl rfl rfl ?_
  refine y_get 657 53 (c := 23) (z := w 143 53) dX25_frame_15 i143 rfl in_X25 q4288 rfl rfl rfl rfl rfl ?_
  refine x_iconst 1 (z := 1) dX25_frame_18 rfl (by decide) rfl ?_
  refine x_iadd dX25_frame_19 rfl ?_
  refine x_iload_n 3 dX25_frame_20 rfl rfl rfl ?_
  obtain ⟨e2, ok⟩ := ok
  refine y_iast (x' := a3) dX25_frame_21 ⟨40000, i229, e2⟩ rfl rfl ?_
  refine x_aload_n 0 dX25_frame_22 rfl rfl rfl rfl rfl ?_
  refine y_getF 654 52 (c := 23) (z := 229) dX25_frame_23 i143 rfl in_X25 q4287 rfl rfl rfl fn_143_52 (Nat.le_trans (Nat.le_of_ble_eq_true rfl) hn) rfl ?_
  refine x_aload_n 0 dX25_frame_26 rfl rfl rfl rfl rfl ?_
  refine y_get 657 53 (c := 23) (z := w 143 53) dX25_frame_27 i143 rfl in_X25 q4288 rfl rfl rfl rfl rfl ?_
  refine x_iconst 2 (z := 2) dX25_frame_30 rfl (by decide) rfl ?_
  refine x_iadd dX25_frame_31 rfl ?_
  refine x_iload 4 dX25_frame_32 rfl rfl ?_
  obtain ⟨e3, ok⟩ := ok
  refine y_iast (x' := a4) dX25_frame_34 ⟨40000, i229, e3⟩ rfl rfl ?_
  refine x_aload_n 0 dX25_frame_35 rfl rfl rfl rfl rfl ?_
  refine y_getF 654 52 (c := 23) (z := 229) dX25_frame_36 i143 rfl in_X25 q4287 rfl rfl rfl fn_143_52 (Nat.le_trans (Nat.le_of_ble_eq_true rfl) hn) rfl ?_
  refine x_aload_n 0 dX25_frame_39 rfl rfl rfl rfl rfl ?_
  refine y_get 657 53 (c := 23) (z := w 143 53) dX25_frame_40 i143 rfl in_X25 q4288 rfl rfl rfl rfl rfl ?_
  refine x_iconst 3 (z := 3) dX25_frame_43 rfl (by decide) rfl ?_
  refine x_iadd dX25_frame_44 rfl ?_
  refine x_iload_n 1 dX25_frame_45 rfl rfl rfl ?_
  obtain ⟨e4, ok⟩ := ok
  refine y_iast (x' := a1) dX25_frame_46 ⟨40000, i229, e4⟩ rfl rfl ?_
  refine x_aload_n 0 dX25_frame_47 rfl rfl rfl rfl rfl ?_
  refine x_dup dX25_frame_48 rfl rfl ?_
  refine y_get 657 53 (c := 23) (z := w 143 53) dX25_frame_49 i143 rfl in_X25 q4288 rfl rfl rfl rfl rfl ?_
  refine x_iconst 4 (z := 4) dX25_frame_52 rfl (by decide) rfl ?_
  refine x_iadd dX25_frame_53 rfl ?_
  refine x_put 657 53 (c := 23) dX25_frame_54 i143 rfl in_X25 tyX25_ok nmX25 q4288 rfl rfl rfl (Or.inl rfl) (Or.inl ⟨rfl, rfl⟩) rfl ?_
  exact y_vret dX25_frame_57 rfl k
def fX25_peek (w : bW) (a1 : Int) : Int := w 146 (b_i ((b_i ((w 143 4) - 1)) - a1))
def oX25_peek (n : Nat) (w : bW) (a1 : Int) : Prop := (0 ≤ b_i ((b_i ((w 143 4) - 1)) - a1) ∧ b_i ((b_i ((w 143 4) - 1)) - a1) < 20000) ∧ (True)
theorem vX25_peek {d n : Nat} {w : bW} {Q : Int → bW → Prop} {X : String → bW → Prop} (hn : 254 ≤ n) (a1 : Int) (ok : oX25_peek n w a1) (k : Q (fX25_peek w a1) w) : b_K (d + 1) mX25_peek [(2, 143), (0, a1)] n w Q X := by
  have i143 := iz143 (Nat.le_trans (Nat.le_of_ble_eq_true rfl) hn)
  have i146 := iz146 (Nat.le_trans (Nat.le_of_ble_eq_true rfl) hn)
  unfold fX25_peek at k
  unfold oX25_peek at ok
  refine k_of (by decide) rfl rfl rfl (ls := [(2, 143), (0, a1)]) rfl ?_
  refine x_aload_n 0 dX25_peek_0 rfl rfl rfl rfl rfl ?_
  refine y_getF 19 3 (c := 23) (z := 146) dX25_peek_1 i143 rfl in_X25 q4238 rfl rfl rfl fn_143_3 (Nat.le_trans (Nat.le_of_ble_eq_true rfl) hn) rfl ?_
  refine x_aload_n 0 dX25_peek_4 rfl rfl rfl rfl rfl ?_
  refine y_get 22 4 (c := 23) (z := w 143 4) dX25_peek_5 i143 rfl in_X25 q4239 rfl rfl rfl rfl rfl ?_
  refine x_iconst 1 (z := 1) dX25_peek_8 rfl (by decide) rfl ?_
  refine x_isub dX25_peek_9 rfl ?_
  refine x_iload_n 1 dX25_peek_10 rfl rfl rfl ?_
  refine x_isub dX25_peek_11 rfl ?_
  obtain ⟨e1, ok⟩ := ok
  refine y_iald (z := w 146 (b_i ((b_i ((w 143 4) - 1)) - a1))) dX25_peek_12 ⟨20000, i146, e1⟩ rfl rfl ?_
  exact y_iret dX25_peek_13 rfl k
def gX25_give (w : bW) (a1 : Int) (a2 : Int) : bW := (gX25_push (b_up w 143 4 (b_i ((w 143 4) - a1))) a2)
def oX25_give (n : Nat) (w : bW) (a1 : Int) (a2 : Int) : Prop := (oX25_push n (b_up w 143 4 (b_i ((w 143 4) - a1))) a2) ∧ (True)
theorem vX25_give {d n : Nat} {w : bW} {Q : Int → bW → Prop} {X : String → bW → Prop} (hn : 254 ≤ n) (a1 : Int) (a2 : Int) (ok : oX25_give n w a1 a2) (k : Q 0 (gX25_give w a1 a2)) : b_K (d + 2) mX25_give [(2, 143), (0, a1), (0, a2)] n w Q X := by
  have i143 := iz143 (Nat.le_trans (Nat.le_of_ble_eq_true rfl) hn)
  unfold gX25_give at k
  unfold oX25_give at ok
  refine k_of (by decide) rfl rfl rfl (ls := [(2, 143), (0, a1), (0, a2)]) rfl ?_
  refine x_aload_n 0 dX25_give_0 rfl rfl rfl rfl rfl ?_
  refine x_dup dX25_give_1 rfl rfl ?_
  refine y_get 22 4 (c := 23) (z := w 143 4) dX25_give_2 i143 rfl in_X25 q4239 rfl rfl rfl rfl rfl ?_
  refine x_iload_n 1 dX25_give_5 rfl rfl rfl ?_
  refine x_isub dX25_give_6 rfl ?_
  refine x_put 22 4 (c := 23) dX25_give_7 i143 rfl in_X25 tyX25_ok nmX25 q4239 rfl rfl rfl (Or.inl rfl) (Or.inl ⟨rfl, rfl⟩) rfl ?_
  refine x_aload_n 0 dX25_give_10 rfl rfl rfl rfl rfl ?_
  refine x_iload_n 2 dX25_give_11 rfl rfl rfl ?_
  obtain ⟨e3, ok⟩ := ok
  refine y_Vv 651 (M := mX25_push) (As := [(0, a2)]) (st := []) dX25_give_12 i143 rfl q3725 q3727 qs285 q392 q3728 rfl hmX25_push rfl rfl rfl rfl rfl rfl rfl (vX25_push (Nat.le_trans (Nat.le_of_ble_eq_true rfl) hn) a2 e3 ?_)
  exact y_vret dX25_give_15 rfl k
def gX25_putAside (w : bW) (a1 : Int) : bW := (b_up (b_up w 147 (w 143 6) a1) 143 6 (b_i ((w 143 6) + 1)))
def oX25_putAside (n : Nat) (w : bW) (a1 : Int) : Prop := (0 ≤ w 143 6 ∧ w 143 6 < 20000) ∧ (True)
theorem vX25_putAside {d n : Nat} {w : bW} {Q : Int → bW → Prop} {X : String → bW → Prop} (hn : 254 ≤ n) (a1 : Int) (ok : oX25_putAside n w a1) (k : Q 0 (gX25_putAside w a1)) : b_K (d + 1) mX25_putAside [(2, 143), (0, a1)] n w Q X := by
  have i143 := iz143 (Nat.le_trans (Nat.le_of_ble_eq_true rfl) hn)
  have i147 := iz147 (Nat.le_trans (Nat.le_of_ble_eq_true rfl) hn)
  unfold gX25_putAside at k
  unfold oX25_putAside at ok
  refine k_of (by decide) rfl rfl rfl (ls := [(2, 143), (0, a1)]) rfl ?_
  refine x_aload_n 0 dX25_putAside_0 rfl rfl rfl rfl rfl ?_
  refine y_getF 29 5 (c := 23) (z := 147) dX25_putAside_1 i143 rfl in_X25 q4240 rfl rfl rfl fn_143_5 (Nat.le_trans (Nat.le_of_ble_eq_true rfl) hn) rfl ?_
  refine x_aload_n 0 dX25_putAside_4 rfl rfl rfl rfl rfl ?_
  refine y_get 32 6 (c := 23) (z := w 143 6) dX25_putAside_5 i143 rfl in_X25 q4241 rfl rfl rfl rfl rfl ?_
  refine x_iload_n 1 dX25_putAside_8 rfl rfl rfl ?_
  obtain ⟨e1, ok⟩ := ok
  refine y_iast (x' := a1) dX25_putAside_9 ⟨20000, i147, e1⟩ rfl rfl ?_
  refine x_aload_n 0 dX25_putAside_10 rfl rfl rfl rfl rfl ?_
  refine x_dup dX25_putAside_11 rfl rfl ?_
  refine y_get 32 6 (c := 23) (z := w 143 6) dX25_putAside_12 i143 rfl in_X25 q4241 rfl rfl rfl rfl rfl ?_
  refine x_iconst 1 (z := 1) dX25_putAside_15 rfl (by decide) rfl ?_
  refine x_iadd dX25_putAside_16 rfl ?_
  refine x_put 32 6 (c := 23) dX25_putAside_17 i143 rfl in_X25 tyX25_ok nmX25 q4241 rfl rfl rfl (Or.inl rfl) (Or.inl ⟨rfl, rfl⟩) rfl ?_
  exact y_vret dX25_putAside_20 rfl k
def fX25_fail (w : bW) (a1 : Int) : Int := (-1)
def gX25_fail (w : bW) (a1 : Int) : bW := (b_up w 143 56 a1)
theorem vX25_fail {d n : Nat} {w : bW} {Q : Int → bW → Prop} {X : String → bW → Prop} (hn : 144 ≤ n) (a1 : Int) (k : Q (fX25_fail w a1) (gX25_fail w a1)) : b_K (d + 1) mX25_fail [(2, 143), (0, a1)] n w Q X := by
  have i143 := iz143 (Nat.le_trans (Nat.le_of_ble_eq_true rfl) hn)
  unfold fX25_fail gX25_fail at k
  refine k_of (by decide) rfl rfl rfl (ls := [(2, 143), (0, a1)]) rfl ?_
  refine x_aload_n 0 dX25_fail_0 rfl rfl rfl rfl rfl ?_
  refine x_iload_n 1 dX25_fail_1 rfl rfl rfl ?_
  refine x_put 648 56 (c := 23) dX25_fail_2 i143 rfl in_X25 tyX25_ok nmX25 q4291 rfl rfl rfl (Or.inl rfl) (Or.inl ⟨rfl, rfl⟩) rfl ?_
  refine x_iconst (-1) (z := (-1)) dX25_fail_5 rfl (by decide) rfl ?_
  exact y_iret dX25_fail_6 rfl k
def fX25_truth (w : bW) (a0 : Int) : Int := (if a0 = 0 then 2 else 3)
theorem vX25_truth {d n : Nat} {w : bW} {Q : Int → bW → Prop} {X : String → bW → Prop} (a0 : Int) (k : Q (fX25_truth w a0) w) : b_K (d + 1) mX25_truth [(0, a0)] n w Q X := by
  unfold fX25_truth at k
  refine k_of (by decide) rfl rfl rfl (ls := [(0, a0)]) rfl ?_
  refine x_iload_n 0 dX25_truth_0 rfl rfl rfl ?_
  refine x_if_eq (t := 8) 7 dX25_truth_1 rfl rfl (b_itqv (b_tt _) k (fun hc ok k => ?_) (fun hc ok k => ?_))
  · refine x_iconst 2 (z := 2) dX25_truth_8 rfl (by decide) rfl ?_
    exact y_iret dX25_truth_9 rfl k
  · refine x_iconst 3 (z := 3) dX25_truth_4 rfl (by decide) rfl ?_
    refine x_goto 4 (q := 9) dX25_truth_5 rfl ?_
    exact y_iret dX25_truth_9 rfl k
def gX25_truths (w : bW) (a1 : Int) (a2 : Int) (a3 : Int) : bW := (if a1 ≠ 73 then (if a1 ≠ 74 then (if a1 ≠ 75 then (if a2 ≠ 0 then (if a1 ≠ 76 then (gX25_give w 2 (fX25_truth w 0)) else (gX25_give w 1 (fX25_truth w 0))) else (if a1 ≠ 76 then (gX25_give w 2 (fX25_truth w 1)) else (gX25_give w 1 (fX25_truth w 1)))) else (if a2 = a3 then (if a1 ≠ 76 then (gX25_give w 2 (fX25_truth w 0)) else (gX25_give w 1 (fX25_truth w 0))) else (if a1 ≠ 76 then (gX25_give w 2 (fX25_truth w 1)) else (gX25_give w 1 (fX25_truth w 1))))) else (if a2 ≠ 0 then (if a1 ≠ 76 then (gX25_give w 2 (fX25_truth w 1)) else (gX25_give w 1 (fX25_truth w 1))) else (if a3 = 0 then (if a1 ≠ 76 then (gX25_give w 2 (fX25_truth w 0)) else (gX25_give w 1 (fX25_truth w 0))) else (if a1 ≠ 76 then (gX25_give w 2 (fX25_truth w 1)) else (gX25_give w 1 (fX25_truth w 1)))))) else (if a2 = 0 then (if a1 ≠ 76 then (gX25_give w 2 (fX25_truth w 0)) else (gX25_give w 1 (fX25_truth w 0))) else (if a3 = 0 then (if a1 ≠ 76 then (gX25_give w 2 (fX25_truth w 0)) else (gX25_give w 1 (fX25_truth w 0))) else (if a1 ≠ 76 then (gX25_give w 2 (fX25_truth w 1)) else (gX25_give w 1 (fX25_truth w 1))))))
def oX25_truths (n : Nat) (w : bW) (a1 : Int) (a2 : Int) (a3 : Int) : Prop := if a1 ≠ 73 then (if a1 ≠ 74 then (if a1 ≠ 75 then (if a2 ≠ 0 then (if a1 ≠ 76 then ((oX25_give n w 2 (fX25_truth w 0)) ∧ (True)) else ((oX25_give n w 1 (fX25_truth w 0)) ∧ (True))) else (if a1 ≠ 76 then ((oX25_give n w 2 (fX25_truth w 1)) ∧ (True)) else ((oX25_give n w 1 (fX25_truth w 1)) ∧ (True)))) else (if a2 = a3 then (if a1 ≠ 76 then ((oX25_give n w 2 (fX25_truth w 0)) ∧ (True)) else ((oX25_give n w 1 (fX25_truth w 0)) ∧ (True))) else (if a1 ≠ 76 then ((oX25_give n w 2 (fX25_truth w 1)) ∧ (True)) else ((oX25_give n w 1 (fX25_truth w 1)) ∧ (True))))) else (if a2 ≠ 0 then (if a1 ≠ 76 then ((oX25_give n w 2 (fX25_truth w 1)) ∧ (True)) else ((oX25_give n w 1 (fX25_truth w 1)) ∧ (True))) else (if a3 = 0 then (if a1 ≠ 76 then ((oX25_give n w 2 (fX25_truth w 0)) ∧ (True)) else ((oX25_give n w 1 (fX25_truth w 0)) ∧ (True))) else (if a1 ≠ 76 then ((oX25_give n w 2 (fX25_truth w 1)) ∧ (True)) else ((oX25_give n w 1 (fX25_truth w 1)) ∧ (True)))))) else (if a2 = 0 then (if a1 ≠ 76 then ((oX25_give n w 2 (fX25_truth w 0)) ∧ (True)) else ((oX25_give n w 1 (fX25_truth w 0)) ∧ (True))) else (if a3 = 0 then (if a1 ≠ 76 then ((oX25_give n w 2 (fX25_truth w 0)) ∧ (True)) else ((oX25_give n w 1 (fX25_truth w 0)) ∧ (True))) else (if a1 ≠ 76 then ((oX25_give n w 2 (fX25_truth w 1)) ∧ (True)) else ((oX25_give n w 1 (fX25_truth w 1)) ∧ (True)))))
theorem vX25_truths {d n : Nat} {w : bW} {Q : Int → bW → Prop} {X : String → bW → Prop} (hn : 254 ≤ n) (a1 : Int) (a2 : Int) (a3 : Int) (ok : oX25_truths n w a1 a2 a3) (k : Q 0 (gX25_truths w a1 a2 a3)) : b_K (d + 3) mX25_truths [(2, 143), (0, a1), (0, a2), (0, a3)] n w Q X := by
  have i143 := iz143 (Nat.le_trans (Nat.le_of_ble_eq_true rfl) hn)
  unfold gX25_truths at k
  unfold oX25_truths at ok
  refine k_of (by decide) rfl rfl rfl (ls := [(2, 143), (0, a1), (0, a2), (0, a3), (9, 0)]) rfl ?_
  refine x_iload_n 1 dX25_truths_0 rfl rfl rfl ?_
  refine x_bipush 73 (z := 73) dX25_truths_1 rfl (by decide) rfl ?_
  refine x_icmp_ne (t := 22) 19 dX25_truths_3 rfl rfl (b_itqw ok k (fun hc ok k => ?_) (fun hc ok k => ?_))
  · refine x_iload_n 1 dX25_truths_22 rfl rfl rfl ?_
    refine x_bipush 74 (z := 74) dX25_truths_23 rfl (by decide) rfl ?_
    refine x_icmp_ne (t := 44) 19 dX25_truths_25 rfl rfl (b_itqw ok k (fun hc ok k => ?_) (fun hc ok k => ?_))
    · refine x_iload_n 1 dX25_truths_44 rfl rfl rfl ?_
      refine x_bipush 75 (z := 75) dX25_truths_45 rfl (by decide) rfl ?_
      refine x_icmp_ne (t := 63) 16 dX25_truths_47 rfl rfl (b_itqw ok k (fun hc ok k => ?_) (fun hc ok k => ?_))
      · refine x_iload_n 2 dX25_truths_63 rfl rfl rfl ?_
        refine x_if_ne (t := 71) 7 dX25_truths_64 rfl rfl (b_itqw ok k (fun hc ok k => ?_) (fun hc ok k => ?_))
        · refine x_iconst 0 (z := 0) dX25_truths_71 rfl (by decide) rfl ?_
          refine x_istore 4 (ls' := [(2, 143), (0, a1), (0, a2), (0, a3), (0, 0)]) dX25_truths_72 rfl rfl rfl ?_
          refine x_aload_n 0 dX25_truths_74 rfl rfl rfl rfl rfl ?_
          refine x_iload_n 1 dX25_truths_75 rfl rfl rfl ?_
          refine x_bipush 76 (z := 76) dX25_truths_76 rfl (by decide) rfl ?_
          refine x_icmp_ne (t := 85) 7 dX25_truths_78 rfl rfl (b_itqw ok k (fun hc ok k => ?_) (fun hc ok k => ?_))
          · refine x_iconst 2 (z := 2) dX25_truths_85 rfl (by decide) rfl ?_
            refine x_iload 4 dX25_truths_86 rfl rfl ?_
            refine y_Si 778 (M := mX25_truth) (As := [(0, 0)]) (st := [(0, 2), (2, 143)]) dX25_truths_88 q3822 q3823 q392 q3824 hmX25_truth rfl rfl rfl rfl rfl rfl rfl rfl (vX25_truth 0 ?_)
            obtain ⟨e5, ok⟩ := ok
            refine y_Vv 729 (M := mX25_give) (As := [(0, 2), (0, fX25_truth w 0)]) (st := []) dX25_truths_91 i143 rfl q3781 q3783 qs298 q392 q3784 rfl hmX25_give rfl rfl rfl rfl rfl rfl rfl (vX25_give (Nat.le_trans (Nat.le_of_ble_eq_true rfl) hn) 2 (fX25_truth w 0) e5 ?_)
            exact y_vret dX25_truths_94 rfl k
          · refine x_iconst 1 (z := 1) dX25_truths_81 rfl (by decide) rfl ?_
            refine x_goto 4 (q := 86) dX25_truths_82 rfl ?_
            refine x_iload 4 dX25_truths_86 rfl rfl ?_
            refine y_Si 778 (M := mX25_truth) (As := [(0, 0)]) (st := [(0, 1), (2, 143)]) dX25_truths_88 q3822 q3823 q392 q3824 hmX25_truth rfl rfl rfl rfl rfl rfl rfl rfl (vX25_truth 0 ?_)
            obtain ⟨e10, ok⟩ := ok
            refine y_Vv 729 (M := mX25_give) (As := [(0, 1), (0, fX25_truth w 0)]) (st := []) dX25_truths_91 i143 rfl q3781 q3783 qs298 q392 q3784 rfl hmX25_give rfl rfl rfl rfl rfl rfl rfl (vX25_give (Nat.le_trans (Nat.le_of_ble_eq_true rfl) hn) 1 (fX25_truth w 0) e10 ?_)
            exact y_vret dX25_truths_94 rfl k
        · refine x_iconst 1 (z := 1) dX25_truths_67 rfl (by decide) rfl ?_
          refine x_goto 4 (q := 72) dX25_truths_68 rfl ?_
          refine x_istore 4 (ls' := [(2, 143), (0, a1), (0, a2), (0, a3), (0, 1)]) dX25_truths_72 rfl rfl rfl ?_
          refine x_aload_n 0 dX25_truths_74 rfl rfl rfl rfl rfl ?_
          refine x_iload_n 1 dX25_truths_75 rfl rfl rfl ?_
          refine x_bipush 76 (z := 76) dX25_truths_76 rfl (by decide) rfl ?_
          refine x_icmp_ne (t := 85) 7 dX25_truths_78 rfl rfl (b_itqw ok k (fun hc ok k => ?_) (fun hc ok k => ?_))
          · refine x_iconst 2 (z := 2) dX25_truths_85 rfl (by decide) rfl ?_
            refine x_iload 4 dX25_truths_86 rfl rfl ?_
            refine y_Si 778 (M := mX25_truth) (As := [(0, 1)]) (st := [(0, 2), (2, 143)]) dX25_truths_88 q3822 q3823 q392 q3824 hmX25_truth rfl rfl rfl rfl rfl rfl rfl rfl (vX25_truth 1 ?_)
            obtain ⟨e15, ok⟩ := ok
            refine y_Vv 729 (M := mX25_give) (As := [(0, 2), (0, fX25_truth w 1)]) (st := []) dX25_truths_91 i143 rfl q3781 q3783 qs298 q392 q3784 rfl hmX25_give rfl rfl rfl rfl rfl rfl rfl (vX25_give (Nat.le_trans (Nat.le_of_ble_eq_true rfl) hn) 2 (fX25_truth w 1) e15 ?_)
            exact y_vret dX25_truths_94 rfl k
          · refine x_iconst 1 (z := 1) dX25_truths_81 rfl (by decide) rfl ?_
            refine x_goto 4 (q := 86) dX25_truths_82 rfl ?_
            refine x_iload 4 dX25_truths_86 rfl rfl ?_
            refine y_Si 778 (M := mX25_truth) (As := [(0, 1)]) (st := [(0, 1), (2, 143)]) dX25_truths_88 q3822 q3823 q392 q3824 hmX25_truth rfl rfl rfl rfl rfl rfl rfl rfl (vX25_truth 1 ?_)
            obtain ⟨e20, ok⟩ := ok
            refine y_Vv 729 (M := mX25_give) (As := [(0, 1), (0, fX25_truth w 1)]) (st := []) dX25_truths_91 i143 rfl q3781 q3783 qs298 q392 q3784 rfl hmX25_give rfl rfl rfl rfl rfl rfl rfl (vX25_give (Nat.le_trans (Nat.le_of_ble_eq_true rfl) hn) 1 (fX25_truth w 1) e20 ?_)
            exact y_vret dX25_truths_94 rfl k
      · refine x_iload_n 2 dX25_truths_50 rfl rfl rfl ?_
        refine x_iload_n 3 dX25_truths_51 rfl rfl rfl ?_
        refine x_icmp_eq (t := 59) 7 dX25_truths_52 rfl rfl (b_itqw ok k (fun hc ok k => ?_) (fun hc ok k => ?_))
        · refine x_iconst 0 (z := 0) dX25_truths_59 rfl (by decide) rfl ?_
          refine x_goto 12 (q := 72) dX25_truths_60 rfl ?_
          refine x_istore 4 (ls' := [(2, 143), (0, a1), (0, a2), (0, a3), (0, 0)]) dX25_truths_72 rfl rfl rfl ?_
          refine x_aload_n 0 dX25_truths_74 rfl rfl rfl rfl rfl ?_
          refine x_iload_n 1 dX25_truths_75 rfl rfl rfl ?_
          refine x_bipush 76 (z := 76) dX25_truths_76 rfl (by decide) rfl ?_
          refine x_icmp_ne (t := 85) 7 dX25_truths_78 rfl rfl (b_itqw ok k (fun hc ok k => ?_) (fun hc ok k => ?_))
          · refine x_iconst 2 (z := 2) dX25_truths_85 rfl (by decide) rfl ?_
            refine x_iload 4 dX25_truths_86 rfl rfl ?_
            refine y_Si 778 (M := mX25_truth) (As := [(0, 0)]) (st := [(0, 2), (2, 143)]) dX25_truths_88 q3822 q3823 q392 q3824 hmX25_truth rfl rfl rfl rfl rfl rfl rfl rfl (vX25_truth 0 ?_)
            obtain ⟨e25, ok⟩ := ok
            refine y_Vv 729 (M := mX25_give) (As := [(0, 2), (0, fX25_truth w 0)]) (st := []) dX25_truths_91 i143 rfl q3781 q3783 qs298 q392 q3784 rfl hmX25_give rfl rfl rfl rfl rfl rfl rfl (vX25_give (Nat.le_trans (Nat.le_of_ble_eq_true rfl) hn) 2 (fX25_truth w 0) e25 ?_)
            exact y_vret dX25_truths_94 rfl k
          · refine x_iconst 1 (z := 1) dX25_truths_81 rfl (by decide) rfl ?_
            refine x_goto 4 (q := 86) dX25_truths_82 rfl ?_
            refine x_iload 4 dX25_truths_86 rfl rfl ?_
            refine y_Si 778 (M := mX25_truth) (As := [(0, 0)]) (st := [(0, 1), (2, 143)]) dX25_truths_88 q3822 q3823 q392 q3824 hmX25_truth rfl rfl rfl rfl rfl rfl rfl rfl (vX25_truth 0 ?_)
            obtain ⟨e30, ok⟩ := ok
            refine y_Vv 729 (M := mX25_give) (As := [(0, 1), (0, fX25_truth w 0)]) (st := []) dX25_truths_91 i143 rfl q3781 q3783 qs298 q392 q3784 rfl hmX25_give rfl rfl rfl rfl rfl rfl rfl (vX25_give (Nat.le_trans (Nat.le_of_ble_eq_true rfl) hn) 1 (fX25_truth w 0) e30 ?_)
            exact y_vret dX25_truths_94 rfl k
        · refine x_iconst 1 (z := 1) dX25_truths_55 rfl (by decide) rfl ?_
          refine x_goto 16 (q := 72) dX25_truths_56 rfl ?_
          refine x_istore 4 (ls' := [(2, 143), (0, a1), (0, a2), (0, a3), (0, 1)]) dX25_truths_72 rfl rfl rfl ?_
          refine x_aload_n 0 dX25_truths_74 rfl rfl rfl rfl rfl ?_
          refine x_iload_n 1 dX25_truths_75 rfl rfl rfl ?_
          refine x_bipush 76 (z := 76) dX25_truths_76 rfl (by decide) rfl ?_
          refine x_icmp_ne (t := 85) 7 dX25_truths_78 rfl rfl (b_itqw ok k (fun hc ok k => ?_) (fun hc ok k => ?_))
          · refine x_iconst 2 (z := 2) dX25_truths_85 rfl (by decide) rfl ?_
            refine x_iload 4 dX25_truths_86 rfl rfl ?_
            refine y_Si 778 (M := mX25_truth) (As := [(0, 1)]) (st := [(0, 2), (2, 143)]) dX25_truths_88 q3822 q3823 q392 q3824 hmX25_truth rfl rfl rfl rfl rfl rfl rfl rfl (vX25_truth 1 ?_)
            obtain ⟨e35, ok⟩ := ok
            refine y_Vv 729 (M := mX25_give) (As := [(0, 2), (0, fX25_truth w 1)]) (st := []) dX25_truths_91 i143 rfl q3781 q3783 qs298 q392 q3784 rfl hmX25_give rfl rfl rfl rfl rfl rfl rfl (vX25_give (Nat.le_trans (Nat.le_of_ble_eq_true rfl) hn) 2 (fX25_truth w 1) e35 ?_)
            exact y_vret dX25_truths_94 rfl k
          · refine x_iconst 1 (z := 1) dX25_truths_81 rfl (by decide) rfl ?_
            refine x_goto 4 (q := 86) dX25_truths_82 rfl ?_
            refine x_iload 4 dX25_truths_86 rfl rfl ?_
            refine y_Si 778 (M := mX25_truth) (As := [(0, 1)]) (st := [(0, 1), (2, 143)]) dX25_truths_88 q3822 q3823 q392 q3824 hmX25_truth rfl rfl rfl rfl rfl rfl rfl rfl (vX25_truth 1 ?_)
            obtain ⟨e40, ok⟩ := ok
            refine y_Vv 729 (M := mX25_give) (As := [(0, 1), (0, fX25_truth w 1)]) (st := []) dX25_truths_91 i143 rfl q3781 q3783 qs298 q392 q3784 rfl hmX25_give rfl rfl rfl rfl rfl rfl rfl (vX25_give (Nat.le_trans (Nat.le_of_ble_eq_true rfl) hn) 1 (fX25_truth w 1) e40 ?_)
            exact y_vret dX25_truths_94 rfl k
    · refine x_iload_n 2 dX25_truths_28 rfl rfl rfl ?_
      refine x_if_ne (t := 36) 7 dX25_truths_29 rfl rfl (b_itqw ok k (fun hc ok k => ?_) (fun hc ok k => ?_))
      · refine x_iconst 1 (z := 1) dX25_truths_36 rfl (by decide) rfl ?_
        refine x_goto 35 (q := 72) dX25_truths_37 rfl ?_
        refine x_istore 4 (ls' := [(2, 143), (0, a1), (0, a2), (0, a3), (0, 1)]) dX25_truths_72 rfl rfl rfl ?_
        refine x_aload_n 0 dX25_truths_74 rfl rfl rfl rfl rfl ?_
        refine x_iload_n 1 dX25_truths_75 rfl rfl rfl ?_
        refine x_bipush 76 (z := 76) dX25_truths_76 rfl (by decide) rfl ?_
        refine x_icmp_ne (t := 85) 7 dX25_truths_78 rfl rfl (b_itqw ok k (fun hc ok k => ?_) (fun hc ok k => ?_))
        · refine x_iconst 2 (z := 2) dX25_truths_85 rfl (by decide) rfl ?_
          refine x_iload 4 dX25_truths_86 rfl rfl ?_
          refine y_Si 778 (M := mX25_truth) (As := [(0, 1)]) (st := [(0, 2), (2, 143)]) dX25_truths_88 q3822 q3823 q392 q3824 hmX25_truth rfl rfl rfl rfl rfl rfl rfl rfl (vX25_truth 1 ?_)
          obtain ⟨e45, ok⟩ := ok
          refine y_Vv 729 (M := mX25_give) (As := [(0, 2), (0, fX25_truth w 1)]) (st := []) dX25_truths_91 i143 rfl q3781 q3783 qs298 q392 q3784 rfl hmX25_give rfl rfl rfl rfl rfl rfl rfl (vX25_give (Nat.le_trans (Nat.le_of_ble_eq_true rfl) hn) 2 (fX25_truth w 1) e45 ?_)
          exact y_vret dX25_truths_94 rfl k
        · refine x_iconst 1 (z := 1) dX25_truths_81 rfl (by decide) rfl ?_
          refine x_goto 4 (q := 86) dX25_truths_82 rfl ?_
          refine x_iload 4 dX25_truths_86 rfl rfl ?_
          refine y_Si 778 (M := mX25_truth) (As := [(0, 1)]) (st := [(0, 1), (2, 143)]) dX25_truths_88 q3822 q3823 q392 q3824 hmX25_truth rfl rfl rfl rfl rfl rfl rfl rfl (vX25_truth 1 ?_)
          obtain ⟨e50, ok⟩ := ok
          refine y_Vv 729 (M := mX25_give) (As := [(0, 1), (0, fX25_truth w 1)]) (st := []) dX25_truths_91 i143 rfl q3781 q3783 qs298 q392 q3784 rfl hmX25_give rfl rfl rfl rfl rfl rfl rfl (vX25_give (Nat.le_trans (Nat.le_of_ble_eq_true rfl) hn) 1 (fX25_truth w 1) e50 ?_)
          exact y_vret dX25_truths_94 rfl k
      · refine x_iload_n 3 dX25_truths_32 rfl rfl rfl ?_
        refine x_if_eq (t := 40) 7 dX25_truths_33 rfl rfl (b_itqw ok k (fun hc ok k => ?_) (fun hc ok k => ?_))
        · refine x_iconst 0 (z := 0) dX25_truths_40 rfl (by decide) rfl ?_
          refine x_goto 31 (q := 72) dX25_truths_41 rfl ?_
          refine x_istore 4 (ls' := [(2, 143), (0, a1), (0, a2), (0, a3), (0, 0)]) dX25_truths_72 rfl rfl rfl ?_
          refine x_aload_n 0 dX25_truths_74 rfl rfl rfl rfl rfl ?_
          refine x_iload_n 1 dX25_truths_75 rfl rfl rfl ?_
          refine x_bipush 76 (z := 76) dX25_truths_76 rfl (by decide) rfl ?_
          refine x_icmp_ne (t := 85) 7 dX25_truths_78 rfl rfl (b_itqw ok k (fun hc ok k => ?_) (fun hc ok k => ?_))
          · refine x_iconst 2 (z := 2) dX25_truths_85 rfl (by decide) rfl ?_
            refine x_iload 4 dX25_truths_86 rfl rfl ?_
            refine y_Si 778 (M := mX25_truth) (As := [(0, 0)]) (st := [(0, 2), (2, 143)]) dX25_truths_88 q3822 q3823 q392 q3824 hmX25_truth rfl rfl rfl rfl rfl rfl rfl rfl (vX25_truth 0 ?_)
            obtain ⟨e55, ok⟩ := ok
            refine y_Vv 729 (M := mX25_give) (As := [(0, 2), (0, fX25_truth w 0)]) (st := []) dX25_truths_91 i143 rfl q3781 q3783 qs298 q392 q3784 rfl hmX25_give rfl rfl rfl rfl rfl rfl rfl (vX25_give (Nat.le_trans (Nat.le_of_ble_eq_true rfl) hn) 2 (fX25_truth w 0) e55 ?_)
            exact y_vret dX25_truths_94 rfl k
          · refine x_iconst 1 (z := 1) dX25_truths_81 rfl (by decide) rfl ?_
            refine x_goto 4 (q := 86) dX25_truths_82 rfl ?_
            refine x_iload 4 dX25_truths_86 rfl rfl ?_
            refine y_Si 778 (M := mX25_truth) (As := [(0, 0)]) (st := [(0, 1), (2, 143)]) dX25_truths_88 q3822 q3823 q392 q3824 hmX25_truth rfl rfl rfl rfl rfl rfl rfl rfl (vX25_truth 0 ?_)
            obtain ⟨e60, ok⟩ := ok
            refine y_Vv 729 (M := mX25_give) (As := [(0, 1), (0, fX25_truth w 0)]) (st := []) dX25_truths_91 i143 rfl q3781 q3783 qs298 q392 q3784 rfl hmX25_give rfl rfl rfl rfl rfl rfl rfl (vX25_give (Nat.le_trans (Nat.le_of_ble_eq_true rfl) hn) 1 (fX25_truth w 0) e60 ?_)
            exact y_vret dX25_truths_94 rfl k
        · refine x_iconst 1 (z := 1) dX25_truths_36 rfl (by decide) rfl ?_
          refine x_goto 35 (q := 72) dX25_truths_37 rfl ?_
          refine x_istore 4 (ls' := [(2, 143), (0, a1), (0, a2), (0, a3), (0, 1)]) dX25_truths_72 rfl rfl rfl ?_
          refine x_aload_n 0 dX25_truths_74 rfl rfl rfl rfl rfl ?_
          refine x_iload_n 1 dX25_truths_75 rfl rfl rfl ?_
          refine x_bipush 76 (z := 76) dX25_truths_76 rfl (by decide) rfl ?_
          refine x_icmp_ne (t := 85) 7 dX25_truths_78 rfl rfl (b_itqw ok k (fun hc ok k => ?_) (fun hc ok k => ?_))
          · refine x_iconst 2 (z := 2) dX25_truths_85 rfl (by decide) rfl ?_
            refine x_iload 4 dX25_truths_86 rfl rfl ?_
            refine y_Si 778 (M := mX25_truth) (As := [(0, 1)]) (st := [(0, 2), (2, 143)]) dX25_truths_88 q3822 q3823 q392 q3824 hmX25_truth rfl rfl rfl rfl rfl rfl rfl rfl (vX25_truth 1 ?_)
            obtain ⟨e65, ok⟩ := ok
            refine y_Vv 729 (M := mX25_give) (As := [(0, 2), (0, fX25_truth w 1)]) (st := []) dX25_truths_91 i143 rfl q3781 q3783 qs298 q392 q3784 rfl hmX25_give rfl rfl rfl rfl rfl rfl rfl (vX25_give (Nat.le_trans (Nat.le_of_ble_eq_true rfl) hn) 2 (fX25_truth w 1) e65 ?_)
            exact y_vret dX25_truths_94 rfl k
          · refine x_iconst 1 (z := 1) dX25_truths_81 rfl (by decide) rfl ?_
            refine x_goto 4 (q := 86) dX25_truths_82 rfl ?_
            refine x_iload 4 dX25_truths_86 rfl rfl ?_
            refine y_Si 778 (M := mX25_truth) (As := [(0, 1)]) (st := [(0, 1), (2, 143)]) dX25_truths_88 q3822 q3823 q392 q3824 hmX25_truth rfl rfl rfl rfl rfl rfl rfl rfl (vX25_truth 1 ?_)
            obtain ⟨e70, ok⟩ := ok
            refine y_Vv 729 (M := mX25_give) (As := [(0, 1), (0, fX25_truth w 1)]) (st := []) dX25_truths_91 i143 rfl q3781 q3783 qs298 q392 q3784 rfl hmX25_give rfl rfl rfl rfl rfl rfl rfl (vX25_give (Nat.le_trans (Nat.le_of_ble_eq_true rfl) hn) 1 (fX25_truth w 1) e70 ?_)
            exact y_vret dX25_truths_94 rfl k
  · refine x_iload_n 2 dX25_truths_6 rfl rfl rfl ?_
    refine x_if_eq (t := 18) 11 dX25_truths_7 rfl rfl (b_itqw ok k (fun hc ok k => ?_) (fun hc ok k => ?_))
    · refine x_iconst 0 (z := 0) dX25_truths_18 rfl (by decide) rfl ?_
      refine x_goto 53 (q := 72) dX25_truths_19 rfl ?_
      refine x_istore 4 (ls' := [(2, 143), (0, a1), (0, a2), (0, a3), (0, 0)]) dX25_truths_72 rfl rfl rfl ?_
      refine x_aload_n 0 dX25_truths_74 rfl rfl rfl rfl rfl ?_
      refine x_iload_n 1 dX25_truths_75 rfl rfl rfl ?_
      refine x_bipush 76 (z := 76) dX25_truths_76 rfl (by decide) rfl ?_
      refine x_icmp_ne (t := 85) 7 dX25_truths_78 rfl rfl (b_itqw ok k (fun hc ok k => ?_) (fun hc ok k => ?_))
      · refine x_iconst 2 (z := 2) dX25_truths_85 rfl (by decide) rfl ?_
        refine x_iload 4 dX25_truths_86 rfl rfl ?_
        refine y_Si 778 (M := mX25_truth) (As := [(0, 0)]) (st := [(0, 2), (2, 143)]) dX25_truths_88 q3822 q3823 q392 q3824 hmX25_truth rfl rfl rfl rfl rfl rfl rfl rfl (vX25_truth 0 ?_)
        obtain ⟨e75, ok⟩ := ok
        refine y_Vv 729 (M := mX25_give) (As := [(0, 2), (0, fX25_truth w 0)]) (st := []) dX25_truths_91 i143 rfl q3781 q3783 qs298 q392 q3784 rfl hmX25_give rfl rfl rfl rfl rfl rfl rfl (vX25_give (Nat.le_trans (Nat.le_of_ble_eq_true rfl) hn) 2 (fX25_truth w 0) e75 ?_)
        exact y_vret dX25_truths_94 rfl k
      · refine x_iconst 1 (z := 1) dX25_truths_81 rfl (by decide) rfl ?_
        refine x_goto 4 (q := 86) dX25_truths_82 rfl ?_
        refine x_iload 4 dX25_truths_86 rfl rfl ?_
        refine y_Si 778 (M := mX25_truth) (As := [(0, 0)]) (st := [(0, 1), (2, 143)]) dX25_truths_88 q3822 q3823 q392 q3824 hmX25_truth rfl rfl rfl rfl rfl rfl rfl rfl (vX25_truth 0 ?_)
        obtain ⟨e80, ok⟩ := ok
        refine y_Vv 729 (M := mX25_give) (As := [(0, 1), (0, fX25_truth w 0)]) (st := []) dX25_truths_91 i143 rfl q3781 q3783 qs298 q392 q3784 rfl hmX25_give rfl rfl rfl rfl rfl rfl rfl (vX25_give (Nat.le_trans (Nat.le_of_ble_eq_true rfl) hn) 1 (fX25_truth w 0) e80 ?_)
        exact y_vret dX25_truths_94 rfl k
    · refine x_iload_n 3 dX25_truths_10 rfl rfl rfl ?_
      refine x_if_eq (t := 18) 7 dX25_truths_11 rfl rfl (b_itqw ok k (fun hc ok k => ?_) (fun hc ok k => ?_))
      · refine x_iconst 0 (z := 0) dX25_truths_18 rfl (by decide) rfl ?_
        refine x_goto 53 (q := 72) dX25_truths_19 rfl ?_
        refine x_istore 4 (ls' := [(2, 143), (0, a1), (0, a2), (0, a3), (0, 0)]) dX25_truths_72 rfl rfl rfl ?_
        refine x_aload_n 0 dX25_truths_74 rfl rfl rfl rfl rfl ?_
        refine x_iload_n 1 dX25_truths_75 rfl rfl rfl ?_
        refine x_bipush 76 (z := 76) dX25_truths_76 rfl (by decide) rfl ?_
        refine x_icmp_ne (t := 85) 7 dX25_truths_78 rfl rfl (b_itqw ok k (fun hc ok k => ?_) (fun hc ok k => ?_))
        · refine x_iconst 2 (z := 2) dX25_truths_85 rfl (by decide) rfl ?_
          refine x_iload 4 dX25_truths_86 rfl rfl ?_
          refine y_Si 778 (M := mX25_truth) (As := [(0, 0)]) (st := [(0, 2), (2, 143)]) dX25_truths_88 q3822 q3823 q392 q3824 hmX25_truth rfl rfl rfl rfl rfl rfl rfl rfl (vX25_truth 0 ?_)
          obtain ⟨e85, ok⟩ := ok
          refine y_Vv 729 (M := mX25_give) (As := [(0, 2), (0, fX25_truth w 0)]) (st := []) dX25_truths_91 i143 rfl q3781 q3783 qs298 q392 q3784 rfl hmX25_give rfl rfl rfl rfl rfl rfl rfl (vX25_give (Nat.le_trans (Nat.le_of_ble_eq_true rfl) hn) 2 (fX25_truth w 0) e85 ?_)
          exact y_vret dX25_truths_94 rfl k
        · refine x_iconst 1 (z := 1) dX25_truths_81 rfl (by decide) rfl ?_
          refine x_goto 4 (q := 86) dX25_truths_82 rfl ?_
          refine x_iload 4 dX25_truths_86 rfl rfl ?_
          refine y_Si 778 (M := mX25_truth) (As := [(0, 0)]) (st := [(0, 1), (2, 143)]) dX25_truths_88 q3822 q3823 q392 q3824 hmX25_truth rfl rfl rfl rfl rfl rfl rfl rfl (vX25_truth 0 ?_)
          obtain ⟨e90, ok⟩ := ok
          refine y_Vv 729 (M := mX25_give) (As := [(0, 1), (0, fX25_truth w 0)]) (st := []) dX25_truths_91 i143 rfl q3781 q3783 qs298 q392 q3784 rfl hmX25_give rfl rfl rfl rfl rfl rfl rfl (vX25_give (Nat.le_trans (Nat.le_of_ble_eq_true rfl) hn) 1 (fX25_truth w 0) e90 ?_)
          exact y_vret dX25_truths_94 rfl k
      · refine x_iconst 1 (z := 1) dX25_truths_14 rfl (by decide) rfl ?_
        refine x_goto 57 (q := 72) dX25_truths_15 rfl ?_
        refine x_istore 4 (ls' := [(2, 143), (0, a1), (0, a2), (0, a3), (0, 1)]) dX25_truths_72 rfl rfl rfl ?_
        refine x_aload_n 0 dX25_truths_74 rfl rfl rfl rfl rfl ?_
        refine x_iload_n 1 dX25_truths_75 rfl rfl rfl ?_
        refine x_bipush 76 (z := 76) dX25_truths_76 rfl (by decide) rfl ?_
        refine x_icmp_ne (t := 85) 7 dX25_truths_78 rfl rfl (b_itqw ok k (fun hc ok k => ?_) (fun hc ok k => ?_))
        · refine x_iconst 2 (z := 2) dX25_truths_85 rfl (by decide) rfl ?_
          refine x_iload 4 dX25_truths_86 rfl rfl ?_
          refine y_Si 778 (M := mX25_truth) (As := [(0, 1)]) (st := [(0, 2), (2, 143)]) dX25_truths_88 q3822 q3823 q392 q3824 hmX25_truth rfl rfl rfl rfl rfl rfl rfl rfl (vX25_truth 1 ?_)
          obtain ⟨e95, ok⟩ := ok
          refine y_Vv 729 (M := mX25_give) (As := [(0, 2), (0, fX25_truth w 1)]) (st := []) dX25_truths_91 i143 rfl q3781 q3783 qs298 q392 q3784 rfl hmX25_give rfl rfl rfl rfl rfl rfl rfl (vX25_give (Nat.le_trans (Nat.le_of_ble_eq_true rfl) hn) 2 (fX25_truth w 1) e95 ?_)
          exact y_vret dX25_truths_94 rfl k
        · refine x_iconst 1 (z := 1) dX25_truths_81 rfl (by decide) rfl ?_
          refine x_goto 4 (q := 86) dX25_truths_82 rfl ?_
          refine x_iload 4 dX25_truths_86 rfl rfl ?_
          refine y_Si 778 (M := mX25_truth) (As := [(0, 1)]) (st := [(0, 1), (2, 143)]) dX25_truths_88 q3822 q3823 q392 q3824 hmX25_truth rfl rfl rfl rfl rfl rfl rfl rfl (vX25_truth 1 ?_)
          obtain ⟨e100, ok⟩ := ok
          refine y_Vv 729 (M := mX25_give) (As := [(0, 1), (0, fX25_truth w 1)]) (st := []) dX25_truths_91 i143 rfl q3781 q3783 qs298 q392 q3784 rfl hmX25_give rfl rfl rfl rfl rfl rfl rfl (vX25_give (Nat.le_trans (Nat.le_of_ble_eq_true rfl) hn) 1 (fX25_truth w 1) e100 ?_)
          exact y_vret dX25_truths_94 rfl k
def fX25_isNumber (w : bW) (a1 : Int) : Int := (if fX25_tagOf w a1 = 1 then 1 else (if fX25_tagOf w a1 ≠ 2 then 0 else 1))
def oX25_isNumber (n : Nat) (w : bW) (a1 : Int) : Prop := (oX25_tagOf n w a1) ∧ (if fX25_tagOf w a1 = 1 then True else ((oX25_tagOf n w a1) ∧ (True)))
theorem vX25_isNumber {d n : Nat} {w : bW} {Q : Int → bW → Prop} {X : String → bW → Prop} (hn : 144 ≤ n) (a1 : Int) (ok : oX25_isNumber n w a1) (k : Q (fX25_isNumber w a1) w) : b_K (d + 2) mX25_isNumber [(2, 143), (0, a1)] n w Q X := by
  have i143 := iz143 (Nat.le_trans (Nat.le_of_ble_eq_true rfl) hn)
  unfold fX25_isNumber at k
  unfold oX25_isNumber at ok
  refine k_of (by decide) rfl rfl rfl (ls := [(2, 143), (0, a1)]) rfl ?_
  refine x_aload_n 0 dX25_isNumber_0 rfl rfl rfl rfl rfl ?_
  refine x_iload_n 1 dX25_isNumber_1 rfl rfl rfl ?_
  obtain ⟨e3, ok⟩ := ok
  refine y_Vi 143 (M := mX25_tagOf) (As := [(0, a1)]) (st := []) dX25_isNumber_2 i143 rfl q3554 q3556 qs247 q392 q3557 rfl hmX25_tagOf rfl rfl rfl rfl rfl rfl rfl rfl (vX25_tagOf (Nat.le_trans (Nat.le_of_ble_eq_true rfl) hn) a1 e3 ?_)
  refine x_iconst 1 (z := 1) dX25_isNumber_5 rfl (by decide) rfl ?_
  refine x_icmp_eq (t := 18) 12 dX25_isNumber_6 rfl rfl (b_itqv ok k (fun hc ok k => ?_) (fun hc ok k => ?_))
  · refine x_iconst 1 (z := 1) dX25_isNumber_18 rfl (by decide) rfl ?_
    refine x_goto 4 (q := 23) dX25_isNumber_19 rfl ?_
    exact y_zret dX25_isNumber_23 rfl (by decide) k
  · refine x_aload_n 0 dX25_isNumber_9 rfl rfl rfl rfl rfl ?_
    refine x_iload_n 1 dX25_isNumber_10 rfl rfl rfl ?_
    obtain ⟨e6, ok⟩ := ok
    refine y_Vi 143 (M := mX25_tagOf) (As := [(0, a1)]) (st := []) dX25_isNumber_11 i143 rfl q3554 q3556 qs247 q392 q3557 rfl hmX25_tagOf rfl rfl rfl rfl rfl rfl rfl rfl (vX25_tagOf (Nat.le_trans (Nat.le_of_ble_eq_true rfl) hn) a1 e6 ?_)
    refine x_iconst 2 (z := 2) dX25_isNumber_14 rfl (by decide) rfl ?_
    refine x_icmp_ne (t := 22) 7 dX25_isNumber_15 rfl rfl (b_itqv (b_tt _) k (fun hc ok k => ?_) (fun hc ok k => ?_))
    · refine x_iconst 0 (z := 0) dX25_isNumber_22 rfl (by decide) rfl ?_
      exact y_zret dX25_isNumber_23 rfl (by decide) k
    · refine x_iconst 1 (z := 1) dX25_isNumber_18 rfl (by decide) rfl ?_
      refine x_goto 4 (q := 23) dX25_isNumber_19 rfl ?_
      exact y_zret dX25_isNumber_23 rfl (by decide) k
def fX25_sizeOf (w : bW) (a1 : Int) : Int := (if fX25_isList w a1 = 0 then (if fX25_isRow w (fX25_tagOf w a1) ≠ 0 then (gX25_expect w 1) ((gX25_expect w 1) 143 0) (b_i (a1 + 2)) else (if fX25_tagOf w a1 = 3 then (gX25_expect w 1) ((gX25_expect w 1) 143 0) (b_i (a1 + 2)) else (if fX25_tagOf w a1 ≠ 4 then (gX25_expect w 0) ((gX25_expect w 0) 143 0) (b_i (a1 + 2)) else (gX25_expect w 1) ((gX25_expect w 1) 143 0) (b_i (a1 + 2))))) else (if a1 ≠ 5 then w (w 143 0) (b_i (a1 + 4)) else 0))
def gX25_sizeOf (w : bW) (a1 : Int) : bW := (if fX25_isList w a1 = 0 then (if fX25_isRow w (fX25_tagOf w a1) ≠ 0 then (gX25_expect w 1) else (if fX25_tagOf w a1 = 3 then (gX25_expect w 1) else (if fX25_tagOf w a1 ≠ 4 then (gX25_expect w 0) else (gX25_expect w 1)))) else w)
def oX25_sizeOf (n : Nat) (w : bW) (a1 : Int) : Prop := (oX25_isList n w a1) ∧ (if fX25_isList w a1 = 0 then ((oX25_tagOf n w a1) ∧ (if fX25_isRow w (fX25_tagOf w a1) ≠ 0 then (b_ai n ((gX25_expect w 1) 143 0) 1 0 (b_i (a1 + 2)) ∧ (True)) else ((oX25_tagOf n w a1) ∧ (if fX25_tagOf w a1 = 3 then (b_ai n ((gX25_expect w 1) 143 0) 1 0 (b_i (a1 + 2)) ∧ (True)) else ((oX25_tagOf n w a1) ∧ (if fX25_tagOf w a1 ≠ 4 then (b_ai n ((gX25_expect w 0) 143 0) 1 0 (b_i (a1 + 2)) ∧ (True)) else (b_ai n ((gX25_expect w 1) 143 0) 1 0 (b_i (a1 + 2)) ∧ (True)))))))) else (if a1 ≠ 5 then (b_ai n (w 143 0) 1 0 (b_i (a1 + 4)) ∧ (True)) else True))
theorem vX25_sizeOf {d n : Nat} {w : bW} {Q : Int → bW → Prop} {X : String → bW → Prop} (hn : 144 ≤ n) (a1 : Int) (ok : oX25_sizeOf n w a1) (k : Q (fX25_sizeOf w a1) (gX25_sizeOf w a1)) : b_K (d + 3) mX25_sizeOf [(2, 143), (0, a1)] n w Q X := by
  have i143 := iz143 (Nat.le_trans (Nat.le_of_ble_eq_true rfl) hn)
  unfold fX25_sizeOf gX25_sizeOf at k
  unfold oX25_sizeOf at ok
  refine k_of (by decide) rfl rfl rfl (ls := [(2, 143), (0, a1)]) rfl ?_
  refine x_aload_n 0 dX25_sizeOf_0 rfl rfl rfl rfl rfl ?_
  refine x_iload_n 1 dX25_sizeOf_1 rfl rfl rfl ?_
  obtain ⟨e3, ok⟩ := ok
  refine y_Vi 680 (M := mX25_isList) (As := [(0, a1)]) (st := []) dX25_sizeOf_2 i143 rfl q3745 q3747 qs290 q392 q3748 rfl hmX25_isList rfl rfl rfl rfl rfl rfl rfl rfl (vX25_isList (Nat.le_trans (Nat.le_of_ble_eq_true rfl) hn) a1 e3 ?_)
  refine x_if_eq (t := 27) 22 dX25_sizeOf_5 rfl rfl (b_itq ok k (fun hc ok k => ?_) (fun hc ok k => ?_))
  · refine x_aload_n 0 dX25_sizeOf_27 rfl rfl rfl rfl rfl ?_
    refine x_aload_n 0 dX25_sizeOf_28 rfl rfl rfl rfl rfl ?_
    refine x_iload_n 1 dX25_sizeOf_29 rfl rfl rfl ?_
    obtain ⟨e6, ok⟩ := ok
    refine y_Vi 143 (M := mX25_tagOf) (As := [(0, a1)]) (st := [(2, 143)]) dX25_sizeOf_30 i143 rfl q3554 q3556 qs247 q392 q3557 rfl hmX25_tagOf rfl rfl rfl rfl rfl rfl rfl rfl (vX25_tagOf (Nat.le_trans (Nat.le_of_ble_eq_true rfl) hn) a1 e6 ?_)
    refine y_Si 683 (M := mX25_isRow) (As := [(0, fX25_tagOf w a1)]) (st := [(2, 143)]) dX25_sizeOf_33 q3749 q3750 q392 q3751 hmX25_isRow rfl rfl rfl rfl rfl rfl rfl rfl (vX25_isRow (fX25_tagOf w a1) ?_)
    refine x_if_ne (t := 57) 21 dX25_sizeOf_36 rfl rfl (b_itq ok k (fun hc ok k => ?_) (fun hc ok k => ?_))
    · refine x_iconst 1 (z := 1) dX25_sizeOf_57 rfl (by decide) rfl ?_
      refine x_goto 4 (q := 62) dX25_sizeOf_58 rfl ?_
      refine y_Vv 673 (M := mX25_expect) (As := [(0, 1)]) (st := []) dX25_sizeOf_62 i143 rfl q3708 q3710 qs281 q392 q3711 rfl hmX25_expect rfl rfl rfl rfl rfl rfl rfl (vX25_expect (Nat.le_trans (Nat.le_of_ble_eq_true rfl) hn) 1 ?_)
      refine x_aload_n 0 dX25_sizeOf_65 rfl rfl rfl rfl rfl ?_
      refine y_get 11 0 (c := 23) (z := (gX25_expect w 1) 143 0) dX25_sizeOf_66 i143 rfl in_X25 q4235 rfl rfl rfl rfl rfl ?_
      refine x_iload_n 1 dX25_sizeOf_69 rfl rfl rfl ?_
      refine x_iconst 2 (z := 2) dX25_sizeOf_70 rfl (by decide) rfl ?_
      refine x_iadd dX25_sizeOf_71 rfl ?_
      obtain ⟨e11, ok⟩ := ok
      refine y_iald (z := (gX25_expect w 1) ((gX25_expect w 1) 143 0) (b_i (a1 + 2))) dX25_sizeOf_72 e11 rfl rfl ?_
      refine x_i2l dX25_sizeOf_73 rfl ?_
      exact y_lret dX25_sizeOf_74 rfl k
    · refine x_aload_n 0 dX25_sizeOf_39 rfl rfl rfl rfl rfl ?_
      refine x_iload_n 1 dX25_sizeOf_40 rfl rfl rfl ?_
      obtain ⟨e14, ok⟩ := ok
      refine y_Vi 143 (M := mX25_tagOf) (As := [(0, a1)]) (st := [(2, 143)]) dX25_sizeOf_41 i143 rfl q3554 q3556 qs247 q392 q3557 rfl hmX25_tagOf rfl rfl rfl rfl rfl rfl rfl rfl (vX25_tagOf (Nat.le_trans (Nat.le_of_ble_eq_true rfl) hn) a1 e14 ?_)
      refine x_iconst 3 (z := 3) dX25_sizeOf_44 rfl (by decide) rfl ?_
      refine x_icmp_eq (t := 57) 12 dX25_sizeOf_45 rfl rfl (b_itq ok k (fun hc ok k => ?_) (fun hc ok k => ?_))
      · refine x_iconst 1 (z := 1) dX25_sizeOf_57 rfl (by decide) rfl ?_
        refine x_goto 4 (q := 62) dX25_sizeOf_58 rfl ?_
        refine y_Vv 673 (M := mX25_expect) (As := [(0, 1)]) (st := []) dX25_sizeOf_62 i143 rfl q3708 q3710 qs281 q392 q3711 rfl hmX25_expect rfl rfl rfl rfl rfl rfl rfl (vX25_expect (Nat.le_trans (Nat.le_of_ble_eq_true rfl) hn) 1 ?_)
        refine x_aload_n 0 dX25_sizeOf_65 rfl rfl rfl rfl rfl ?_
        refine y_get 11 0 (c := 23) (z := (gX25_expect w 1) 143 0) dX25_sizeOf_66 i143 rfl in_X25 q4235 rfl rfl rfl rfl rfl ?_
        refine x_iload_n 1 dX25_sizeOf_69 rfl rfl rfl ?_
        refine x_iconst 2 (z := 2) dX25_sizeOf_70 rfl (by decide) rfl ?_
        refine x_iadd dX25_sizeOf_71 rfl ?_
        obtain ⟨e17, ok⟩ := ok
        refine y_iald (z := (gX25_expect w 1) ((gX25_expect w 1) 143 0) (b_i (a1 + 2))) dX25_sizeOf_72 e17 rfl rfl ?_
        refine x_i2l dX25_sizeOf_73 rfl ?_
        exact y_lret dX25_sizeOf_74 rfl k
      · refine x_aload_n 0 dX25_sizeOf_48 rfl rfl rfl rfl rfl ?_
        refine x_iload_n 1 dX25_sizeOf_49 rfl rfl rfl ?_
        obtain ⟨e20, ok⟩ := ok
        refine y_Vi 143 (M := mX25_tagOf) (As := [(0, a1)]) (st := [(2, 143)]) dX25_sizeOf_50 i143 rfl q3554 q3556 qs247 q392 q3557 rfl hmX25_tagOf rfl rfl rfl rfl rfl rfl rfl rfl (vX25_tagOf (Nat.le_trans (Nat.le_of_ble_eq_true rfl) hn) a1 e20 ?_)
        refine x_iconst 4 (z := 4) dX25_sizeOf_53 rfl (by decide) rfl ?_
        refine x_icmp_ne (t := 61) 7 dX25_sizeOf_54 rfl rfl (b_itq ok k (fun hc ok k => ?_) (fun hc ok k => ?_))
        · refine x_iconst 0 (z := 0) dX25_sizeOf_61 rfl (by decide) rfl ?_
          refine y_Vv 673 (M := mX25_expect) (As := [(0, 0)]) (st := []) dX25_sizeOf_62 i143 rfl q3708 q3710 qs281 q392 q3711 rfl hmX25_expect rfl rfl rfl rfl rfl rfl rfl (vX25_expect (Nat.le_trans (Nat.le_of_ble_eq_true rfl) hn) 0 ?_)
          refine x_aload_n 0 dX25_sizeOf_65 rfl rfl rfl rfl rfl ?_
          refine y_get 11 0 (c := 23) (z := (gX25_expect w 0) 143 0) dX25_sizeOf_66 i143 rfl in_X25 q4235 rfl rfl rfl rfl rfl ?_
          refine x_iload_n 1 dX25_sizeOf_69 rfl rfl rfl ?_
          refine x_iconst 2 (z := 2) dX25_sizeOf_70 rfl (by decide) rfl ?_
          refine x_iadd dX25_sizeOf_71 rfl ?_
          obtain ⟨e23, ok⟩ := ok
          refine y_iald (z := (gX25_expect w 0) ((gX25_expect w 0) 143 0) (b_i (a1 + 2))) dX25_sizeOf_72 e23 rfl rfl ?_
          refine x_i2l dX25_sizeOf_73 rfl ?_
          exact y_lret dX25_sizeOf_74 rfl k
        · refine x_iconst 1 (z := 1) dX25_sizeOf_57 rfl (by decide) rfl ?_
          refine x_goto 4 (q := 62) dX25_sizeOf_58 rfl ?_
          refine y_Vv 673 (M := mX25_expect) (As := [(0, 1)]) (st := []) dX25_sizeOf_62 i143 rfl q3708 q3710 qs281 q392 q3711 rfl hmX25_expect rfl rfl rfl rfl rfl rfl rfl (vX25_expect (Nat.le_trans (Nat.le_of_ble_eq_true rfl) hn) 1 ?_)
          refine x_aload_n 0 dX25_sizeOf_65 rfl rfl rfl rfl rfl ?_
          refine y_get 11 0 (c := 23) (z := (gX25_expect w 1) 143 0) dX25_sizeOf_66 i143 rfl in_X25 q4235 rfl rfl rfl rfl rfl ?_
          refine x_iload_n 1 dX25_sizeOf_69 rfl rfl rfl ?_
          refine x_iconst 2 (z := 2) dX25_sizeOf_70 rfl (by decide) rfl ?_
          refine x_iadd dX25_sizeOf_71 rfl ?_
          obtain ⟨e26, ok⟩ := ok
          refine y_iald (z := (gX25_expect w 1) ((gX25_expect w 1) 143 0) (b_i (a1 + 2))) dX25_sizeOf_72 e26 rfl rfl ?_
          refine x_i2l dX25_sizeOf_73 rfl ?_
          exact y_lret dX25_sizeOf_74 rfl k
  · refine x_iload_n 1 dX25_sizeOf_8 rfl rfl rfl ?_
    refine x_iconst 5 (z := 5) dX25_sizeOf_9 rfl (by decide) rfl ?_
    refine x_icmp_ne (t := 17) 7 dX25_sizeOf_10 rfl rfl (b_itqv ok k (fun hc ok k => ?_) (fun hc ok k => ?_))
    · refine x_aload_n 0 dX25_sizeOf_17 rfl rfl rfl rfl rfl ?_
      refine y_get 11 0 (c := 23) (z := w 143 0) dX25_sizeOf_18 i143 rfl in_X25 q4235 rfl rfl rfl rfl rfl ?_
      refine x_iload_n 1 dX25_sizeOf_21 rfl rfl rfl ?_
      refine x_iconst 4 (z := 4) dX25_sizeOf_22 rfl (by decide) rfl ?_
      refine x_iadd dX25_sizeOf_23 rfl ?_
      obtain ⟨e27, ok⟩ := ok
      refine y_iald (z := w (w 143 0) (b_i (a1 + 4))) dX25_sizeOf_24 e27 rfl rfl ?_
      refine x_i2l dX25_sizeOf_25 rfl ?_
      exact y_lret dX25_sizeOf_26 rfl k
    · refine x_lconst 0 (z := 0) dX25_sizeOf_13 rfl (by decide) rfl ?_
      refine x_goto 12 (q := 26) dX25_sizeOf_14 rfl ?_
      exact y_lret dX25_sizeOf_26 rfl k
def fX25_valueAt (w : bW) (a1 : Int) : Int := w (w 143 0) (b_i ((b_i ((fX25_blockAt w a1 (w 143 19)) + 3)) + (b_i (2 * (w 143 20)))))
def oX25_valueAt (n : Nat) (w : bW) (a1 : Int) : Prop := (oX25_blockAt n w a1 (w 143 19)) ∧ (b_ai n (w 143 0) 1 0 (b_i ((b_i ((fX25_blockAt w a1 (w 143 19)) + 3)) + (b_i (2 * (w 143 20))))) ∧ (True))
theorem vX25_valueAt {d n : Nat} {w : bW} {Q : Int → bW → Prop} {X : String → bW → Prop} (hn : 144 ≤ n) (a1 : Int) (ok : oX25_valueAt n w a1) (k : Q (fX25_valueAt w a1) w) : b_K (d + 2) mX25_valueAt [(2, 143), (0, a1)] n w Q X := by
  have i143 := iz143 (Nat.le_trans (Nat.le_of_ble_eq_true rfl) hn)
  unfold fX25_valueAt at k
  unfold oX25_valueAt at ok
  refine k_of (by decide) rfl rfl rfl (ls := [(2, 143), (0, a1)]) rfl ?_
  refine x_aload_n 0 dX25_valueAt_0 rfl rfl rfl rfl rfl ?_
  refine y_get 11 0 (c := 23) (z := w 143 0) dX25_valueAt_1 i143 rfl in_X25 q4235 rfl rfl rfl rfl rfl ?_
  refine x_aload_n 0 dX25_valueAt_4 rfl rfl rfl rfl rfl ?_
  refine x_iload_n 1 dX25_valueAt_5 rfl rfl rfl ?_
  refine x_aload_n 0 dX25_valueAt_6 rfl rfl rfl rfl rfl ?_
  refine y_get 186 19 (c := 23) (z := w 143 19) dX25_valueAt_7 i143 rfl in_X25 q4254 rfl rfl rfl rfl rfl ?_
  obtain ⟨e3, ok⟩ := ok
  refine y_Vi 176 (M := mX25_blockAt) (As := [(0, a1), (0, w 143 19)]) (st := [(2, w 143 0)]) dX25_valueAt_10 i143 rfl q3629 q3631 qs263 q392 q3632 rfl hmX25_blockAt rfl rfl rfl rfl rfl rfl rfl rfl (vX25_blockAt (Nat.le_trans (Nat.le_of_ble_eq_true rfl) hn) a1 (w 143 19) e3 ?_)
  refine x_iconst 3 (z := 3) dX25_valueAt_13 rfl (by decide) rfl ?_
  refine x_iadd dX25_valueAt_14 rfl ?_
  refine x_iconst 2 (z := 2) dX25_valueAt_15 rfl (by decide) rfl ?_
  refine x_aload_n 0 dX25_valueAt_16 rfl rfl rfl rfl rfl ?_
  refine y_get 189 20 (c := 23) (z := w 143 20) dX25_valueAt_17 i143 rfl in_X25 q4255 rfl rfl rfl rfl rfl ?_
  refine x_imul dX25_valueAt_20 rfl ?_
  refine x_iadd dX25_valueAt_21 rfl ?_
  obtain ⟨e4, ok⟩ := ok
  refine y_iald (z := w (w 143 0) (b_i ((b_i ((fX25_blockAt w a1 (w 143 19)) + 3)) + (b_i (2 * (w 143 20)))))) dX25_valueAt_22 e4 rfl rfl ?_
  exact y_iret dX25_valueAt_23 rfl k
def fX25_lay_2 (w : bW) (a1 : Int) (a2 : Int) (a3 : Int) (a4 : Int) (a5 : Int) (a6 : Int) (a7 : Int) : Int := b_i (a4 + 1)
def gX25_lay_2 (w : bW) (a1 : Int) (a2 : Int) (a3 : Int) (a4 : Int) (a5 : Int) (a6 : Int) (a7 : Int) : bW := (if a3 ≤ a4 then (if a3 ≤ a4 then (if a5 ≠ 2 then (b_up w (w 143 0) (b_i ((b_i (a2 + 2)) + (b_i (a5 * (b_i (a4 - a3)))))) a6) else (b_up (b_up w (w 143 0) (b_i ((b_i (a2 + 2)) + (b_i (a5 * (b_i (a4 - a3)))))) a6) ((b_up w (w 143 0) (b_i ((b_i (a2 + 2)) + (b_i (a5 * (b_i (a4 - a3)))))) a6) 143 0) (b_i ((b_i (a2 + 3)) + (b_i (2 * (b_i (a4 - a3)))))) a7)) else (if a5 ≠ 2 then (b_up w (w 143 0) (b_i ((b_i (a2 + 2)) + (b_i (a5 * a4)))) a6) else (b_up (b_up w (w 143 0) (b_i ((b_i (a2 + 2)) + (b_i (a5 * a4)))) a6) ((b_up w (w 143 0) (b_i ((b_i (a2 + 2)) + (b_i (a5 * a4)))) a6) 143 0) (b_i ((b_i (a2 + 3)) + (b_i (2 * a4)))) a7))) else (if a3 ≤ a4 then (if a5 ≠ 2 then (b_up w (w 143 0) (b_i ((b_i (a1 + 2)) + (b_i (a5 * (b_i (a4 - a3)))))) a6) else (b_up (b_up w (w 143 0) (b_i ((b_i (a1 + 2)) + (b_i (a5 * (b_i (a4 - a3)))))) a6) ((b_up w (w 143 0) (b_i ((b_i (a1 + 2)) + (b_i (a5 * (b_i (a4 - a3)))))) a6) 143 0) (b_i ((b_i (a1 + 3)) + (b_i (2 * (b_i (a4 - a3)))))) a7)) else (if a5 ≠ 2 then (b_up w (w 143 0) (b_i ((b_i (a1 + 2)) + (b_i (a5 * a4)))) a6) else (b_up (b_up w (w 143 0) (b_i ((b_i (a1 + 2)) + (b_i (a5 * a4)))) a6) ((b_up w (w 143 0) (b_i ((b_i (a1 + 2)) + (b_i (a5 * a4)))) a6) 143 0) (b_i ((b_i (a1 + 3)) + (b_i (2 * a4)))) a7))))
def oX25_lay_2 (n : Nat) (w : bW) (a1 : Int) (a2 : Int) (a3 : Int) (a4 : Int) (a5 : Int) (a6 : Int) (a7 : Int) : Prop := if a3 ≤ a4 then (if a3 ≤ a4 then (b_ai n (w 143 0) 1 0 (b_i ((b_i (a2 + 2)) + (b_i (a5 * (b_i (a4 - a3)))))) ∧ (if a5 ≠ 2 then True else (b_ai n ((b_up w (w 143 0) (b_i ((b_i (a2 + 2)) + (b_i (a5 * (b_i (a4 - a3)))))) a6) 143 0) 1 0 (b_i ((b_i (a2 + 3)) + (b_i (2 * (b_i (a4 - a3)))))) ∧ (True)))) else (b_ai n (w 143 0) 1 0 (b_i ((b_i (a2 + 2)) + (b_i (a5 * a4)))) ∧ (if a5 ≠ 2 then True else (b_ai n ((b_up w (w 143 0) (b_i ((b_i (a2 + 2)) + (b_i (a5 * a4)))) a6) 143 0) 1 0 (b_i ((b_i (a2 + 3)) + (b_i (2 * a4)))) ∧ (True))))) else (if a3 ≤ a4 then (b_ai n (w 143 0) 1 0 (b_i ((b_i (a1 + 2)) + (b_i (a5 * (b_i (a4 - a3)))))) ∧ (if a5 ≠ 2 then True else (b_ai n ((b_up w (w 143 0) (b_i ((b_i (a1 + 2)) + (b_i (a5 * (b_i (a4 - a3)))))) a6) 143 0) 1 0 (b_i ((b_i (a1 + 3)) + (b_i (2 * (b_i (a4 - a3)))))) ∧ (True)))) else (b_ai n (w 143 0) 1 0 (b_i ((b_i (a1 + 2)) + (b_i (a5 * a4)))) ∧ (if a5 ≠ 2 then True else (b_ai n ((b_up w (w 143 0) (b_i ((b_i (a1 + 2)) + (b_i (a5 * a4)))) a6) 143 0) 1 0 (b_i ((b_i (a1 + 3)) + (b_i (2 * a4)))) ∧ (True)))))
theorem vX25_lay_2 {d n : Nat} {w : bW} {Q : Int → bW → Prop} {X : String → bW → Prop} (hn : 144 ≤ n) (a1 : Int) (a2 : Int) (a3 : Int) (a4 : Int) (a5 : Int) (a6 : Int) (a7 : Int) (ok : oX25_lay_2 n w a1 a2 a3 a4 a5 a6 a7) (k : Q (fX25_lay_2 w a1 a2 a3 a4 a5 a6 a7) (gX25_lay_2 w a1 a2 a3 a4 a5 a6 a7)) : b_K (d + 1) mX25_lay_2 [(2, 143), (0, a1), (0, a2), (0, a3), (0, a4), (0, a5), (0, a6), (0, a7)] n w Q X := by
  have i143 := iz143 (Nat.le_trans (Nat.le_of_ble_eq_true rfl) hn)
  unfold fX25_lay_2 gX25_lay_2 at k
  unfold oX25_lay_2 at ok
  refine k_of (by decide) rfl rfl rfl (ls := [(2, 143), (0, a1), (0, a2), (0, a3), (0, a4), (0, a5), (0, a6), (0, a7), (9, 0), (9, 0)]) rfl ?_
  refine x_iload 4 dX25_lay_2_0 rfl rfl ?_
  refine x_iload_n 3 dX25_lay_2_2 rfl rfl rfl ?_
  refine x_icmp_ge (t := 10) 7 dX25_lay_2_3 rfl rfl (b_itqw ok k (fun hc ok k => ?_) (fun hc ok k => ?_))
  · refine x_iload_n 2 dX25_lay_2_10 rfl rfl rfl ?_
    refine x_istore 8 (ls' := [(2, 143), (0, a1), (0, a2), (0, a3), (0, a4), (0, a5), (0, a6), (0, a7), (0, a2), (9, 0)]) dX25_lay_2_11 rfl rfl rfl ?_
    refine x_iload 4 dX25_lay_2_13 rfl rfl ?_
    refine x_iload_n 3 dX25_lay_2_15 rfl rfl rfl ?_
    refine x_icmp_ge (t := 24) 8 dX25_lay_2_16 rfl rfl (b_itqw ok k (fun hc ok k => ?_) (fun hc ok k => ?_))
    · refine x_iload 4 dX25_lay_2_24 rfl rfl ?_
      refine x_iload_n 3 dX25_lay_2_26 rfl rfl rfl ?_
      refine x_isub dX25_lay_2_27 rfl ?_
      refine x_istore 9 (ls' := [(2, 143), (0, a1), (0, a2), (0, a3), (0, a4), (0, a5), (0, a6), (0, a7), (0, a2), (0, b_i (a4 - a3))]) dX25_lay_2_28 rfl rfl rfl ?_
      refine x_aload_n 0 dX25_lay_2_30 rfl rfl rfl rfl rfl ?_
      refine y_get 11 0 (c := 23) (z := w 143 0) dX25_lay_2_31 i143 rfl in_X25 q4235 rfl rfl rfl rfl rfl ?_
      refine x_iload 8 dX25_lay_2_34 rfl rfl ?_
      refine x_iconst 2 (z := 2) dX25_lay_2_36 rfl (by decide) rfl ?_
      refine x_iadd dX25_lay_2_37 rfl ?_
      refine x_iload 5 dX25_lay_2_38 rfl rfl ?_
      refine x_iload 9 dX25_lay_2_40 rfl rfl ?_
      refine x_imul dX25_lay_2_42 rfl ?_
      refine x_iadd dX25_lay_2_43 rfl ?_
      refine x_iload 6 dX25_lay_2_44 rfl rfl ?_
      obtain ⟨e1, ok⟩ := ok
      refine y_iast (x' := a6) dX25_lay_2_46 e1 rfl rfl ?_
      refine x_iload 5 dX25_lay_2_47 rfl rfl ?_
      refine x_iconst 2 (z := 2) dX25_lay_2_49 rfl (by decide) rfl ?_
      refine x_icmp_ne (t := 69) 19 dX25_lay_2_50 rfl rfl (b_itqw ok k (fun hc ok k => ?_) (fun hc ok k => ?_))
      · refine x_iload 4 dX25_lay_2_69 rfl rfl ?_
        refine x_iconst 1 (z := 1) dX25_lay_2_71 rfl (by decide) rfl ?_
        refine x_iadd dX25_lay_2_72 rfl ?_
        exact y_iret dX25_lay_2_73 rfl k
      · refine x_aload_n 0 dX25_lay_2_53 rfl rfl rfl rfl rfl ?_
        refine y_get 11 0 (c := 23) (z := (b_up w (w 143 0) (b_i ((b_i (a2 + 2)) + (b_i (a5 * (b_i (a4 - a3)))))) a6) 143 0) dX25_lay_2_54 i143 rfl in_X25 q4235 rfl rfl rfl rfl rfl ?_
        refine x_iload 8 dX25_lay_2_57 rfl rfl ?_
        refine x_iconst 3 (z := 3) dX25_lay_2_59 rfl (by decide) rfl ?_
        refine x_iadd dX25_lay_2_60 rfl ?_
        refine x_iconst 2 (z := 2) dX25_lay_2_61 rfl (by decide) rfl ?_
        refine x_iload 9 dX25_lay_2_62 rfl rfl ?_
        refine x_imul dX25_lay_2_64 rfl ?_
        refine x_iadd dX25_lay_2_65 rfl ?_
        refine x_iload 7 dX25_lay_2_66 rfl rfl ?_
        obtain ⟨e2, ok⟩ := ok
        refine y_iast (x' := a7) dX25_lay_2_68 e2 rfl rfl ?_
        refine x_iload 4 dX25_lay_2_69 rfl rfl ?_
        refine x_iconst 1 (z := 1) dX25_lay_2_71 rfl (by decide) rfl ?_
        refine x_iadd dX25_lay_2_72 rfl ?_
        exact y_iret dX25_lay_2_73 rfl k
    · refine x_iload 4 dX25_lay_2_19 rfl rfl ?_
      refine x_goto 7 (q := 28) dX25_lay_2_21 rfl ?_
      refine x_istore 9 (ls' := [(2, 143), (0, a1), (0, a2), (0, a3), (0, a4), (0, a5), (0, a6), (0, a7), (0, a2), (0, a4)]) dX25_lay_2_28 rfl rfl rfl ?_
      refine x_aload_n 0 dX25_lay_2_30 rfl rfl rfl rfl rfl ?_
      refine y_get 11 0 (c := 23) (z := w 143 0) dX25_lay_2_31 i143 rfl in_X25 q4235 rfl rfl rfl rfl rfl ?_
      refine x_iload 8 dX25_lay_2_34 rfl rfl ?_
      refine x_iconst 2 (z := 2) dX25_lay_2_36 rfl (by decide) rfl ?_
      refine x_iadd dX25_lay_2_37 rfl ?_
      refine x_iload 5 dX25_lay_2_38 rfl rfl ?_
      refine x_iload 9 dX25_lay_2_40 rfl rfl ?_
      refine x_imul dX25_lay_2_42 rfl ?_
      refine x_iadd dX25_lay_2_43 rfl ?_
      refine x_iload 6 dX25_lay_2_44 rfl rfl ?_
      obtain ⟨e3, ok⟩ := ok
      refine y_iast (x' := a6) dX25_lay_2_46 e3 rfl rfl ?_
      refine x_iload 5 dX25_lay_2_47 rfl rfl ?_
      refine x_iconst 2 (z := 2) dX25_lay_2_49 rfl (by decide) rfl ?_
      refine x_icmp_ne (t := 69) 19 dX25_lay_2_50 rfl rfl (b_itqw ok k (fun hc ok k => ?_) (fun hc ok k => ?_))
      · refine x_iload 4 dX25_lay_2_69 rfl rfl ?_
        refine x_iconst 1 (z := 1) dX25_lay_2_71 rfl (by decide) rfl ?_
        refine x_iadd dX25_lay_2_72 rfl ?_
        exact y_iret dX25_lay_2_73 rfl k
      · refine x_aload_n 0 dX25_lay_2_53 rfl rfl rfl rfl rfl ?_
        refine y_get 11 0 (c := 23) (z := (b_up w (w 143 0) (b_i ((b_i (a2 + 2)) + (b_i (a5 * a4)))) a6) 143 0) dX25_lay_2_54 i143 rfl in_X25 q4235 rfl rfl rfl rfl rfl ?_
        refine x_iload 8 dX25_lay_2_57 rfl rfl ?_
        refine x_iconst 3 (z := 3) dX25_lay_2_59 rfl (by decide) rfl ?_
        refine x_iadd dX25_lay_2_60 rfl ?_
        refine x_iconst 2 (z := 2) dX25_lay_2_61 rfl (by decide) rfl ?_
        refine x_iload 9 dX25_lay_2_62 rfl rfl ?_
        refine x_imul dX25_lay_2_64 rfl ?_
        refine x_iadd dX25_lay_2_65 rfl ?_
        refine x_iload 7 dX25_lay_2_66 rfl rfl ?_
        obtain ⟨e4, ok⟩ := ok
        refine y_iast (x' := a7) dX25_lay_2_68 e4 rfl rfl ?_
        refine x_iload 4 dX25_lay_2_69 rfl rfl ?_
        refine x_iconst 1 (z := 1) dX25_lay_2_71 rfl (by decide) rfl ?_
        refine x_iadd dX25_lay_2_72 rfl ?_
        exact y_iret dX25_lay_2_73 rfl k
  · refine x_iload_n 1 dX25_lay_2_6 rfl rfl rfl ?_
    refine x_goto 4 (q := 11) dX25_lay_2_7 rfl ?_
    refine x_istore 8 (ls' := [(2, 143), (0, a1), (0, a2), (0, a3), (0, a4), (0, a5), (0, a6), (0, a7), (0, a1), (9, 0)]) dX25_lay_2_11 rfl rfl rfl ?_
    refine x_iload 4 dX25_lay_2_13 rfl rfl ?_
    refine x_iload_n 3 dX25_lay_2_15 rfl rfl rfl ?_
    refine x_icmp_ge (t := 24) 8 dX25_lay_2_16 rfl rfl (b_itqw ok k (fun hc ok k => ?_) (fun hc ok k => ?_))
    · refine x_iload 4 dX25_lay_2_24 rfl rfl ?_
      refine x_iload_n 3 dX25_lay_2_26 rfl rfl rfl ?_
      refine x_isub dX25_lay_2_27 rfl ?_
      refine x_istore 9 (ls' := [(2, 143), (0, a1), (0, a2), (0, a3), (0, a4), (0, a5), (0, a6), (0, a7), (0, a1), (0, b_i (a4 - a3))]) dX25_lay_2_28 rfl rfl rfl ?_
      refine x_aload_n 0 dX25_lay_2_30 rfl rfl rfl rfl rfl ?_
      refine y_get 11 0 (c := 23) (z := w 143 0) dX25_lay_2_31 i143 rfl in_X25 q4235 rfl rfl rfl rfl rfl ?_
      refine x_iload 8 dX25_lay_2_34 rfl rfl ?_
      refine x_iconst 2 (z := 2) dX25_lay_2_36 rfl (by decide) rfl ?_
      refine x_iadd dX25_lay_2_37 rfl ?_
      refine x_iload 5 dX25_lay_2_38 rfl rfl ?_
      refine x_iload 9 dX25_lay_2_40 rfl rfl ?_
      refine x_imul dX25_lay_2_42 rfl ?_
      refine x_iadd dX25_lay_2_43 rfl ?_
      refine x_iload 6 dX25_lay_2_44 rfl rfl ?_
      obtain ⟨e5, ok⟩ := ok
      refine y_iast (x' := a6) dX25_lay_2_46 e5 rfl rfl ?_
      refine x_iload 5 dX25_lay_2_47 rfl rfl ?_
      refine x_iconst 2 (z := 2) dX25_lay_2_49 rfl (by decide) rfl ?_
      refine x_icmp_ne (t := 69) 19 dX25_lay_2_50 rfl rfl (b_itqw ok k (fun hc ok k => ?_) (fun hc ok k => ?_))
      · refine x_iload 4 dX25_lay_2_69 rfl rfl ?_
        refine x_iconst 1 (z := 1) dX25_lay_2_71 rfl (by decide) rfl ?_
        refine x_iadd dX25_lay_2_72 rfl ?_
        exact y_iret dX25_lay_2_73 rfl k
      · refine x_aload_n 0 dX25_lay_2_53 rfl rfl rfl rfl rfl ?_
        refine y_get 11 0 (c := 23) (z := (b_up w (w 143 0) (b_i ((b_i (a1 + 2)) + (b_i (a5 * (b_i (a4 - a3)))))) a6) 143 0) dX25_lay_2_54 i143 rfl in_X25 q4235 rfl rfl rfl rfl rfl ?_
        refine x_iload 8 dX25_lay_2_57 rfl rfl ?_
        refine x_iconst 3 (z := 3) dX25_lay_2_59 rfl (by decide) rfl ?_
        refine x_iadd dX25_lay_2_60 rfl ?_
        refine x_iconst 2 (z := 2) dX25_lay_2_61 rfl (by decide) rfl ?_
        refine x_iload 9 dX25_lay_2_62 rfl rfl ?_
        refine x_imul dX25_lay_2_64 rfl ?_
        refine x_iadd dX25_lay_2_65 rfl ?_
        refine x_iload 7 dX25_lay_2_66 rfl rfl ?_
        obtain ⟨e6, ok⟩ := ok
        refine y_iast (x' := a7) dX25_lay_2_68 e6 rfl rfl ?_
        refine x_iload 4 dX25_lay_2_69 rfl rfl ?_
        refine x_iconst 1 (z := 1) dX25_lay_2_71 rfl (by decide) rfl ?_
        refine x_iadd dX25_lay_2_72 rfl ?_
        exact y_iret dX25_lay_2_73 rfl k
    · refine x_iload 4 dX25_lay_2_19 rfl rfl ?_
      refine x_goto 7 (q := 28) dX25_lay_2_21 rfl ?_
      refine x_istore 9 (ls' := [(2, 143), (0, a1), (0, a2), (0, a3), (0, a4), (0, a5), (0, a6), (0, a7), (0, a1), (0, a4)]) dX25_lay_2_28 rfl rfl rfl ?_
      refine x_aload_n 0 dX25_lay_2_30 rfl rfl rfl rfl rfl ?_
      refine y_get 11 0 (c := 23) (z := w 143 0) dX25_lay_2_31 i143 rfl in_X25 q4235 rfl rfl rfl rfl rfl ?_
      refine x_iload 8 dX25_lay_2_34 rfl rfl ?_
      refine x_iconst 2 (z := 2) dX25_lay_2_36 rfl (by decide) rfl ?_
      refine x_iadd dX25_lay_2_37 rfl ?_
      refine x_iload 5 dX25_lay_2_38 rfl rfl ?_
      refine x_iload 9 dX25_lay_2_40 rfl rfl ?_
      refine x_imul dX25_lay_2_42 rfl ?_
      refine x_iadd dX25_lay_2_43 rfl ?_
      refine x_iload 6 dX25_lay_2_44 rfl rfl ?_
      obtain ⟨e7, ok⟩ := ok
      refine y_iast (x' := a6) dX25_lay_2_46 e7 rfl rfl ?_
      refine x_iload 5 dX25_lay_2_47 rfl rfl ?_
      refine x_iconst 2 (z := 2) dX25_lay_2_49 rfl (by decide) rfl ?_
      refine x_icmp_ne (t := 69) 19 dX25_lay_2_50 rfl rfl (b_itqw ok k (fun hc ok k => ?_) (fun hc ok k => ?_))
      · refine x_iload 4 dX25_lay_2_69 rfl rfl ?_
        refine x_iconst 1 (z := 1) dX25_lay_2_71 rfl (by decide) rfl ?_
        refine x_iadd dX25_lay_2_72 rfl ?_
        exact y_iret dX25_lay_2_73 rfl k
      · refine x_aload_n 0 dX25_lay_2_53 rfl rfl rfl rfl rfl ?_
        refine y_get 11 0 (c := 23) (z := (b_up w (w 143 0) (b_i ((b_i (a1 + 2)) + (b_i (a5 * a4)))) a6) 143 0) dX25_lay_2_54 i143 rfl in_X25 q4235 rfl rfl rfl rfl rfl ?_
        refine x_iload 8 dX25_lay_2_57 rfl rfl ?_
        refine x_iconst 3 (z := 3) dX25_lay_2_59 rfl (by decide) rfl ?_
        refine x_iadd dX25_lay_2_60 rfl ?_
        refine x_iconst 2 (z := 2) dX25_lay_2_61 rfl (by decide) rfl ?_
        refine x_iload 9 dX25_lay_2_62 rfl rfl ?_
        refine x_imul dX25_lay_2_64 rfl ?_
        refine x_iadd dX25_lay_2_65 rfl ?_
        refine x_iload 7 dX25_lay_2_66 rfl rfl ?_
        obtain ⟨e8, ok⟩ := ok
        refine y_iast (x' := a7) dX25_lay_2_68 e8 rfl rfl ?_
        refine x_iload 4 dX25_lay_2_69 rfl rfl ?_
        refine x_iconst 1 (z := 1) dX25_lay_2_71 rfl (by decide) rfl ?_
        refine x_iadd dX25_lay_2_72 rfl ?_
        exact y_iret dX25_lay_2_73 rfl k
def gX25_put (w : bW) (a1 : Int) : bW := (b_up (b_up w 172 (w 143 32) (b_b8 a1)) 143 32 (b_i ((w 143 32) + 1)))
def oX25_put (n : Nat) (w : bW) (a1 : Int) : Prop := (0 ≤ w 143 32 ∧ w 143 32 < 65536) ∧ (True)
theorem vX25_put {d n : Nat} {w : bW} {Q : Int → bW → Prop} {X : String → bW → Prop} (hn : 254 ≤ n) (a1 : Int) (ok : oX25_put n w a1) (k : Q 0 (gX25_put w a1)) : b_K (d + 1) mX25_put [(2, 143), (0, a1)] n w Q X := by
  have i143 := iz143 (Nat.le_trans (Nat.le_of_ble_eq_true rfl) hn)
  have i172 := iz172 (Nat.le_trans (Nat.le_of_ble_eq_true rfl) hn)
  unfold gX25_put at k
  unfold oX25_put at ok
  refine k_of (by decide) rfl rfl rfl (ls := [(2, 143), (0, a1)]) rfl ?_
  refine x_aload_n 0 dX25_put_0 rfl rfl rfl rfl rfl ?_
  refine y_getF 369 31 (c := 23) (z := 172) dX25_put_1 i143 rfl in_X25 q4266 rfl rfl rfl fn_143_31 (Nat.le_trans (Nat.le_of_ble_eq_true rfl) hn) rfl ?_
  refine x_aload_n 0 dX25_put_4 rfl rfl rfl rfl rfl ?_
  refine y_get 372 32 (c := 23) (z := w 143 32) dX25_put_5 i143 rfl in_X25 q4267 rfl rfl rfl rfl rfl ?_
  refine x_iload_n 1 dX25_put_8 rfl rfl rfl ?_
  refine x_i2b dX25_put_9 rfl ?_
  obtain ⟨e1, ok⟩ := ok
  refine y_bast (x' := b_b8 a1) dX25_put_10 ⟨65536, i172, e1⟩ (b_b8_i _) rfl ?_
  refine x_aload_n 0 dX25_put_11 rfl rfl rfl rfl rfl ?_
  refine x_dup dX25_put_12 rfl rfl ?_
  refine y_get 372 32 (c := 23) (z := w 143 32) dX25_put_13 i143 rfl in_X25 q4267 rfl rfl rfl rfl rfl ?_
  refine x_iconst 1 (z := 1) dX25_put_16 rfl (by decide) rfl ?_
  refine x_iadd dX25_put_17 rfl ?_
  refine x_put 372 32 (c := 23) dX25_put_18 i143 rfl in_X25 tyX25_ok nmX25 q4267 rfl rfl rfl (Or.inl rfl) (Or.inl ⟨rfl, rfl⟩) rfl ?_
  exact y_vret dX25_put_21 rfl k
def fX25_comes (w : bW) (a1 : Int) (a2 : Int) (a3 : Int) : Int := (if a3 ≤ b_i ((w 143 33) + 1) then 0 else (if b_and (w 171 (w 143 33)) 255 ≠ a1 then 0 else (if b_and (w 171 (b_i ((w 143 33) + 1))) 255 ≠ a2 then 0 else 1)))
def gX25_comes (w : bW) (a1 : Int) (a2 : Int) (a3 : Int) : bW := (if a3 ≤ b_i ((w 143 33) + 1) then (b_up w 143 33 (w 143 33)) else (if b_and (w 171 (w 143 33)) 255 ≠ a1 then (b_up w 143 33 (w 143 33)) else (if b_and (w 171 (b_i ((w 143 33) + 1))) 255 ≠ a2 then (b_up w 143 33 (w 143 33)) else (b_up w 143 33 (b_i ((w 143 33) + 2))))))
def oX25_comes (n : Nat) (w : bW) (a1 : Int) (a2 : Int) (a3 : Int) : Prop := if a3 ≤ b_i ((w 143 33) + 1) then True else ((0 ≤ w 143 33 ∧ w 143 33 < 16384) ∧ (if b_and (w 171 (w 143 33)) 255 ≠ a1 then True else ((0 ≤ b_i ((w 143 33) + 1) ∧ b_i ((w 143 33) + 1) < 16384) ∧ (True))))
theorem vX25_comes {d n : Nat} {w : bW} {Q : Int → bW → Prop} {X : String → bW → Prop} (hn : 254 ≤ n) (a1 : Int) (a2 : Int) (a3 : Int) (ok : oX25_comes n w a1 a2 a3) (k : Q (fX25_comes w a1 a2 a3) (gX25_comes w a1 a2 a3)) : b_K (d + 1) mX25_comes [(2, 143), (0, a1), (0, a2), (0, a3)] n w Q X := by
  have i143 := iz143 (Nat.le_trans (Nat.le_of_ble_eq_true rfl) hn)
  have i171 := iz171 (Nat.le_trans (Nat.le_of_ble_eq_true rfl) hn)
  unfold fX25_comes gX25_comes at k
  unfold oX25_comes at ok
  refine k_of (by decide) rfl rfl rfl (ls := [(2, 143), (0, a1), (0, a2), (0, a3), (9, 0)]) rfl ?_
  refine x_aload_n 0 dX25_comes_0 rfl rfl rfl rfl rfl ?_
  refine y_get 400 33 (c := 23) (z := w 143 33) dX25_comes_1 i143 rfl in_X25 q4268 rfl rfl rfl rfl rfl ?_
  refine x_iconst 1 (z := 1) dX25_comes_4 rfl (by decide) rfl ?_
  refine x_iadd dX25_comes_5 rfl ?_
  refine x_iload_n 3 dX25_comes_6 rfl rfl rfl ?_
  refine x_icmp_ge (t := 50) 43 dX25_comes_7 rfl rfl (b_itq ok k (fun hc ok k => ?_) (fun hc ok k => ?_))
  · refine x_iconst 0 (z := 0) dX25_comes_50 rfl (by decide) rfl ?_
    refine x_istore 4 (ls' := [(2, 143), (0, a1), (0, a2), (0, a3), (0, 0)]) dX25_comes_51 rfl rfl rfl ?_
    refine x_aload_n 0 dX25_comes_53 rfl rfl rfl rfl rfl ?_
    refine x_iload 4 dX25_comes_54 rfl rfl ?_
    refine x_if_eq (t := 68) 12 dX25_comes_56 rfl rfl (b_ifT (by decide) ?_)
    refine x_aload_n 0 dX25_comes_68 rfl rfl rfl rfl rfl ?_
    refine y_get 400 33 (c := 23) (z := w 143 33) dX25_comes_69 i143 rfl in_X25 q4268 rfl rfl rfl rfl rfl ?_
    refine x_put 400 33 (c := 23) dX25_comes_72 i143 rfl in_X25 tyX25_ok nmX25 q4268 rfl rfl rfl (Or.inl rfl) (Or.inl ⟨rfl, rfl⟩) rfl ?_
    refine x_iload 4 dX25_comes_75 rfl rfl ?_
    exact y_zret dX25_comes_77 rfl (by decide) k
  · refine x_aload_n 0 dX25_comes_10 rfl rfl rfl rfl rfl ?_
    refine y_getF 355 30 (c := 23) (z := 171) dX25_comes_11 i143 rfl in_X25 q4265 rfl rfl rfl fn_143_30 (Nat.le_trans (Nat.le_of_ble_eq_true rfl) hn) rfl ?_
    refine x_aload_n 0 dX25_comes_14 rfl rfl rfl rfl rfl ?_
    refine y_get 400 33 (c := 23) (z := w 143 33) dX25_comes_15 i143 rfl in_X25 q4268 rfl rfl rfl rfl rfl ?_
    obtain ⟨e1, ok⟩ := ok
    refine y_bald (z := w 171 (w 143 33)) dX25_comes_18 ⟨16384, i171, e1⟩ rfl rfl ?_
    refine x_sipush 255 (z := 255) dX25_comes_19 rfl (by decide) rfl ?_
    refine x_iand dX25_comes_22 rfl ?_
    refine x_iload_n 1 dX25_comes_23 rfl rfl rfl ?_
    refine x_icmp_ne (t := 50) 26 dX25_comes_24 rfl rfl (b_itq ok k (fun hc ok k => ?_) (fun hc ok k => ?_))
    · refine x_iconst 0 (z := 0) dX25_comes_50 rfl (by decide) rfl ?_
      refine x_istore 4 (ls' := [(2, 143), (0, a1), (0, a2), (0, a3), (0, 0)]) dX25_comes_51 rfl rfl rfl ?_
      refine x_aload_n 0 dX25_comes_53 rfl rfl rfl rfl rfl ?_
      refine x_iload 4 dX25_comes_54 rfl rfl ?_
      refine x_if_eq (t := 68) 12 dX25_comes_56 rfl rfl (b_ifT (by decide) ?_)
      refine x_aload_n 0 dX25_comes_68 rfl rfl rfl rfl rfl ?_
      refine y_get 400 33 (c := 23) (z := w 143 33) dX25_comes_69 i143 rfl in_X25 q4268 rfl rfl rfl rfl rfl ?_
      refine x_put 400 33 (c := 23) dX25_comes_72 i143 rfl in_X25 tyX25_ok nmX25 q4268 rfl rfl rfl (Or.inl rfl) (Or.inl ⟨rfl, rfl⟩) rfl ?_
      refine x_iload 4 dX25_comes_75 rfl rfl ?_
      exact y_zret dX25_comes_77 rfl (by decide) k
    · refine x_aload_n 0 dX25_comes_27 rfl rfl rfl rfl rfl ?_
      refine y_getF 355 30 (c := 23) (z := 171) dX25_comes_28 i143 rfl in_X25 q4265 rfl rfl rfl fn_143_30 (Nat.le_trans (Nat.le_of_ble_eq_true rfl) hn) rfl ?_
      refine x_aload_n 0 dX25_comes_31 rfl rfl rfl rfl rfl ?_
      refine y_get 400 33 (c := 23) (z := w 143 33) dX25_comes_32 i143 rfl in_X25 q4268 rfl rfl rfl rfl rfl ?_
      refine x_iconst 1 (z := 1) dX25_comes_35 rfl (by decide) rfl ?_
      refine x_iadd dX25_comes_36 rfl ?_
      obtain ⟨e2, ok⟩ := ok
      refine y_bald (z := w 171 (b_i ((w 143 33) + 1))) dX25_comes_37 ⟨16384, i171, e2⟩ rfl rfl ?_
      refine x_sipush 255 (z := 255) dX25_comes_38 rfl (by decide) rfl ?_
      refine x_iand dX25_comes_41 rfl ?_
      refine x_iload_n 2 dX25_comes_42 rfl rfl rfl ?_
      refine x_icmp_ne (t := 50) 7 dX25_comes_43 rfl rfl (b_itq (b_tt _) k (fun hc ok k => ?_) (fun hc ok k => ?_))
      · refine x_iconst 0 (z := 0) dX25_comes_50 rfl (by decide) rfl ?_
        refine x_istore 4 (ls' := [(2, 143), (0, a1), (0, a2), (0, a3), (0, 0)]) dX25_comes_51 rfl rfl rfl ?_
        refine x_aload_n 0 dX25_comes_53 rfl rfl rfl rfl rfl ?_
        refine x_iload 4 dX25_comes_54 rfl rfl ?_
        refine x_if_eq (t := 68) 12 dX25_comes_56 rfl rfl (b_ifT (by decide) ?_)
        refine x_aload_n 0 dX25_comes_68 rfl rfl rfl rfl rfl ?_
        refine y_get 400 33 (c := 23) (z := w 143 33) dX25_comes_69 i143 rfl in_X25 q4268 rfl rfl rfl rfl rfl ?_
        refine x_put 400 33 (c := 23) dX25_comes_72 i143 rfl in_X25 tyX25_ok nmX25 q4268 rfl rfl rfl (Or.inl rfl) (Or.inl ⟨rfl, rfl⟩) rfl ?_
        refine x_iload 4 dX25_comes_75 rfl rfl ?_
        exact y_zret dX25_comes_77 rfl (by decide) k
      · refine x_iconst 1 (z := 1) dX25_comes_46 rfl (by decide) rfl ?_
        refine x_goto 4 (q := 51) dX25_comes_47 rfl ?_
        refine x_istore 4 (ls' := [(2, 143), (0, a1), (0, a2), (0, a3), (0, 1)]) dX25_comes_51 rfl rfl rfl ?_
        refine x_aload_n 0 dX25_comes_53 rfl rfl rfl rfl rfl ?_
        refine x_iload 4 dX25_comes_54 rfl rfl ?_
        refine x_if_eq (t := 68) 12 dX25_comes_56 rfl rfl (b_ifF (by decide) ?_)
        refine x_aload_n 0 dX25_comes_59 rfl rfl rfl rfl rfl ?_
        refine y_get 400 33 (c := 23) (z := w 143 33) dX25_comes_60 i143 rfl in_X25 q4268 rfl rfl rfl rfl rfl ?_
        refine x_iconst 2 (z := 2) dX25_comes_63 rfl (by decide) rfl ?_
        refine x_iadd dX25_comes_64 rfl ?_
        refine x_goto 7 (q := 72) dX25_comes_65 rfl ?_
        refine x_put 400 33 (c := 23) dX25_comes_72 i143 rfl in_X25 tyX25_ok nmX25 q4268 rfl rfl rfl (Or.inl rfl) (Or.inl ⟨rfl, rfl⟩) rfl ?_
        refine x_iload 4 dX25_comes_75 rfl rfl ?_
        exact y_zret dX25_comes_77 rfl (by decide) k
def fX25_taken (w : bW) (a1 : Int) : Int := (if a1 ≤ w 143 33 then (-1) else b_and (w 171 (w 143 33)) 255)
def gX25_taken (w : bW) (a1 : Int) : bW := (b_up w 143 33 (b_i ((w 143 33) + 1)))
def oX25_taken (n : Nat) (w : bW) (a1 : Int) : Prop := if a1 ≤ w 143 33 then True else ((0 ≤ w 143 33 ∧ w 143 33 < 16384) ∧ (True))
theorem vX25_taken {d n : Nat} {w : bW} {Q : Int → bW → Prop} {X : String → bW → Prop} (hn : 254 ≤ n) (a1 : Int) (ok : oX25_taken n w a1) (k : Q (fX25_taken w a1) (gX25_taken w a1)) : b_K (d + 1) mX25_taken [(2, 143), (0, a1)] n w Q X := by
  have i143 := iz143 (Nat.le_trans (Nat.le_of_ble_eq_true rfl) hn)
  have i171 := iz171 (Nat.le_trans (Nat.le_of_ble_eq_true rfl) hn)
  unfold fX25_taken gX25_taken at k
  unfold oX25_taken at ok
  refine k_of (by decide) rfl rfl rfl (ls := [(2, 143), (0, a1), (9, 0)]) rfl ?_
  refine x_aload_n 0 dX25_taken_0 rfl rfl rfl rfl rfl ?_
  refine y_get 400 33 (c := 23) (z := w 143 33) dX25_taken_1 i143 rfl in_X25 q4268 rfl rfl rfl rfl rfl ?_
  refine x_iload_n 1 dX25_taken_4 rfl rfl rfl ?_
  refine x_icmp_ge (t := 24) 19 dX25_taken_5 rfl rfl (b_itqv ok k (fun hc ok k => ?_) (fun hc ok k => ?_))
  · refine x_iconst (-1) (z := (-1)) dX25_taken_24 rfl (by decide) rfl ?_
    refine x_istore_n 2 (ls' := [(2, 143), (0, a1), (0, (-1))]) dX25_taken_25 rfl rfl rfl rfl ?_
    refine x_aload_n 0 dX25_taken_26 rfl rfl rfl rfl rfl ?_
    refine x_dup dX25_taken_27 rfl rfl ?_
    refine y_get 400 33 (c := 23) (z := w 143 33) dX25_taken_28 i143 rfl in_X25 q4268 rfl rfl rfl rfl rfl ?_
    refine x_iconst 1 (z := 1) dX25_taken_31 rfl (by decide) rfl ?_
    refine x_iadd dX25_taken_32 rfl ?_
    refine x_put 400 33 (c := 23) dX25_taken_33 i143 rfl in_X25 tyX25_ok nmX25 q4268 rfl rfl rfl (Or.inl rfl) (Or.inl ⟨rfl, rfl⟩) rfl ?_
    refine x_iload_n 2 dX25_taken_36 rfl rfl rfl ?_
    exact y_iret dX25_taken_37 rfl k
  · refine x_aload_n 0 dX25_taken_8 rfl rfl rfl rfl rfl ?_
    refine y_getF 355 30 (c := 23) (z := 171) dX25_taken_9 i143 rfl in_X25 q4265 rfl rfl rfl fn_143_30 (Nat.le_trans (Nat.le_of_ble_eq_true rfl) hn) rfl ?_
    refine x_aload_n 0 dX25_taken_12 rfl rfl rfl rfl rfl ?_
    refine y_get 400 33 (c := 23) (z := w 143 33) dX25_taken_13 i143 rfl in_X25 q4268 rfl rfl rfl rfl rfl ?_
    obtain ⟨e1, ok⟩ := ok
    refine y_bald (z := w 171 (w 143 33)) dX25_taken_16 ⟨16384, i171, e1⟩ rfl rfl ?_
    refine x_sipush 255 (z := 255) dX25_taken_17 rfl (by decide) rfl ?_
    refine x_iand dX25_taken_20 rfl ?_
    refine x_goto 4 (q := 25) dX25_taken_21 rfl ?_
    refine x_istore_n 2 (ls' := [(2, 143), (0, a1), (0, b_and (w 171 (w 143 33)) 255)]) dX25_taken_25 rfl rfl rfl rfl ?_
    refine x_aload_n 0 dX25_taken_26 rfl rfl rfl rfl rfl ?_
    refine x_dup dX25_taken_27 rfl rfl ?_
    refine y_get 400 33 (c := 23) (z := w 143 33) dX25_taken_28 i143 rfl in_X25 q4268 rfl rfl rfl rfl rfl ?_
    refine x_iconst 1 (z := 1) dX25_taken_31 rfl (by decide) rfl ?_
    refine x_iadd dX25_taken_32 rfl ?_
    refine x_put 400 33 (c := 23) dX25_taken_33 i143 rfl in_X25 tyX25_ok nmX25 q4268 rfl rfl rfl (Or.inl rfl) (Or.inl ⟨rfl, rfl⟩) rfl ?_
    refine x_iload_n 2 dX25_taken_36 rfl rfl rfl ?_
    exact y_iret dX25_taken_37 rfl k
def fX25_contract (w : bW) (a1 : Int) : Int := fX25_make w 15 3 40
def gX25_contract (w : bW) (a1 : Int) : bW := (b_up (gX25_make w 15 3 40) ((gX25_make w 15 3 40) 143 0) (b_i ((fX25_make w 15 3 40) + 2)) a1)
def oX25_contract (n : Nat) (w : bW) (a1 : Int) : Prop := (oX25_make n w 15 3 40) ∧ (b_ai n ((gX25_make w 15 3 40) 143 0) 1 0 (b_i ((fX25_make w 15 3 40) + 2)) ∧ (True))
theorem vX25_contract {d n : Nat} {w : bW} {Q : Int → bW → Prop} {X : String → bW → Prop} (hn : 144 ≤ n) (a1 : Int) (ok : oX25_contract n w a1) (k : Q (fX25_contract w a1) (gX25_contract w a1)) : b_K (d + 2) mX25_contract [(2, 143), (0, a1)] n w Q X := by
  have i143 := iz143 (Nat.le_trans (Nat.le_of_ble_eq_true rfl) hn)
  unfold fX25_contract gX25_contract at k
  unfold oX25_contract at ok
  refine k_of (by decide) rfl rfl rfl (ls := [(2, 143), (0, a1), (9, 0)]) rfl ?_
  refine x_aload_n 0 dX25_contract_0 rfl rfl rfl rfl rfl ?_
  refine x_bipush 15 (z := 15) dX25_contract_1 rfl (by decide) rfl ?_
  refine x_iconst 3 (z := 3) dX25_contract_3 rfl (by decide) rfl ?_
  refine x_ldc2 747 (x := 40) dX25_contract_4 q3809 rfl (by decide) rfl ?_
  obtain ⟨e3, ok⟩ := ok
  refine y_Vi 80 (M := mX25_make) (As := [(0, 15), (0, 3), (1, 40)]) (st := []) dX25_contract_7 i143 rfl q3280 q3282 qs198 q392 q3283 rfl hmX25_make rfl rfl rfl rfl rfl rfl rfl rfl (vX25_make (Nat.le_trans (Nat.le_of_ble_eq_true rfl) hn) 15 3 40 e3 ?_)
  refine x_istore_n 2 (ls' := [(2, 143), (0, a1), (0, fX25_make w 15 3 40)]) dX25_contract_10 rfl rfl rfl rfl ?_
  refine x_aload_n 0 dX25_contract_11 rfl rfl rfl rfl rfl ?_
  refine y_get 11 0 (c := 23) (z := (gX25_make w 15 3 40) 143 0) dX25_contract_12 i143 rfl in_X25 q4235 rfl rfl rfl rfl rfl ?_
  refine x_iload_n 2 dX25_contract_15 rfl rfl rfl ?_
  refine x_iconst 2 (z := 2) dX25_contract_16 rfl (by decide) rfl ?_
  refine x_iadd dX25_contract_17 rfl ?_
  refine x_iload_n 1 dX25_contract_18 rfl rfl rfl ?_
  obtain ⟨e4, ok⟩ := ok
  refine y_iast (x' := a1) dX25_contract_19 e4 rfl rfl ?_
  refine x_iload_n 2 dX25_contract_20 rfl rfl rfl ?_
  exact y_iret dX25_contract_21 rfl k
def fX25_empty (w : bW) (a1 : Int) : Int := fX25_make w a1 3 5
def gX25_empty (w : bW) (a1 : Int) : bW := (b_up (gX25_make w a1 3 5) ((gX25_make w a1 3 5) 143 0) (b_i ((fX25_make w a1 3 5) + 2)) 0)
def oX25_empty (n : Nat) (w : bW) (a1 : Int) : Prop := (oX25_make n w a1 3 5) ∧ (b_ai n ((gX25_make w a1 3 5) 143 0) 1 0 (b_i ((fX25_make w a1 3 5) + 2)) ∧ (True))
theorem vX25_empty {d n : Nat} {w : bW} {Q : Int → bW → Prop} {X : String → bW → Prop} (hn : 144 ≤ n) (a1 : Int) (ok : oX25_empty n w a1) (k : Q (fX25_empty w a1) (gX25_empty w a1)) : b_K (d + 2) mX25_empty [(2, 143), (0, a1)] n w Q X := by
  have i143 := iz143 (Nat.le_trans (Nat.le_of_ble_eq_true rfl) hn)
  unfold fX25_empty gX25_empty at k
  unfold oX25_empty at ok
  refine k_of (by decide) rfl rfl rfl (ls := [(2, 143), (0, a1), (9, 0)]) rfl ?_
  refine x_aload_n 0 dX25_empty_0 rfl rfl rfl rfl rfl ?_
  refine x_iload_n 1 dX25_empty_1 rfl rfl rfl ?_
  refine x_iconst 3 (z := 3) dX25_empty_2 rfl (by decide) rfl ?_
  refine x_ldc2 127 (x := 5) dX25_empty_3 q3279 rfl (by decide) rfl ?_
  obtain ⟨e3, ok⟩ := ok
  refine y_Vi 80 (M := mX25_make) (As := [(0, a1), (0, 3), (1, 5)]) (st := []) dX25_empty_6 i143 rfl q3280 q3282 qs198 q392 q3283 rfl hmX25_make rfl rfl rfl rfl rfl rfl rfl rfl (vX25_make (Nat.le_trans (Nat.le_of_ble_eq_true rfl) hn) a1 3 5 e3 ?_)
  refine x_istore_n 2 (ls' := [(2, 143), (0, a1), (0, fX25_make w a1 3 5)]) dX25_empty_9 rfl rfl rfl rfl ?_
  refine x_aload_n 0 dX25_empty_10 rfl rfl rfl rfl rfl ?_
  refine y_get 11 0 (c := 23) (z := (gX25_make w a1 3 5) 143 0) dX25_empty_11 i143 rfl in_X25 q4235 rfl rfl rfl rfl rfl ?_
  refine x_iload_n 2 dX25_empty_14 rfl rfl rfl ?_
  refine x_iconst 2 (z := 2) dX25_empty_15 rfl (by decide) rfl ?_
  refine x_iadd dX25_empty_16 rfl ?_
  refine x_iconst 0 (z := 0) dX25_empty_17 rfl (by decide) rfl ?_
  obtain ⟨e4, ok⟩ := ok
  refine y_iast (x' := 0) dX25_empty_18 e4 rfl rfl ?_
  refine x_iload_n 2 dX25_empty_19 rfl rfl rfl ?_
  exact y_iret dX25_empty_20 rfl k
def fX25_thrown (w : bW) : Int := w 143 109
theorem vX25_thrown {d n : Nat} {w : bW} {Q : Int → bW → Prop} {X : String → bW → Prop} (hn : 144 ≤ n) (k : Q (fX25_thrown w) w) : b_K (d + 1) mX25_thrown [(2, 143)] n w Q X := by
  have i143 := iz143 (Nat.le_trans (Nat.le_of_ble_eq_true rfl) hn)
  unfold fX25_thrown at k
  refine k_of (by decide) rfl rfl rfl (ls := [(2, 143)]) rfl ?_
  refine x_aload_n 0 dX25_thrown_0 rfl rfl rfl rfl rfl ?_
  refine y_get 1087 109 (c := 23) (z := w 143 109) dX25_thrown_1 i143 rfl in_X25 q4344 rfl rfl rfl rfl rfl ?_
  exact y_iret dX25_thrown_4 rfl k
def fX25_end (w : bW) (a1 : Int) : Int := (if a1 < 0 then 0 else (if a1 ≤ w 143 111 then w 143 111 else 0))
def gX25_end (w : bW) (a1 : Int) : bW := (if a1 < 0 then (b_up w 143 109 1) else (if a1 ≤ w 143 111 then (b_up (b_up w 143 109 0) 143 111 a1) else (b_up w 143 109 1)))
theorem vX25_end {d n : Nat} {w : bW} {Q : Int → bW → Prop} {X : String → bW → Prop} (hn : 144 ≤ n) (a1 : Int) (k : Q (fX25_end w a1) (gX25_end w a1)) : b_K (d + 1) mX25_end [(2, 143), (0, a1)] n w Q X := by
  have i143 := iz143 (Nat.le_trans (Nat.le_of_ble_eq_true rfl) hn)
  unfold fX25_end gX25_end at k
  refine k_of (by decide) rfl rfl rfl (ls := [(2, 143), (0, a1), (9, 0)]) rfl ?_
  refine x_aload_n 0 dX25_end_0 rfl rfl rfl rfl rfl ?_
  refine x_iload_n 1 dX25_end_1 rfl rfl rfl ?_
  refine x_if_lt (t := 13) 11 dX25_end_2 rfl rfl (b_itq (b_tt _) k (fun hc ok k => ?_) (fun hc ok k => ?_))
  · refine x_iconst 1 (z := 1) dX25_end_13 rfl (by decide) rfl ?_
    refine x_goto 4 (q := 18) dX25_end_14 rfl ?_
    refine x_put 1087 109 (c := 23) dX25_end_18 i143 rfl in_X25 tyX25_ok nmX25 q4344 rfl rfl rfl (Or.inl rfl) (Or.inl ⟨rfl, rfl⟩) rfl ?_
    refine x_aload_n 0 dX25_end_21 rfl rfl rfl rfl rfl ?_
    refine y_get 1087 109 (c := 23) (z := 1) dX25_end_22 i143 rfl in_X25 q4344 rfl rfl rfl rfl rfl ?_
    refine x_if_le (t := 30) 5 dX25_end_25 rfl rfl (b_ifF (by decide) ?_)
    refine x_iconst 0 (z := 0) dX25_end_28 rfl (by decide) rfl ?_
    exact y_iret dX25_end_29 rfl k
  · refine x_iload_n 1 dX25_end_5 rfl rfl rfl ?_
    refine x_aload_n 0 dX25_end_6 rfl rfl rfl rfl rfl ?_
    refine y_get 1141 111 (c := 23) (z := w 143 111) dX25_end_7 i143 rfl in_X25 q4346 rfl rfl rfl rfl rfl ?_
    refine x_icmp_le (t := 17) 7 dX25_end_10 rfl rfl (b_itq (b_tt _) k (fun hc ok k => ?_) (fun hc ok k => ?_))
    · refine x_iconst 0 (z := 0) dX25_end_17 rfl (by decide) rfl ?_
      refine x_put 1087 109 (c := 23) dX25_end_18 i143 rfl in_X25 tyX25_ok nmX25 q4344 rfl rfl rfl (Or.inl rfl) (Or.inl ⟨rfl, rfl⟩) rfl ?_
      refine x_aload_n 0 dX25_end_21 rfl rfl rfl rfl rfl ?_
      refine y_get 1087 109 (c := 23) (z := 0) dX25_end_22 i143 rfl in_X25 q4344 rfl rfl rfl rfl rfl ?_
      refine x_if_le (t := 30) 5 dX25_end_25 rfl rfl (b_ifT (by decide) ?_)
      refine x_aload_n 0 dX25_end_30 rfl rfl rfl rfl rfl ?_
      refine y_get 1141 111 (c := 23) (z := w 143 111) dX25_end_31 i143 rfl in_X25 q4346 rfl rfl rfl rfl rfl ?_
      refine x_istore_n 2 (ls' := [(2, 143), (0, a1), (0, w 143 111)]) dX25_end_34 rfl rfl rfl rfl ?_
      refine x_aload_n 0 dX25_end_35 rfl rfl rfl rfl rfl ?_
      refine x_iload_n 1 dX25_end_36 rfl rfl rfl ?_
      refine x_put 1141 111 (c := 23) dX25_end_37 i143 rfl in_X25 tyX25_ok nmX25 q4346 rfl rfl rfl (Or.inl rfl) (Or.inl ⟨rfl, rfl⟩) rfl ?_
      refine x_iload_n 2 dX25_end_40 rfl rfl rfl ?_
      exact y_iret dX25_end_41 rfl k
    · refine x_iconst 1 (z := 1) dX25_end_13 rfl (by decide) rfl ?_
      refine x_goto 4 (q := 18) dX25_end_14 rfl ?_
      refine x_put 1087 109 (c := 23) dX25_end_18 i143 rfl in_X25 tyX25_ok nmX25 q4344 rfl rfl rfl (Or.inl rfl) (Or.inl ⟨rfl, rfl⟩) rfl ?_
      refine x_aload_n 0 dX25_end_21 rfl rfl rfl rfl rfl ?_
      refine y_get 1087 109 (c := 23) (z := 1) dX25_end_22 i143 rfl in_X25 q4344 rfl rfl rfl rfl rfl ?_
      refine x_if_le (t := 30) 5 dX25_end_25 rfl rfl (b_ifF (by decide) ?_)
      refine x_iconst 0 (z := 0) dX25_end_28 rfl (by decide) rfl ?_
      exact y_iret dX25_end_29 rfl k
def fX25_place (w : bW) : Int := w 143 112
def gX25_place (w : bW) : bW := (b_up w 143 109 0)
theorem vX25_place {d n : Nat} {w : bW} {Q : Int → bW → Prop} {X : String → bW → Prop} (hn : 144 ≤ n) (k : Q (fX25_place w) (gX25_place w)) : b_K (d + 1) mX25_place [(2, 143)] n w Q X := by
  have i143 := iz143 (Nat.le_trans (Nat.le_of_ble_eq_true rfl) hn)
  unfold fX25_place gX25_place at k
  refine k_of (by decide) rfl rfl rfl (ls := [(2, 143)]) rfl ?_
  refine x_aload_n 0 dX25_place_0 rfl rfl rfl rfl rfl ?_
  refine x_iconst 0 (z := 0) dX25_place_1 rfl (by decide) rfl ?_
  refine x_put 1087 109 (c := 23) dX25_place_2 i143 rfl in_X25 tyX25_ok nmX25 q4344 rfl rfl rfl (Or.inl rfl) (Or.inl ⟨rfl, rfl⟩) rfl ?_
  refine x_aload_n 0 dX25_place_5 rfl rfl rfl rfl rfl ?_
  refine y_get 1047 112 (c := 23) (z := w 143 112) dX25_place_6 i143 rfl in_X25 q4347 rfl rfl rfl rfl rfl ?_
  exact y_iret dX25_place_9 rfl k
def fX25_account (w : bW) (a1 : Int) : Int := (if a1 < 0 then (-1) else (if w 143 65 = 100 then (-1) else (if a1 ≤ b_l (4611686018427387904 - (w 143 76)) then b_i ((b_i ((w 143 65) + 1)) - 1) else (-1))))
def gX25_account (w : bW) (a1 : Int) : bW := (if a1 < 0 then (b_up w 143 109 0) else (if w 143 65 = 100 then (b_up w 143 109 0) else (if a1 ≤ b_l (4611686018427387904 - (w 143 76)) then (b_up (b_up (b_up (b_up w 143 109 0) 231 (w 143 65) a1) 143 76 (b_l ((w 143 76) + a1))) 143 65 (b_i ((w 143 65) + 1))) else (b_up w 143 109 0))))
def oX25_account (n : Nat) (w : bW) (a1 : Int) : Prop := if a1 < 0 then True else (if w 143 65 = 100 then True else (if a1 ≤ b_l (4611686018427387904 - (w 143 76)) then ((0 ≤ w 143 65 ∧ w 143 65 < 100) ∧ (True)) else True))
theorem vX25_account {d n : Nat} {w : bW} {Q : Int → bW → Prop} {X : String → bW → Prop} (hn : 254 ≤ n) (a1 : Int) (ok : oX25_account n w a1) (k : Q (fX25_account w a1) (gX25_account w a1)) : b_K (d + 1) mX25_account [(2, 143), (1, a1)] n w Q X := by
  have i143 := iz143 (Nat.le_trans (Nat.le_of_ble_eq_true rfl) hn)
  have i231 := iz231 (Nat.le_trans (Nat.le_of_ble_eq_true rfl) hn)
  unfold fX25_account gX25_account at k
  unfold oX25_account at ok
  refine k_of (by decide) rfl rfl rfl (ls := [(2, 143), (1, a1), (9, 0)]) rfl ?_
  refine x_aload_n 0 dX25_account_0 rfl rfl rfl rfl rfl ?_
  refine x_iconst 0 (z := 0) dX25_account_1 rfl (by decide) rfl ?_
  refine x_put 1087 109 (c := 23) dX25_account_2 i143 rfl in_X25 tyX25_ok nmX25 q4344 rfl rfl rfl (Or.inl rfl) (Or.inl ⟨rfl, rfl⟩) rfl ?_
  refine x_lload_n 1 dX25_account_5 rfl rfl rfl ?_
  refine x_lconst 0 (z := 0) dX25_account_6 rfl (by decide) rfl ?_
  refine x_lc_lt (q := 11) (t := 33) 25 dX25_account_7 dX25_account_8 rfl rfl (b_itq ok k (fun hc ok k => ?_) (fun hc ok k => ?_))
  · refine x_iconst (-1) (z := (-1)) dX25_account_33 rfl (by decide) rfl ?_
    exact y_iret dX25_account_34 rfl k
  · refine x_aload_n 0 dX25_account_11 rfl rfl rfl rfl rfl ?_
    refine y_get 888 65 (c := 23) (z := w 143 65) dX25_account_12 i143 rfl in_X25 q4300 rfl rfl rfl rfl rfl ?_
    refine x_bipush 100 (z := 100) dX25_account_15 rfl (by decide) rfl ?_
    refine x_icmp_eq (t := 33) 16 dX25_account_17 rfl rfl (b_itq ok k (fun hc ok k => ?_) (fun hc ok k => ?_))
    · refine x_iconst (-1) (z := (-1)) dX25_account_33 rfl (by decide) rfl ?_
      exact y_iret dX25_account_34 rfl k
    · refine x_lload_n 1 dX25_account_20 rfl rfl rfl ?_
      refine x_ldc2 1154 (x := 4611686018427387904) dX25_account_21 q4621 rfl (by decide) rfl ?_
      refine x_aload_n 0 dX25_account_24 rfl rfl rfl rfl rfl ?_
      refine y_get 1156 76 (c := 23) (z := w 143 76) dX25_account_25 i143 rfl in_X25 q4311 rfl rfl rfl rfl rfl ?_
      refine x_lsub dX25_account_28 rfl ?_
      refine x_lc_le (q := 33) (t := 35) 5 dX25_account_29 dX25_account_30 rfl rfl (b_itq ok k (fun hc ok k => ?_) (fun hc ok k => ?_))
      · refine x_aload_n 0 dX25_account_35 rfl rfl rfl rfl rfl ?_
        refine y_getF 946 66 (c := 23) (z := 231) dX25_account_36 i143 rfl in_X25 q4301 rfl rfl rfl fn_143_66 (Nat.le_trans (Nat.le_of_ble_eq_true rfl) hn) rfl ?_
        refine x_aload_n 0 dX25_account_39 rfl rfl rfl rfl rfl ?_
        refine y_get 888 65 (c := 23) (z := w 143 65) dX25_account_40 i143 rfl in_X25 q4300 rfl rfl rfl rfl rfl ?_
        refine x_lload_n 1 dX25_account_43 rfl rfl rfl ?_
        obtain ⟨e1, ok⟩ := ok
        refine y_last (x' := a1) dX25_account_44 ⟨100, i231, e1⟩ rfl rfl ?_
        refine x_aload_n 0 dX25_account_45 rfl rfl rfl rfl rfl ?_
        refine x_dup dX25_account_46 rfl rfl ?_
        refine y_get 1156 76 (c := 23) (z := w 143 76) dX25_account_47 i143 rfl in_X25 q4311 rfl rfl rfl rfl rfl ?_
        refine x_lload_n 1 dX25_account_50 rfl rfl rfl ?_
        refine x_ladd dX25_account_51 rfl ?_
        refine x_put 1156 76 (c := 23) dX25_account_52 i143 rfl in_X25 tyX25_ok nmX25 q4311 rfl rfl rfl (Or.inl rfl) (Or.inr (Or.inr (Or.inl ⟨rfl, rfl⟩))) rfl ?_
        refine x_aload_n 0 dX25_account_55 rfl rfl rfl rfl rfl ?_
        refine x_dup dX25_account_56 rfl rfl ?_
        refine y_get 888 65 (c := 23) (z := w 143 65) dX25_account_57 i143 rfl in_X25 q4300 rfl rfl rfl rfl rfl ?_
        refine x_iconst 1 (z := 1) dX25_account_60 rfl (by decide) rfl ?_
        refine x_iadd dX25_account_61 rfl ?_
        refine x_put 888 65 (c := 23) dX25_account_62 i143 rfl in_X25 tyX25_ok nmX25 q4300 rfl rfl rfl (Or.inl rfl) (Or.inl ⟨rfl, rfl⟩) rfl ?_
        refine x_aload_n 0 dX25_account_65 rfl rfl rfl rfl rfl ?_
        refine y_get 888 65 (c := 23) (z := b_i ((w 143 65) + 1)) dX25_account_66 i143 rfl in_X25 q4300 rfl rfl rfl rfl rfl ?_
        refine x_iconst 1 (z := 1) dX25_account_69 rfl (by decide) rfl ?_
        refine x_isub dX25_account_70 rfl ?_
        exact y_iret dX25_account_71 rfl k
      · refine x_iconst (-1) (z := (-1)) dX25_account_33 rfl (by decide) rfl ?_
        exact y_iret dX25_account_34 rfl k
def fX25_now (w : bW) (a1 : Int) (a3 : Int) : Int := (if a1 < (-1152921504606846976) then 0 else (if 1152921504606846976 < a1 then 0 else (if a3 < 0 then 0 else (if a3 ≤ 1073741824 then 1 else 0))))
def gX25_now (w : bW) (a1 : Int) (a3 : Int) : bW := (if a1 < (-1152921504606846976) then (b_up w 143 109 0) else (if 1152921504606846976 < a1 then (b_up w 143 109 0) else (if a3 < 0 then (b_up w 143 109 0) else (if a3 ≤ 1073741824 then (b_up (b_up (b_up w 143 109 0) 143 79 a1) 143 80 a3) else (b_up w 143 109 0)))))
theorem vX25_now {d n : Nat} {w : bW} {Q : Int → bW → Prop} {X : String → bW → Prop} (hn : 144 ≤ n) (a1 : Int) (a3 : Int) (k : Q (fX25_now w a1 a3) (gX25_now w a1 a3)) : b_K (d + 1) mX25_now [(2, 143), (1, a1), (0, a3)] n w Q X := by
  have i143 := iz143 (Nat.le_trans (Nat.le_of_ble_eq_true rfl) hn)
  unfold fX25_now gX25_now at k
  refine k_of (by decide) rfl rfl rfl (ls := [(2, 143), (1, a1), (9, 0), (0, a3)]) rfl ?_
  refine x_aload_n 0 dX25_now_0 rfl rfl rfl rfl rfl ?_
  refine x_iconst 0 (z := 0) dX25_now_1 rfl (by decide) rfl ?_
  refine x_put 1087 109 (c := 23) dX25_now_2 i143 rfl in_X25 tyX25_ok nmX25 q4344 rfl rfl rfl (Or.inl rfl) (Or.inl ⟨rfl, rfl⟩) rfl ?_
  refine x_lload_n 1 dX25_now_5 rfl rfl rfl ?_
  refine x_ldc2 1159 (x := (-1152921504606846976)) dX25_now_6 q4626 rfl (by decide) rfl ?_
  refine x_lc_lt (q := 13) (t := 32) 22 dX25_now_9 dX25_now_10 rfl rfl (b_itq (b_tt _) k (fun hc ok k => ?_) (fun hc ok k => ?_))
  · refine x_iconst 0 (z := 0) dX25_now_32 rfl (by decide) rfl ?_
    exact y_zret dX25_now_33 rfl (by decide) k
  · refine x_lload_n 1 dX25_now_13 rfl rfl rfl ?_
    refine x_ldc2 1161 (x := 1152921504606846976) dX25_now_14 q4627 rfl (by decide) rfl ?_
    refine x_lc_gt (q := 21) (t := 32) 14 dX25_now_17 dX25_now_18 rfl rfl (b_itq (b_tt _) k (fun hc ok k => ?_) (fun hc ok k => ?_))
    · refine x_iconst 0 (z := 0) dX25_now_32 rfl (by decide) rfl ?_
      exact y_zret dX25_now_33 rfl (by decide) k
    · refine x_iload_n 3 dX25_now_21 rfl rfl rfl ?_
      refine x_if_lt (t := 32) 10 dX25_now_22 rfl rfl (b_itq (b_tt _) k (fun hc ok k => ?_) (fun hc ok k => ?_))
      · refine x_iconst 0 (z := 0) dX25_now_32 rfl (by decide) rfl ?_
        exact y_zret dX25_now_33 rfl (by decide) k
      · refine x_iload_n 3 dX25_now_25 rfl rfl rfl ?_
        refine x_ldcw 1163 (x := 1073741824) dX25_now_26 q4628 rfl (by decide) rfl ?_
        refine x_icmp_le (t := 34) 5 dX25_now_29 rfl rfl (b_itq (b_tt _) k (fun hc ok k => ?_) (fun hc ok k => ?_))
        · refine x_aload_n 0 dX25_now_34 rfl rfl rfl rfl rfl ?_
          refine x_lload_n 1 dX25_now_35 rfl rfl rfl ?_
          refine x_put 873 79 (c := 23) dX25_now_36 i143 rfl in_X25 tyX25_ok nmX25 q4314 rfl rfl rfl (Or.inl rfl) (Or.inr (Or.inr (Or.inl ⟨rfl, rfl⟩))) rfl ?_
          refine x_aload_n 0 dX25_now_39 rfl rfl rfl rfl rfl ?_
          refine x_iload_n 3 dX25_now_40 rfl rfl rfl ?_
          refine x_put 876 80 (c := 23) dX25_now_41 i143 rfl in_X25 tyX25_ok nmX25 q4315 rfl rfl rfl (Or.inl rfl) (Or.inl ⟨rfl, rfl⟩) rfl ?_
          refine x_iconst 1 (z := 1) dX25_now_44 rfl (by decide) rfl ?_
          exact y_zret dX25_now_45 rfl (by decide) k
        · refine x_iconst 0 (z := 0) dX25_now_32 rfl (by decide) rfl ?_
          exact y_zret dX25_now_33 rfl (by decide) k
def fX25_batch (w : bW) (a1 : Int) (a2 : Int) : Int := (if a1 < 0 then 0 else (if a1 < w 143 65 then 1 else 0))
def gX25_batch (w : bW) (a1 : Int) (a2 : Int) : bW := (if a1 < 0 then (b_up w 143 109 0) else (if a1 < w 143 65 then (b_up (b_up (b_up (b_up (b_up (b_up (b_up w 143 109 0) 143 88 a1) 143 89 a2) 143 90 0) 143 91 0) 143 92 0) 143 93 0) else (b_up w 143 109 0)))
theorem vX25_batch {d n : Nat} {w : bW} {Q : Int → bW → Prop} {X : String → bW → Prop} (hn : 144 ≤ n) (a1 : Int) (a2 : Int) (k : Q (fX25_batch w a1 a2) (gX25_batch w a1 a2)) : b_K (d + 1) mX25_batch [(2, 143), (0, a1), (0, a2)] n w Q X := by
  have i143 := iz143 (Nat.le_trans (Nat.le_of_ble_eq_true rfl) hn)
  unfold fX25_batch gX25_batch at k
  refine k_of (by decide) rfl rfl rfl (ls := [(2, 143), (0, a1), (0, a2)]) rfl ?_
  refine x_aload_n 0 dX25_batch_0 rfl rfl rfl rfl rfl ?_
  refine x_iconst 0 (z := 0) dX25_batch_1 rfl (by decide) rfl ?_
  refine x_put 1087 109 (c := 23) dX25_batch_2 i143 rfl in_X25 tyX25_ok nmX25 q4344 rfl rfl rfl (Or.inl rfl) (Or.inl ⟨rfl, rfl⟩) rfl ?_
  refine x_iload_n 1 dX25_batch_5 rfl rfl rfl ?_
  refine x_if_lt (t := 17) 11 dX25_batch_6 rfl rfl (b_itq (b_tt _) k (fun hc ok k => ?_) (fun hc ok k => ?_))
  · refine x_iconst 0 (z := 0) dX25_batch_17 rfl (by decide) rfl ?_
    exact y_zret dX25_batch_18 rfl (by decide) k
  · refine x_iload_n 1 dX25_batch_9 rfl rfl rfl ?_
    refine x_aload_n 0 dX25_batch_10 rfl rfl rfl rfl rfl ?_
    refine y_get 888 65 (c := 23) (z := w 143 65) dX25_batch_11 i143 rfl in_X25 q4300 rfl rfl rfl rfl rfl ?_
    refine x_icmp_lt (t := 19) 5 dX25_batch_14 rfl rfl (b_itq (b_tt _) k (fun hc ok k => ?_) (fun hc ok k => ?_))
    · refine x_aload_n 0 dX25_batch_19 rfl rfl rfl rfl rfl ?_
      refine x_iload_n 1 dX25_batch_20 rfl rfl rfl ?_
      refine x_put 867 88 (c := 23) dX25_batch_21 i143 rfl in_X25 tyX25_ok nmX25 q4323 rfl rfl rfl (Or.inl rfl) (Or.inl ⟨rfl, rfl⟩) rfl ?_
      refine x_aload_n 0 dX25_batch_24 rfl rfl rfl rfl rfl ?_
      refine x_iload_n 2 dX25_batch_25 rfl rfl rfl ?_
      refine x_put 1096 89 (c := 23) dX25_batch_26 i143 rfl in_X25 tyX25_ok nmX25 q4324 rfl rfl rfl (Or.inl rfl) (Or.inl ⟨rfl, rfl⟩) rfl ?_
      refine x_aload_n 0 dX25_batch_29 rfl rfl rfl rfl rfl ?_
      refine x_iconst 0 (z := 0) dX25_batch_30 rfl (by decide) rfl ?_
      refine x_put 1090 90 (c := 23) dX25_batch_31 i143 rfl in_X25 tyX25_ok nmX25 q4325 rfl rfl rfl (Or.inl rfl) (Or.inl ⟨rfl, rfl⟩) rfl ?_
      refine x_aload_n 0 dX25_batch_34 rfl rfl rfl rfl rfl ?_
      refine x_lconst 0 (z := 0) dX25_batch_35 rfl (by decide) rfl ?_
      refine x_put 1164 91 (c := 23) dX25_batch_36 i143 rfl in_X25 tyX25_ok nmX25 q4326 rfl rfl rfl (Or.inl rfl) (Or.inr (Or.inr (Or.inl ⟨rfl, rfl⟩))) rfl ?_
      refine x_aload_n 0 dX25_batch_39 rfl rfl rfl rfl rfl ?_
      refine x_iconst 0 (z := 0) dX25_batch_40 rfl (by decide) rfl ?_
      refine x_put 1167 92 (c := 23) dX25_batch_41 i143 rfl in_X25 tyX25_ok nmX25 q4327 rfl rfl rfl (Or.inl rfl) (Or.inl ⟨rfl, rfl⟩) rfl ?_
      refine x_aload_n 0 dX25_batch_44 rfl rfl rfl rfl rfl ?_
      refine x_iconst 0 (z := 0) dX25_batch_45 rfl (by decide) rfl ?_
      refine x_put 1170 93 (c := 23) dX25_batch_46 i143 rfl in_X25 tyX25_ok nmX25 q4328 rfl rfl rfl (Or.inl rfl) (Or.inl ⟨rfl, rfl⟩) rfl ?_
      refine x_iconst 1 (z := 1) dX25_batch_49 rfl (by decide) rfl ?_
      exact y_zret dX25_batch_50 rfl (by decide) k
    · refine x_iconst 0 (z := 0) dX25_batch_17 rfl (by decide) rfl ?_
      exact y_zret dX25_batch_18 rfl (by decide) k
def fX25_limits (w : bW) (a1 : Int) (a3 : Int) (a4 : Int) : Int := (if w 143 88 < 0 then 0 else (if a1 < 0 then 0 else (if 1125899906842624 < a1 then 0 else (if a3 < 0 then 0 else (if 100000 < a3 then 0 else (if a4 < 0 then 0 else (if a4 ≤ 100000 then 1 else 0)))))))
def gX25_limits (w : bW) (a1 : Int) (a3 : Int) (a4 : Int) : bW := (if w 143 88 < 0 then (b_up w 143 109 0) else (if a1 < 0 then (b_up w 143 109 0) else (if 1125899906842624 < a1 then (b_up w 143 109 0) else (if a3 < 0 then (b_up w 143 109 0) else (if 100000 < a3 then (b_up w 143 109 0) else (if a4 < 0 then (b_up w 143 109 0) else (if a4 ≤ 100000 then (b_up (b_up (b_up (b_up w 143 109 0) 143 91 a1) 143 92 a3) 143 93 a4) else (b_up w 143 109 0))))))))
theorem vX25_limits {d n : Nat} {w : bW} {Q : Int → bW → Prop} {X : String → bW → Prop} (hn : 144 ≤ n) (a1 : Int) (a3 : Int) (a4 : Int) (k : Q (fX25_limits w a1 a3 a4) (gX25_limits w a1 a3 a4)) : b_K (d + 1) mX25_limits [(2, 143), (1, a1), (0, a3), (0, a4)] n w Q X := by
  have i143 := iz143 (Nat.le_trans (Nat.le_of_ble_eq_true rfl) hn)
  unfold fX25_limits gX25_limits at k
  refine k_of (by decide) rfl rfl rfl (ls := [(2, 143), (1, a1), (9, 0), (0, a3), (0, a4)]) rfl ?_
  refine x_aload_n 0 dX25_limits_0 rfl rfl rfl rfl rfl ?_
  refine x_iconst 0 (z := 0) dX25_limits_1 rfl (by decide) rfl ?_
  refine x_put 1087 109 (c := 23) dX25_limits_2 i143 rfl in_X25 tyX25_ok nmX25 q4344 rfl rfl rfl (Or.inl rfl) (Or.inl ⟨rfl, rfl⟩) rfl ?_
  refine x_aload_n 0 dX25_limits_5 rfl rfl rfl rfl rfl ?_
  refine y_get 867 88 (c := 23) (z := w 143 88) dX25_limits_6 i143 rfl in_X25 q4323 rfl rfl rfl rfl rfl ?_
  refine x_if_lt (t := 50) 41 dX25_limits_9 rfl rfl (b_itq (b_tt _) k (fun hc ok k => ?_) (fun hc ok k => ?_))
  · refine x_iconst 0 (z := 0) dX25_limits_50 rfl (by decide) rfl ?_
    exact y_zret dX25_limits_51 rfl (by decide) k
  · refine x_lload_n 1 dX25_limits_12 rfl rfl rfl ?_
    refine x_lconst 0 (z := 0) dX25_limits_13 rfl (by decide) rfl ?_
    refine x_lc_lt (q := 18) (t := 50) 35 dX25_limits_14 dX25_limits_15 rfl rfl (b_itq (b_tt _) k (fun hc ok k => ?_) (fun hc ok k => ?_))
    · refine x_iconst 0 (z := 0) dX25_limits_50 rfl (by decide) rfl ?_
      exact y_zret dX25_limits_51 rfl (by decide) k
    · refine x_lload_n 1 dX25_limits_18 rfl rfl rfl ?_
      refine x_ldc2 1173 (x := 1125899906842624) dX25_limits_19 q4637 rfl (by decide) rfl ?_
      refine x_lc_gt (q := 26) (t := 50) 27 dX25_limits_22 dX25_limits_23 rfl rfl (b_itq (b_tt _) k (fun hc ok k => ?_) (fun hc ok k => ?_))
      · refine x_iconst 0 (z := 0) dX25_limits_50 rfl (by decide) rfl ?_
        exact y_zret dX25_limits_51 rfl (by decide) k
      · refine x_iload_n 3 dX25_limits_26 rfl rfl rfl ?_
        refine x_if_lt (t := 50) 23 dX25_limits_27 rfl rfl (b_itq (b_tt _) k (fun hc ok k => ?_) (fun hc ok k => ?_))
        · refine x_iconst 0 (z := 0) dX25_limits_50 rfl (by decide) rfl ?_
          exact y_zret dX25_limits_51 rfl (by decide) k
        · refine x_iload_n 3 dX25_limits_30 rfl rfl rfl ?_
          refine x_ldcw 1175 (x := 100000) dX25_limits_31 q4638 rfl (by decide) rfl ?_
          refine x_icmp_gt (t := 50) 16 dX25_limits_34 rfl rfl (b_itq (b_tt _) k (fun hc ok k => ?_) (fun hc ok k => ?_))
          · refine x_iconst 0 (z := 0) dX25_limits_50 rfl (by decide) rfl ?_
            exact y_zret dX25_limits_51 rfl (by decide) k
          · refine x_iload 4 dX25_limits_37 rfl rfl ?_
            refine x_if_lt (t := 50) 11 dX25_limits_39 rfl rfl (b_itq (b_tt _) k (fun hc ok k => ?_) (fun hc ok k => ?_))
            · refine x_iconst 0 (z := 0) dX25_limits_50 rfl (by decide) rfl ?_
              exact y_zret dX25_limits_51 rfl (by decide) k
            · refine x_iload 4 dX25_limits_42 rfl rfl ?_
              refine x_ldcw 1175 (x := 100000) dX25_limits_44 q4638 rfl (by decide) rfl ?_
              refine x_icmp_le (t := 52) 5 dX25_limits_47 rfl rfl (b_itq (b_tt _) k (fun hc ok k => ?_) (fun hc ok k => ?_))
              · refine x_aload_n 0 dX25_limits_52 rfl rfl rfl rfl rfl ?_
                refine x_lload_n 1 dX25_limits_53 rfl rfl rfl ?_
                refine x_put 1164 91 (c := 23) dX25_limits_54 i143 rfl in_X25 tyX25_ok nmX25 q4326 rfl rfl rfl (Or.inl rfl) (Or.inr (Or.inr (Or.inl ⟨rfl, rfl⟩))) rfl ?_
                refine x_aload_n 0 dX25_limits_57 rfl rfl rfl rfl rfl ?_
                refine x_iload_n 3 dX25_limits_58 rfl rfl rfl ?_
                refine x_put 1167 92 (c := 23) dX25_limits_59 i143 rfl in_X25 tyX25_ok nmX25 q4327 rfl rfl rfl (Or.inl rfl) (Or.inl ⟨rfl, rfl⟩) rfl ?_
                refine x_aload_n 0 dX25_limits_62 rfl rfl rfl rfl rfl ?_
                refine x_iload 4 dX25_limits_63 rfl rfl ?_
                refine x_put 1170 93 (c := 23) dX25_limits_65 i143 rfl in_X25 tyX25_ok nmX25 q4328 rfl rfl rfl (Or.inl rfl) (Or.inl ⟨rfl, rfl⟩) rfl ?_
                refine x_iconst 1 (z := 1) dX25_limits_68 rfl (by decide) rfl ?_
                exact y_zret dX25_limits_69 rfl (by decide) k
              · refine x_iconst 0 (z := 0) dX25_limits_50 rfl (by decide) rfl ?_
                exact y_zret dX25_limits_51 rfl (by decide) k
def fX25_receipt (w : bW) (a1 : Int) (a2 : Int) : Int := (if a1 < 0 then (-1) else (if w 143 107 ≤ a1 then (-1) else (if a2 < 0 then (-1) else (if a2 ≤ 5 then w 251 (b_i ((b_i (6 * a1)) + a2)) else (-1)))))
def gX25_receipt (w : bW) (a1 : Int) (a2 : Int) : bW := (b_up w 143 109 0)
def oX25_receipt (n : Nat) (w : bW) (a1 : Int) (a2 : Int) : Prop := if a1 < 0 then True else (if w 143 107 ≤ a1 then True else (if a2 < 0 then True else (if a2 ≤ 5 then ((0 ≤ b_i ((b_i (6 * a1)) + a2) ∧ b_i ((b_i (6 * a1)) + a2) < 96) ∧ (True)) else True)))
theorem vX25_receipt {d n : Nat} {w : bW} {Q : Int → bW → Prop} {X : String → bW → Prop} (hn : 254 ≤ n) (a1 : Int) (a2 : Int) (ok : oX25_receipt n w a1 a2) (k : Q (fX25_receipt w a1 a2) (gX25_receipt w a1 a2)) : b_K (d + 1) mX25_receipt [(2, 143), (0, a1), (0, a2)] n w Q X := by
  have i143 := iz143 (Nat.le_trans (Nat.le_of_ble_eq_true rfl) hn)
  have i251 := iz251 (Nat.le_trans (Nat.le_of_ble_eq_true rfl) hn)
  unfold fX25_receipt gX25_receipt at k
  unfold oX25_receipt at ok
  refine k_of (by decide) rfl rfl rfl (ls := [(2, 143), (0, a1), (0, a2)]) rfl ?_
  refine x_aload_n 0 dX25_receipt_0 rfl rfl rfl rfl rfl ?_
  refine x_iconst 0 (z := 0) dX25_receipt_1 rfl (by decide) rfl ?_
  refine x_put 1087 109 (c := 23) dX25_receipt_2 i143 rfl in_X25 tyX25_ok nmX25 q4344 rfl rfl rfl (Or.inl rfl) (Or.inl ⟨rfl, rfl⟩) rfl ?_
  refine x_iload_n 1 dX25_receipt_5 rfl rfl rfl ?_
  refine x_if_lt (t := 26) 20 dX25_receipt_6 rfl rfl (b_itqv ok k (fun hc ok k => ?_) (fun hc ok k => ?_))
  · refine x_iconst (-1) (z := (-1)) dX25_receipt_26 rfl (by decide) rfl ?_
    refine x_goto 14 (q := 41) dX25_receipt_27 rfl ?_
    exact y_iret dX25_receipt_41 rfl k
  · refine x_iload_n 1 dX25_receipt_9 rfl rfl rfl ?_
    refine x_aload_n 0 dX25_receipt_10 rfl rfl rfl rfl rfl ?_
    refine y_get 1108 107 (c := 23) (z := w 143 107) dX25_receipt_11 i143 rfl in_X25 q4342 rfl rfl rfl rfl rfl ?_
    refine x_icmp_ge (t := 26) 12 dX25_receipt_14 rfl rfl (b_itqv ok k (fun hc ok k => ?_) (fun hc ok k => ?_))
    · refine x_iconst (-1) (z := (-1)) dX25_receipt_26 rfl (by decide) rfl ?_
      refine x_goto 14 (q := 41) dX25_receipt_27 rfl ?_
      exact y_iret dX25_receipt_41 rfl k
    · refine x_iload_n 2 dX25_receipt_17 rfl rfl rfl ?_
      refine x_if_lt (t := 26) 8 dX25_receipt_18 rfl rfl (b_itqv ok k (fun hc ok k => ?_) (fun hc ok k => ?_))
      · refine x_iconst (-1) (z := (-1)) dX25_receipt_26 rfl (by decide) rfl ?_
        refine x_goto 14 (q := 41) dX25_receipt_27 rfl ?_
        exact y_iret dX25_receipt_41 rfl k
      · refine x_iload_n 2 dX25_receipt_21 rfl rfl rfl ?_
        refine x_iconst 5 (z := 5) dX25_receipt_22 rfl (by decide) rfl ?_
        refine x_icmp_le (t := 30) 7 dX25_receipt_23 rfl rfl (b_itqv ok k (fun hc ok k => ?_) (fun hc ok k => ?_))
        · refine x_aload_n 0 dX25_receipt_30 rfl rfl rfl rfl rfl ?_
          refine y_getF 1111 108 (c := 23) (z := 251) dX25_receipt_31 i143 rfl in_X25 q4343 rfl rfl rfl fn_143_108 (Nat.le_trans (Nat.le_of_ble_eq_true rfl) hn) rfl ?_
          refine x_bipush 6 (z := 6) dX25_receipt_34 rfl (by decide) rfl ?_
          refine x_iload_n 1 dX25_receipt_36 rfl rfl rfl ?_
          refine x_imul dX25_receipt_37 rfl ?_
          refine x_iload_n 2 dX25_receipt_38 rfl rfl rfl ?_
          refine x_iadd dX25_receipt_39 rfl ?_
          obtain ⟨e1, ok⟩ := ok
          refine y_iald (z := w 251 (b_i ((b_i (6 * a1)) + a2))) dX25_receipt_40 ⟨96, i251, e1⟩ rfl rfl ?_
          exact y_iret dX25_receipt_41 rfl k
        · refine x_iconst (-1) (z := (-1)) dX25_receipt_26 rfl (by decide) rfl ?_
          refine x_goto 14 (q := 41) dX25_receipt_27 rfl ?_
          exact y_iret dX25_receipt_41 rfl k
def fX25_accounts (w : bW) : Int := w 143 65
def gX25_accounts (w : bW) : bW := (b_up w 143 109 0)
theorem vX25_accounts {d n : Nat} {w : bW} {Q : Int → bW → Prop} {X : String → bW → Prop} (hn : 144 ≤ n) (k : Q (fX25_accounts w) (gX25_accounts w)) : b_K (d + 1) mX25_accounts [(2, 143)] n w Q X := by
  have i143 := iz143 (Nat.le_trans (Nat.le_of_ble_eq_true rfl) hn)
  unfold fX25_accounts gX25_accounts at k
  refine k_of (by decide) rfl rfl rfl (ls := [(2, 143)]) rfl ?_
  refine x_aload_n 0 dX25_accounts_0 rfl rfl rfl rfl rfl ?_
  refine x_iconst 0 (z := 0) dX25_accounts_1 rfl (by decide) rfl ?_
  refine x_put 1087 109 (c := 23) dX25_accounts_2 i143 rfl in_X25 tyX25_ok nmX25 q4344 rfl rfl rfl (Or.inl rfl) (Or.inl ⟨rfl, rfl⟩) rfl ?_
  refine x_aload_n 0 dX25_accounts_5 rfl rfl rfl rfl rfl ?_
  refine y_get 888 65 (c := 23) (z := w 143 65) dX25_accounts_6 i143 rfl in_X25 q4300 rfl rfl rfl rfl rfl ?_
  exact y_iret dX25_accounts_9 rfl k
def fX25_contracts (w : bW) : Int := w 143 68
def gX25_contracts (w : bW) : bW := (b_up w 143 109 0)
theorem vX25_contracts {d n : Nat} {w : bW} {Q : Int → bW → Prop} {X : String → bW → Prop} (hn : 144 ≤ n) (k : Q (fX25_contracts w) (gX25_contracts w)) : b_K (d + 1) mX25_contracts [(2, 143)] n w Q X := by
  have i143 := iz143 (Nat.le_trans (Nat.le_of_ble_eq_true rfl) hn)
  unfold fX25_contracts gX25_contracts at k
  refine k_of (by decide) rfl rfl rfl (ls := [(2, 143)]) rfl ?_
  refine x_aload_n 0 dX25_contracts_0 rfl rfl rfl rfl rfl ?_
  refine x_iconst 0 (z := 0) dX25_contracts_1 rfl (by decide) rfl ?_
  refine x_put 1087 109 (c := 23) dX25_contracts_2 i143 rfl in_X25 tyX25_ok nmX25 q4344 rfl rfl rfl (Or.inl rfl) (Or.inl ⟨rfl, rfl⟩) rfl ?_
  refine x_aload_n 0 dX25_contracts_5 rfl rfl rfl rfl rfl ?_
  refine y_get 891 68 (c := 23) (z := w 143 68) dX25_contracts_6 i143 rfl in_X25 q4303 rfl rfl rfl rfl rfl ?_
  exact y_iret dX25_contracts_9 rfl k
def fX25_isContract (w : bW) (a1 : Int) : Int := (if a1 < 0 then 0 else (if w 143 68 ≤ a1 then 0 else (if w 233 a1 = 0 then 0 else 1)))
def gX25_isContract (w : bW) (a1 : Int) : bW := (b_up w 143 109 0)
def oX25_isContract (n : Nat) (w : bW) (a1 : Int) : Prop := if a1 < 0 then True else (if w 143 68 ≤ a1 then True else ((0 ≤ a1 ∧ a1 < 100) ∧ (True)))
theorem vX25_isContract {d n : Nat} {w : bW} {Q : Int → bW → Prop} {X : String → bW → Prop} (hn : 254 ≤ n) (a1 : Int) (ok : oX25_isContract n w a1) (k : Q (fX25_isContract w a1) (gX25_isContract w a1)) : b_K (d + 1) mX25_isContract [(2, 143), (0, a1)] n w Q X := by
  have i143 := iz143 (Nat.le_trans (Nat.le_of_ble_eq_true rfl) hn)
  have i233 := iz233 (Nat.le_trans (Nat.le_of_ble_eq_true rfl) hn)
  unfold fX25_isContract gX25_isContract at k
  unfold oX25_isContract at ok
  refine k_of (by decide) rfl rfl rfl (ls := [(2, 143), (0, a1)]) rfl ?_
  refine x_aload_n 0 dX25_isContract_0 rfl rfl rfl rfl rfl ?_
  refine x_iconst 0 (z := 0) dX25_isContract_1 rfl (by decide) rfl ?_
  refine x_put 1087 109 (c := 23) dX25_isContract_2 i143 rfl in_X25 tyX25_ok nmX25 q4344 rfl rfl rfl (Or.inl rfl) (Or.inl ⟨rfl, rfl⟩) rfl ?_
  refine x_iload_n 1 dX25_isContract_5 rfl rfl rfl ?_
  refine x_if_lt (t := 30) 24 dX25_isContract_6 rfl rfl (b_itqv ok k (fun hc ok k => ?_) (fun hc ok k => ?_))
  · refine x_iconst 0 (z := 0) dX25_isContract_30 rfl (by decide) rfl ?_
    exact y_zret dX25_isContract_31 rfl (by decide) k
  · refine x_iload_n 1 dX25_isContract_9 rfl rfl rfl ?_
    refine x_aload_n 0 dX25_isContract_10 rfl rfl rfl rfl rfl ?_
    refine y_get 891 68 (c := 23) (z := w 143 68) dX25_isContract_11 i143 rfl in_X25 q4303 rfl rfl rfl rfl rfl ?_
    refine x_icmp_ge (t := 30) 16 dX25_isContract_14 rfl rfl (b_itqv ok k (fun hc ok k => ?_) (fun hc ok k => ?_))
    · refine x_iconst 0 (z := 0) dX25_isContract_30 rfl (by decide) rfl ?_
      exact y_zret dX25_isContract_31 rfl (by decide) k
    · refine x_aload_n 0 dX25_isContract_17 rfl rfl rfl rfl rfl ?_
      refine y_getF 894 69 (c := 23) (z := 233) dX25_isContract_18 i143 rfl in_X25 q4304 rfl rfl rfl fn_143_69 (Nat.le_trans (Nat.le_of_ble_eq_true rfl) hn) rfl ?_
      refine x_iload_n 1 dX25_isContract_21 rfl rfl rfl ?_
      obtain ⟨e1, ok⟩ := ok
      refine y_zald (z := w 233 a1) dX25_isContract_22 ⟨100, i233, e1⟩ rfl rfl ?_
      refine x_if_eq (t := 30) 7 dX25_isContract_23 rfl rfl (b_itqv (b_tt _) k (fun hc ok k => ?_) (fun hc ok k => ?_))
      · refine x_iconst 0 (z := 0) dX25_isContract_30 rfl (by decide) rfl ?_
        exact y_zret dX25_isContract_31 rfl (by decide) k
      · refine x_iconst 1 (z := 1) dX25_isContract_26 rfl (by decide) rfl ?_
        refine x_goto 4 (q := 31) dX25_isContract_27 rfl ?_
        exact y_zret dX25_isContract_31 rfl (by decide) k
def fX25_counter (w : bW) (a1 : Int) : Int := (if a1 < 0 then (-1) else (if w 143 65 ≤ a1 then (-1) else w 232 a1))
def gX25_counter (w : bW) (a1 : Int) : bW := (b_up w 143 109 0)
def oX25_counter (n : Nat) (w : bW) (a1 : Int) : Prop := if a1 < 0 then True else (if w 143 65 ≤ a1 then True else ((0 ≤ a1 ∧ a1 < 100) ∧ (True)))
theorem vX25_counter {d n : Nat} {w : bW} {Q : Int → bW → Prop} {X : String → bW → Prop} (hn : 254 ≤ n) (a1 : Int) (ok : oX25_counter n w a1) (k : Q (fX25_counter w a1) (gX25_counter w a1)) : b_K (d + 1) mX25_counter [(2, 143), (0, a1)] n w Q X := by
  have i143 := iz143 (Nat.le_trans (Nat.le_of_ble_eq_true rfl) hn)
  have i232 := iz232 (Nat.le_trans (Nat.le_of_ble_eq_true rfl) hn)
  unfold fX25_counter gX25_counter at k
  unfold oX25_counter at ok
  refine k_of (by decide) rfl rfl rfl (ls := [(2, 143), (0, a1)]) rfl ?_
  refine x_aload_n 0 dX25_counter_0 rfl rfl rfl rfl rfl ?_
  refine x_iconst 0 (z := 0) dX25_counter_1 rfl (by decide) rfl ?_
  refine x_put 1087 109 (c := 23) dX25_counter_2 i143 rfl in_X25 tyX25_ok nmX25 q4344 rfl rfl rfl (Or.inl rfl) (Or.inl ⟨rfl, rfl⟩) rfl ?_
  refine x_iload_n 1 dX25_counter_5 rfl rfl rfl ?_
  refine x_if_lt (t := 26) 20 dX25_counter_6 rfl rfl (b_itqv ok k (fun hc ok k => ?_) (fun hc ok k => ?_))
  · refine x_iconst (-1) (z := (-1)) dX25_counter_26 rfl (by decide) rfl ?_
    exact y_iret dX25_counter_27 rfl k
  · refine x_iload_n 1 dX25_counter_9 rfl rfl rfl ?_
    refine x_aload_n 0 dX25_counter_10 rfl rfl rfl rfl rfl ?_
    refine y_get 888 65 (c := 23) (z := w 143 65) dX25_counter_11 i143 rfl in_X25 q4300 rfl rfl rfl rfl rfl ?_
    refine x_icmp_ge (t := 26) 12 dX25_counter_14 rfl rfl (b_itqv ok k (fun hc ok k => ?_) (fun hc ok k => ?_))
    · refine x_iconst (-1) (z := (-1)) dX25_counter_26 rfl (by decide) rfl ?_
      exact y_iret dX25_counter_27 rfl k
    · refine x_aload_n 0 dX25_counter_17 rfl rfl rfl rfl rfl ?_
      refine y_getF 1093 67 (c := 23) (z := 232) dX25_counter_18 i143 rfl in_X25 q4302 rfl rfl rfl fn_143_67 (Nat.le_trans (Nat.le_of_ble_eq_true rfl) hn) rfl ?_
      refine x_iload_n 1 dX25_counter_21 rfl rfl rfl ?_
      obtain ⟨e1, ok⟩ := ok
      refine y_iald (z := w 232 a1) dX25_counter_22 ⟨100, i232, e1⟩ rfl rfl ?_
      refine x_goto 4 (q := 27) dX25_counter_23 rfl ?_
      exact y_iret dX25_counter_27 rfl k
def fX25_paid (w : bW) (a1 : Int) : Int := (if fX25_isContract w a1 = 0 then (-1) else (gX25_isContract w a1) 235 a1)
def gX25_paid (w : bW) (a1 : Int) : bW := (gX25_isContract w a1)
def oX25_paid (n : Nat) (w : bW) (a1 : Int) : Prop := (oX25_isContract n w a1) ∧ (if fX25_isContract w a1 = 0 then True else ((0 ≤ a1 ∧ a1 < 100) ∧ (True)))
theorem vX25_paid {d n : Nat} {w : bW} {Q : Int → bW → Prop} {X : String → bW → Prop} (hn : 254 ≤ n) (a1 : Int) (ok : oX25_paid n w a1) (k : Q (fX25_paid w a1) (gX25_paid w a1)) : b_K (d + 2) mX25_paid [(2, 143), (0, a1)] n w Q X := by
  have i143 := iz143 (Nat.le_trans (Nat.le_of_ble_eq_true rfl) hn)
  have i235 := iz235 (Nat.le_trans (Nat.le_of_ble_eq_true rfl) hn)
  unfold fX25_paid gX25_paid at k
  unfold oX25_paid at ok
  refine k_of (by decide) rfl rfl rfl (ls := [(2, 143), (0, a1)]) rfl ?_
  refine x_aload_n 0 dX25_paid_0 rfl rfl rfl rfl rfl ?_
  refine x_iload_n 1 dX25_paid_1 rfl rfl rfl ?_
  obtain ⟨e3, ok⟩ := ok
  refine y_Vi 1176 (M := mX25_isContract) (As := [(0, a1)]) (st := []) dX25_paid_2 i143 rfl q4659 q4661 qs356 q392 q4662 rfl hmX25_isContract rfl rfl rfl rfl rfl rfl rfl rfl (vX25_isContract (Nat.le_trans (Nat.le_of_ble_eq_true rfl) hn) a1 e3 ?_)
  refine x_if_eq (t := 17) 12 dX25_paid_5 rfl rfl (b_itqv ok k (fun hc ok k => ?_) (fun hc ok k => ?_))
  · refine x_iconst (-1) (z := (-1)) dX25_paid_17 rfl (by decide) rfl ?_
    exact y_iret dX25_paid_18 rfl k
  · refine x_aload_n 0 dX25_paid_8 rfl rfl rfl rfl rfl ?_
    refine y_getF 965 71 (c := 23) (z := 235) dX25_paid_9 i143 rfl in_X25 q4306 rfl rfl rfl fn_143_71 (Nat.le_trans (Nat.le_of_ble_eq_true rfl) hn) rfl ?_
    refine x_iload_n 1 dX25_paid_12 rfl rfl rfl ?_
    obtain ⟨e4, ok⟩ := ok
    refine y_iald (z := (gX25_isContract w a1) 235 a1) dX25_paid_13 ⟨100, i235, e4⟩ rfl rfl ?_
    refine x_goto 4 (q := 18) dX25_paid_14 rfl ?_
    exact y_iret dX25_paid_18 rfl k
def fX25_money (w : bW) (a1 : Int) : Int := (if a1 ≠ 0 then (if a1 ≠ 1 then (if a1 ≠ 2 then (-1) else w 143 78) else w 143 77) else w 143 76)
def gX25_money (w : bW) (a1 : Int) : bW := (b_up w 143 109 0)
theorem vX25_money {d n : Nat} {w : bW} {Q : Int → bW → Prop} {X : String → bW → Prop} (hn : 144 ≤ n) (a1 : Int) (k : Q (fX25_money w a1) (gX25_money w a1)) : b_K (d + 1) mX25_money [(2, 143), (0, a1)] n w Q X := by
  have i143 := iz143 (Nat.le_trans (Nat.le_of_ble_eq_true rfl) hn)
  unfold fX25_money gX25_money at k
  refine k_of (by decide) rfl rfl rfl (ls := [(2, 143), (0, a1)]) rfl ?_
  refine x_aload_n 0 dX25_money_0 rfl rfl rfl rfl rfl ?_
  refine x_iconst 0 (z := 0) dX25_money_1 rfl (by decide) rfl ?_
  refine x_put 1087 109 (c := 23) dX25_money_2 i143 rfl in_X25 tyX25_ok nmX25 q4344 rfl rfl rfl (Or.inl rfl) (Or.inl ⟨rfl, rfl⟩) rfl ?_
  refine x_iload_n 1 dX25_money_5 rfl rfl rfl ?_
  refine x_if_ne (t := 16) 10 dX25_money_6 rfl rfl (b_itqv (b_tt _) k (fun hc ok k => ?_) (fun hc ok k => ?_))
  · refine x_iload_n 1 dX25_money_16 rfl rfl rfl ?_
    refine x_iconst 1 (z := 1) dX25_money_17 rfl (by decide) rfl ?_
    refine x_icmp_ne (t := 28) 10 dX25_money_18 rfl rfl (b_itqv (b_tt _) k (fun hc ok k => ?_) (fun hc ok k => ?_))
    · refine x_iload_n 1 dX25_money_28 rfl rfl rfl ?_
      refine x_iconst 2 (z := 2) dX25_money_29 rfl (by decide) rfl ?_
      refine x_icmp_ne (t := 40) 10 dX25_money_30 rfl rfl (b_itqv (b_tt _) k (fun hc ok k => ?_) (fun hc ok k => ?_))
      · refine x_ldc2 759 (x := (-1)) dX25_money_40 q3826 rfl (by decide) rfl ?_
        exact y_lret dX25_money_43 rfl k
      · refine x_aload_n 0 dX25_money_33 rfl rfl rfl rfl rfl ?_
        refine y_get 957 78 (c := 23) (z := w 143 78) dX25_money_34 i143 rfl in_X25 q4313 rfl rfl rfl rfl rfl ?_
        refine x_goto 6 (q := 43) dX25_money_37 rfl ?_
        exact y_lret dX25_money_43 rfl k
    · refine x_aload_n 0 dX25_money_21 rfl rfl rfl rfl rfl ?_
      refine y_get 1102 77 (c := 23) (z := w 143 77) dX25_money_22 i143 rfl in_X25 q4312 rfl rfl rfl rfl rfl ?_
      refine x_goto 18 (q := 43) dX25_money_25 rfl ?_
      exact y_lret dX25_money_43 rfl k
  · refine x_aload_n 0 dX25_money_9 rfl rfl rfl rfl rfl ?_
    refine y_get 1156 76 (c := 23) (z := w 143 76) dX25_money_10 i143 rfl in_X25 q4311 rfl rfl rfl rfl rfl ?_
    refine x_goto 30 (q := 43) dX25_money_13 rfl ?_
    exact y_lret dX25_money_43 rfl k
def fX25_out (w : bW) (a1 : Int) : Int := (if a1 < 0 then (-1) else (if w 143 114 ≤ a1 then (-1) else b_and (w 253 a1) 255))
def gX25_out (w : bW) (a1 : Int) : bW := (b_up w 143 109 0)
def oX25_out (n : Nat) (w : bW) (a1 : Int) : Prop := if a1 < 0 then True else (if w 143 114 ≤ a1 then True else ((0 ≤ a1 ∧ a1 < 65536) ∧ (True)))
theorem vX25_out {d n : Nat} {w : bW} {Q : Int → bW → Prop} {X : String → bW → Prop} (hn : 254 ≤ n) (a1 : Int) (ok : oX25_out n w a1) (k : Q (fX25_out w a1) (gX25_out w a1)) : b_K (d + 1) mX25_out [(2, 143), (0, a1)] n w Q X := by
  have i143 := iz143 (Nat.le_trans (Nat.le_of_ble_eq_true rfl) hn)
  have i253 := iz253 (Nat.le_trans (Nat.le_of_ble_eq_true rfl) hn)
  unfold fX25_out gX25_out at k
  unfold oX25_out at ok
  refine k_of (by decide) rfl rfl rfl (ls := [(2, 143), (0, a1)]) rfl ?_
  refine x_aload_n 0 dX25_out_0 rfl rfl rfl rfl rfl ?_
  refine x_iconst 0 (z := 0) dX25_out_1 rfl (by decide) rfl ?_
  refine x_put 1087 109 (c := 23) dX25_out_2 i143 rfl in_X25 tyX25_ok nmX25 q4344 rfl rfl rfl (Or.inl rfl) (Or.inl ⟨rfl, rfl⟩) rfl ?_
  refine x_iload_n 1 dX25_out_5 rfl rfl rfl ?_
  refine x_if_lt (t := 30) 24 dX25_out_6 rfl rfl (b_itqv ok k (fun hc ok k => ?_) (fun hc ok k => ?_))
  · refine x_iconst (-1) (z := (-1)) dX25_out_30 rfl (by decide) rfl ?_
    exact y_iret dX25_out_31 rfl k
  · refine x_iload_n 1 dX25_out_9 rfl rfl rfl ?_
    refine x_aload_n 0 dX25_out_10 rfl rfl rfl rfl rfl ?_
    refine y_get 1148 114 (c := 23) (z := w 143 114) dX25_out_11 i143 rfl in_X25 q4349 rfl rfl rfl rfl rfl ?_
    refine x_icmp_ge (t := 30) 16 dX25_out_14 rfl rfl (b_itqv ok k (fun hc ok k => ?_) (fun hc ok k => ?_))
    · refine x_iconst (-1) (z := (-1)) dX25_out_30 rfl (by decide) rfl ?_
      exact y_iret dX25_out_31 rfl k
    · refine x_aload_n 0 dX25_out_17 rfl rfl rfl rfl rfl ?_
      refine y_getF 1139 113 (c := 23) (z := 253) dX25_out_18 i143 rfl in_X25 q4348 rfl rfl rfl fn_143_113 (Nat.le_trans (Nat.le_of_ble_eq_true rfl) hn) rfl ?_
      refine x_iload_n 1 dX25_out_21 rfl rfl rfl ?_
      obtain ⟨e1, ok⟩ := ok
      refine y_bald (z := w 253 a1) dX25_out_22 ⟨65536, i253, e1⟩ rfl rfl ?_
      refine x_sipush 255 (z := 255) dX25_out_23 rfl (by decide) rfl ?_
      refine x_iand dX25_out_26 rfl ?_
      refine x_goto 4 (q := 31) dX25_out_27 rfl ?_
      exact y_iret dX25_out_31 rfl k
def fX25_wrongs (w : bW) : Int := w 143 57
def gX25_wrongs (w : bW) : bW := (b_up w 143 109 0)
theorem vX25_wrongs {d n : Nat} {w : bW} {Q : Int → bW → Prop} {X : String → bW → Prop} (hn : 144 ≤ n) (k : Q (fX25_wrongs w) (gX25_wrongs w)) : b_K (d + 1) mX25_wrongs [(2, 143)] n w Q X := by
  have i143 := iz143 (Nat.le_trans (Nat.le_of_ble_eq_true rfl) hn)
  unfold fX25_wrongs gX25_wrongs at k
  refine k_of (by decide) rfl rfl rfl (ls := [(2, 143)]) rfl ?_
  refine x_aload_n 0 dX25_wrongs_0 rfl rfl rfl rfl rfl ?_
  refine x_iconst 0 (z := 0) dX25_wrongs_1 rfl (by decide) rfl ?_
  refine x_put 1087 109 (c := 23) dX25_wrongs_2 i143 rfl in_X25 tyX25_ok nmX25 q4344 rfl rfl rfl (Or.inl rfl) (Or.inl ⟨rfl, rfl⟩) rfl ?_
  refine x_aload_n 0 dX25_wrongs_5 rfl rfl rfl rfl rfl ?_
  refine y_get 249 57 (c := 23) (z := w 143 57) dX25_wrongs_6 i143 rfl in_X25 q4292 rfl rfl rfl rfl rfl ?_
  exact y_iret dX25_wrongs_9 rfl k
def gX26_zero (w : bW) (t : Int) : bW := (b_up (b_up w t 1 0) t 2 0)
theorem vX26_zero {d n : Nat} {w : bW} {Q : Int → bW → Prop} {X : String → bW → Prop} (t : Int) (ht : b_is n t 0 24 3) (k : Q 0 (gX26_zero w t)) : b_K (d + 1) mX26_zero [(2, t)] n w Q X := by
  unfold gX26_zero at k
  refine k_of (by decide) rfl rfl rfl (ls := [(2, t)]) rfl ?_
  refine x_aload_n 0 dX26_zero_0 rfl rfl rfl rfl rfl ?_
  refine x_iconst 0 (z := 0) dX26_zero_1 rfl (by decide) rfl ?_
  refine x_put 13 1 (c := 24) dX26_zero_2 ht rfl in_X26 tyX26_ok nmX26 q4087 rfl rfl rfl (Or.inl rfl) (Or.inl ⟨rfl, rfl⟩) rfl ?_
  refine x_aload_n 0 dX26_zero_5 rfl rfl rfl rfl rfl ?_
  refine x_iconst 0 (z := 0) dX26_zero_6 rfl (by decide) rfl ?_
  refine x_put 17 2 (c := 24) dX26_zero_7 ht rfl in_X26 tyX26_ok nmX26 q4089 rfl rfl rfl (Or.inl rfl) (Or.inr (Or.inl ⟨rfl, rfl, by decide⟩)) rfl ?_
  exact y_vret dX26_zero_10 rfl k
def fX26_digit (w : bW) (t : Int) (a1 : Int) : Int := (if w t 1 ≤ a1 then 0 else w (t + 1) a1)
def oX26_digit (n : Nat) (w : bW) (t : Int) (a1 : Int) : Prop := if w t 1 ≤ a1 then True else ((0 ≤ a1 ∧ a1 < 180) ∧ (True))
theorem vX26_digit {d n : Nat} {w : bW} {Q : Int → bW → Prop} {X : String → bW → Prop} (hn : 254 ≤ n) (t : Int) (a1 : Int) (ht : b_is n t 0 24 3) (ok : oX26_digit n w t a1) (k : Q (fX26_digit w t a1) w) : b_K (d + 1) mX26_digit [(2, t), (0, a1)] n w Q X := by
  unfold fX26_digit at k
  unfold oX26_digit at ok
  refine k_of (by decide) rfl rfl rfl (ls := [(2, t), (0, a1)]) rfl ?_
  refine x_iload_n 1 dX26_digit_0 rfl rfl rfl ?_
  refine x_aload_n 0 dX26_digit_1 rfl rfl rfl rfl rfl ?_
  refine y_get 13 1 (c := 24) (z := w t 1) dX26_digit_2 ht rfl in_X26 q4087 rfl rfl rfl rfl rfl ?_
  refine x_icmp_ge (t := 17) 12 dX26_digit_5 rfl rfl (b_itqv ok k (fun hc ok k => ?_) (fun hc ok k => ?_))
  · refine x_iconst 0 (z := 0) dX26_digit_17 rfl (by decide) rfl ?_
    exact y_iret dX26_digit_18 rfl k
  · refine x_aload_n 0 dX26_digit_8 rfl rfl rfl rfl rfl ?_
    refine y_getO 7 0 (c := 24) dX26_digit_9 ht rfl in_X26 q4085 rfl rfl rfl (fun h5 hf => of_X26_0 (Nat.le_trans (Nat.le_of_ble_eq_true rfl) hn) h5 ht hf) rfl (fun e1 => ?_)
    refine x_iload_n 1 dX26_digit_12 rfl rfl rfl ?_
    obtain ⟨e2, ok⟩ := ok
    refine y_iald (z := w (t + 1) a1) dX26_digit_13 ⟨180, e1, e2⟩ rfl rfl ?_
    refine x_goto 4 (q := 18) dX26_digit_14 rfl ?_
    exact y_iret dX26_digit_18 rfl k
def fX27_marksOf (w : bW) (a1 : Int) (a2 : Int) (a3 : Int) : Int := (if a1 = 9 ∨ a1 = 13 ∨ a1 = 17 then 0 else (if a1 = 10 then (if b_and (w 168 a2) 2 ≤ 0 then b_or (b_and (w 168 a2) 3) 0 else b_or (b_and (w 168 a2) 3) 4) else (if a1 = 11 ∨ a1 = 12 then (if b_and (w 168 a2) 2 ≤ 0 then 0 else 6) else (if a1 = 14 then (if b_and (b_and (b_and (w 168 a2) (w 168 a3)) 3) 2 ≤ 0 then b_or (b_and (b_and (w 168 a2) (w 168 a3)) 3) 0 else b_or (b_and (b_and (w 168 a2) (w 168 a3)) 3) 4) else (if a1 = 15 then (if b_and (w 168 a3) 2 ≤ 0 then 0 else 6) else (if a1 = 16 then (if b_and (w 168 a3) 2 ≤ 0 then 0 else 4) else (if a1 = 18 then b_and (w 168 a2) (w 168 a3) else 7)))))))
def oX27_marksOf (n : Nat) (w : bW) (a1 : Int) (a2 : Int) (a3 : Int) : Prop := if a1 = 9 ∨ a1 = 13 ∨ a1 = 17 then True else (if a1 = 10 then ((w 163 4 = 168) ∧ ((0 ≤ a2 ∧ a2 < 20000) ∧ ((w 163 4 = 168) ∧ (True)))) else (if a1 = 11 ∨ a1 = 12 then ((w 163 4 = 168) ∧ ((0 ≤ a2 ∧ a2 < 20000) ∧ (True))) else (if a1 = 14 then ((w 163 4 = 168) ∧ ((0 ≤ a2 ∧ a2 < 20000) ∧ ((w 163 4 = 168) ∧ ((0 ≤ a3 ∧ a3 < 20000) ∧ (True))))) else (if a1 = 15 then ((w 163 4 = 168) ∧ ((0 ≤ a3 ∧ a3 < 20000) ∧ (True))) else (if a1 = 16 then ((w 163 4 = 168) ∧ ((0 ≤ a3 ∧ a3 < 20000) ∧ (True))) else (if a1 = 18 then ((w 163 4 = 168) ∧ ((0 ≤ a2 ∧ a2 < 20000) ∧ ((w 163 4 = 168) ∧ ((0 ≤ a3 ∧ a3 < 20000) ∧ (True))))) else True))))))
theorem vX27_marksOf {d n : Nat} {w : bW} {Q : Int → bW → Prop} {X : String → bW → Prop} (hn : 169 ≤ n) (a1 : Int) (a2 : Int) (a3 : Int) (ok : oX27_marksOf n w a1 a2 a3) (k : Q (fX27_marksOf w a1 a2 a3) w) : b_K (d + 1) mX27_marksOf [(2, 163), (0, a1), (0, a2), (0, a3)] n w Q X := by
  have i163 := iz163 (Nat.le_trans (Nat.le_of_ble_eq_true rfl) hn)
  have i168 := iz168 (Nat.le_trans (Nat.le_of_ble_eq_true rfl) hn)
  unfold fX27_marksOf at k
  unfold oX27_marksOf at ok
  refine k_of (by decide) rfl rfl rfl (ls := [(2, 163), (0, a1), (0, a2), (0, a3), (9, 0)]) rfl ?_
  refine x_iload_n 1 dX27_marksOf_0 rfl rfl rfl ?_
  refine b_icqv (c := a1 = 9 ∨ a1 = 13 ∨ a1 = 17) ok k (fun hc ok k => ?_) (fun hn ok k => ?_)
  · have key : b_Y (d + 1) mX27_marksOf n Q X 56 [(2, 163), (0, a1), (0, a2), (0, a3), (9, 0)] [] w := by
        refine x_iconst 0 (z := 0) dX27_marksOf_56 rfl (by decide) rfl ?_
        exact y_iret dX27_marksOf_57 rfl k
    rcases hc with e | e | e
    · exact x_tsI (off := 55) (t := 56) dX27_marksOf_1 (by rw [e]; decide) (by rw [e]; decide) (by rw [e]; rfl) rfl key
    · exact x_tsI (off := 55) (t := 56) dX27_marksOf_1 (by rw [e]; decide) (by rw [e]; decide) (by rw [e]; rfl) rfl key
    · exact x_tsI (off := 55) (t := 56) dX27_marksOf_1 (by rw [e]; decide) (by rw [e]; decide) (by rw [e]; rfl) rfl key
  have hx55 := hn
  refine b_icqv (c := a1 = 10) ok k (fun hc ok k => ?_) (fun hn ok k => ?_)
  · have key : b_Y (d + 1) mX27_marksOf n Q X 58 [(2, 163), (0, a1), (0, a2), (0, a3), (9, 0)] [] w := by
        refine x_aload_n 0 dX27_marksOf_58 rfl rfl rfl rfl rfl ?_
        obtain ⟨e1, ok⟩ := ok
        refine y_get 26 4 (c := 25) (z := 168) dX27_marksOf_59 i163 rfl in_X27 q4113 rfl rfl rfl e1 rfl ?_
        refine x_iload_n 2 dX27_marksOf_62 rfl rfl rfl ?_
        obtain ⟨e2, ok⟩ := ok
        refine y_bald (z := w 168 a2) dX27_marksOf_63 ⟨20000, i168, e2⟩ rfl rfl ?_
        refine x_iconst 3 (z := 3) dX27_marksOf_64 rfl (by decide) rfl ?_
        refine x_iand dX27_marksOf_65 rfl ?_
        refine x_aload_n 0 dX27_marksOf_66 rfl rfl rfl rfl rfl ?_
        obtain ⟨e3, ok⟩ := ok
        refine y_get 26 4 (c := 25) (z := 168) dX27_marksOf_67 i163 rfl in_X27 q4113 rfl rfl rfl e3 rfl ?_
        refine x_iload_n 2 dX27_marksOf_70 rfl rfl rfl ?_
        refine y_bald (z := w 168 a2) dX27_marksOf_71 ⟨20000, i168, e2⟩ rfl rfl ?_
        refine x_iconst 2 (z := 2) dX27_marksOf_72 rfl (by decide) rfl ?_
        refine x_iand dX27_marksOf_73 rfl ?_
        refine x_if_le (t := 81) 7 dX27_marksOf_74 rfl rfl (b_itqv (b_tt _) k (fun hc ok k => ?_) (fun hc ok k => ?_))
        · refine x_iconst 0 (z := 0) dX27_marksOf_81 rfl (by decide) rfl ?_
          refine x_ior dX27_marksOf_82 rfl ?_
          exact y_iret dX27_marksOf_83 rfl k
        · refine x_iconst 4 (z := 4) dX27_marksOf_77 rfl (by decide) rfl ?_
          refine x_goto 4 (q := 82) dX27_marksOf_78 rfl ?_
          refine x_ior dX27_marksOf_82 rfl ?_
          exact y_iret dX27_marksOf_83 rfl k
    have e := hc
    exact x_tsI (off := 57) (t := 58) dX27_marksOf_1 (by rw [e]; decide) (by rw [e]; decide) (by rw [e]; rfl) rfl key
  have hx57 := hn
  refine b_icqv (c := a1 = 11 ∨ a1 = 12) ok k (fun hc ok k => ?_) (fun hn ok k => ?_)
  · have key : b_Y (d + 1) mX27_marksOf n Q X 131 [(2, 163), (0, a1), (0, a2), (0, a3), (9, 0)] [] w := by
        refine x_aload_n 0 dX27_marksOf_131 rfl rfl rfl rfl rfl ?_
        obtain ⟨e4, ok⟩ := ok
        refine y_get 26 4 (c := 25) (z := 168) dX27_marksOf_132 i163 rfl in_X27 q4113 rfl rfl rfl e4 rfl ?_
        refine x_iload_n 2 dX27_marksOf_135 rfl rfl rfl ?_
        obtain ⟨e5, ok⟩ := ok
        refine y_bald (z := w 168 a2) dX27_marksOf_136 ⟨20000, i168, e5⟩ rfl rfl ?_
        refine x_iconst 2 (z := 2) dX27_marksOf_137 rfl (by decide) rfl ?_
        refine x_iand dX27_marksOf_138 rfl ?_
        refine x_if_le (t := 147) 8 dX27_marksOf_139 rfl rfl (b_itqv (b_tt _) k (fun hc ok k => ?_) (fun hc ok k => ?_))
        · refine x_iconst 0 (z := 0) dX27_marksOf_147 rfl (by decide) rfl ?_
          exact y_iret dX27_marksOf_148 rfl k
        · refine x_bipush 6 (z := 6) dX27_marksOf_142 rfl (by decide) rfl ?_
          refine x_goto 4 (q := 148) dX27_marksOf_144 rfl ?_
          exact y_iret dX27_marksOf_148 rfl k
    rcases hc with e | e
    · exact x_tsI (off := 130) (t := 131) dX27_marksOf_1 (by rw [e]; decide) (by rw [e]; decide) (by rw [e]; rfl) rfl key
    · exact x_tsI (off := 130) (t := 131) dX27_marksOf_1 (by rw [e]; decide) (by rw [e]; decide) (by rw [e]; rfl) rfl key
  have hx130 := hn
  refine b_icqv (c := a1 = 14) ok k (fun hc ok k => ?_) (fun hn ok k => ?_)
  · have key : b_Y (d + 1) mX27_marksOf n Q X 84 [(2, 163), (0, a1), (0, a2), (0, a3), (9, 0)] [] w := by
        refine x_aload_n 0 dX27_marksOf_84 rfl rfl rfl rfl rfl ?_
        obtain ⟨e6, ok⟩ := ok
        refine y_get 26 4 (c := 25) (z := 168) dX27_marksOf_85 i163 rfl in_X27 q4113 rfl rfl rfl e6 rfl ?_
        refine x_iload_n 2 dX27_marksOf_88 rfl rfl rfl ?_
        obtain ⟨e7, ok⟩ := ok
        refine y_bald (z := w 168 a2) dX27_marksOf_89 ⟨20000, i168, e7⟩ rfl rfl ?_
        refine x_aload_n 0 dX27_marksOf_90 rfl rfl rfl rfl rfl ?_
        obtain ⟨e8, ok⟩ := ok
        refine y_get 26 4 (c := 25) (z := 168) dX27_marksOf_91 i163 rfl in_X27 q4113 rfl rfl rfl e8 rfl ?_
        refine x_iload_n 3 dX27_marksOf_94 rfl rfl rfl ?_
        obtain ⟨e9, ok⟩ := ok
        refine y_bald (z := w 168 a3) dX27_marksOf_95 ⟨20000, i168, e9⟩ rfl rfl ?_
        refine x_iand dX27_marksOf_96 rfl ?_
        refine x_iconst 3 (z := 3) dX27_marksOf_97 rfl (by decide) rfl ?_
        refine x_iand dX27_marksOf_98 rfl ?_
        refine x_istore 4 (ls' := [(2, 163), (0, a1), (0, a2), (0, a3), (0, b_and (b_and (w 168 a2) (w 168 a3)) 3)]) dX27_marksOf_99 rfl rfl rfl ?_
        refine x_iload 4 dX27_marksOf_101 rfl rfl ?_
        refine x_iload 4 dX27_marksOf_103 rfl rfl ?_
        refine x_iconst 2 (z := 2) dX27_marksOf_105 rfl (by decide) rfl ?_
        refine x_iand dX27_marksOf_106 rfl ?_
        refine x_if_le (t := 114) 7 dX27_marksOf_107 rfl rfl (b_itqv (b_tt _) k (fun hc ok k => ?_) (fun hc ok k => ?_))
        · refine x_iconst 0 (z := 0) dX27_marksOf_114 rfl (by decide) rfl ?_
          refine x_ior dX27_marksOf_115 rfl ?_
          exact y_iret dX27_marksOf_116 rfl k
        · refine x_iconst 4 (z := 4) dX27_marksOf_110 rfl (by decide) rfl ?_
          refine x_goto 4 (q := 115) dX27_marksOf_111 rfl ?_
          refine x_ior dX27_marksOf_115 rfl ?_
          exact y_iret dX27_marksOf_116 rfl k
    have e := hc
    exact x_tsI (off := 83) (t := 84) dX27_marksOf_1 (by rw [e]; decide) (by rw [e]; decide) (by rw [e]; rfl) rfl key
  have hx83 := hn
  refine b_icqv (c := a1 = 15) ok k (fun hc ok k => ?_) (fun hn ok k => ?_)
  · have key : b_Y (d + 1) mX27_marksOf n Q X 149 [(2, 163), (0, a1), (0, a2), (0, a3), (9, 0)] [] w := by
        refine x_aload_n 0 dX27_marksOf_149 rfl rfl rfl rfl rfl ?_
        obtain ⟨e10, ok⟩ := ok
        refine y_get 26 4 (c := 25) (z := 168) dX27_marksOf_150 i163 rfl in_X27 q4113 rfl rfl rfl e10 rfl ?_
        refine x_iload_n 3 dX27_marksOf_153 rfl rfl rfl ?_
        obtain ⟨e11, ok⟩ := ok
        refine y_bald (z := w 168 a3) dX27_marksOf_154 ⟨20000, i168, e11⟩ rfl rfl ?_
        refine x_iconst 2 (z := 2) dX27_marksOf_155 rfl (by decide) rfl ?_
        refine x_iand dX27_marksOf_156 rfl ?_
        refine x_if_le (t := 165) 8 dX27_marksOf_157 rfl rfl (b_itqv (b_tt _) k (fun hc ok k => ?_) (fun hc ok k => ?_))
        · refine x_iconst 0 (z := 0) dX27_marksOf_165 rfl (by decide) rfl ?_
          exact y_iret dX27_marksOf_166 rfl k
        · refine x_bipush 6 (z := 6) dX27_marksOf_160 rfl (by decide) rfl ?_
          refine x_goto 4 (q := 166) dX27_marksOf_162 rfl ?_
          exact y_iret dX27_marksOf_166 rfl k
    have e := hc
    exact x_tsI (off := 148) (t := 149) dX27_marksOf_1 (by rw [e]; decide) (by rw [e]; decide) (by rw [e]; rfl) rfl key
  have hx148 := hn
  refine b_icqv (c := a1 = 16) ok k (fun hc ok k => ?_) (fun hn ok k => ?_)
  · have key : b_Y (d + 1) mX27_marksOf n Q X 167 [(2, 163), (0, a1), (0, a2), (0, a3), (9, 0)] [] w := by
        refine x_aload_n 0 dX27_marksOf_167 rfl rfl rfl rfl rfl ?_
        obtain ⟨e12, ok⟩ := ok
        refine y_get 26 4 (c := 25) (z := 168) dX27_marksOf_168 i163 rfl in_X27 q4113 rfl rfl rfl e12 rfl ?_
        refine x_iload_n 3 dX27_marksOf_171 rfl rfl rfl ?_
        obtain ⟨e13, ok⟩ := ok
        refine y_bald (z := w 168 a3) dX27_marksOf_172 ⟨20000, i168, e13⟩ rfl rfl ?_
        refine x_iconst 2 (z := 2) dX27_marksOf_173 rfl (by decide) rfl ?_
        refine x_iand dX27_marksOf_174 rfl ?_
        refine x_if_le (t := 182) 7 dX27_marksOf_175 rfl rfl (b_itqv (b_tt _) k (fun hc ok k => ?_) (fun hc ok k => ?_))
        · refine x_iconst 0 (z := 0) dX27_marksOf_182 rfl (by decide) rfl ?_
          exact y_iret dX27_marksOf_183 rfl k
        · refine x_iconst 4 (z := 4) dX27_marksOf_178 rfl (by decide) rfl ?_
          refine x_goto 4 (q := 183) dX27_marksOf_179 rfl ?_
          exact y_iret dX27_marksOf_183 rfl k
    have e := hc
    exact x_tsI (off := 166) (t := 167) dX27_marksOf_1 (by rw [e]; decide) (by rw [e]; decide) (by rw [e]; rfl) rfl key
  have hx166 := hn
  refine b_icqv (c := a1 = 18) ok k (fun hc ok k => ?_) (fun hn ok k => ?_)
  · have key : b_Y (d + 1) mX27_marksOf n Q X 117 [(2, 163), (0, a1), (0, a2), (0, a3), (9, 0)] [] w := by
        refine x_aload_n 0 dX27_marksOf_117 rfl rfl rfl rfl rfl ?_
        obtain ⟨e14, ok⟩ := ok
        refine y_get 26 4 (c := 25) (z := 168) dX27_marksOf_118 i163 rfl in_X27 q4113 rfl rfl rfl e14 rfl ?_
        refine x_iload_n 2 dX27_marksOf_121 rfl rfl rfl ?_
        obtain ⟨e15, ok⟩ := ok
        refine y_bald (z := w 168 a2) dX27_marksOf_122 ⟨20000, i168, e15⟩ rfl rfl ?_
        refine x_aload_n 0 dX27_marksOf_123 rfl rfl rfl rfl rfl ?_
        obtain ⟨e16, ok⟩ := ok
        refine y_get 26 4 (c := 25) (z := 168) dX27_marksOf_124 i163 rfl in_X27 q4113 rfl rfl rfl e16 rfl ?_
        refine x_iload_n 3 dX27_marksOf_127 rfl rfl rfl ?_
        obtain ⟨e17, ok⟩ := ok
        refine y_bald (z := w 168 a3) dX27_marksOf_128 ⟨20000, i168, e17⟩ rfl rfl ?_
        refine x_iand dX27_marksOf_129 rfl ?_
        exact y_iret dX27_marksOf_130 rfl k
    have e := hc
    exact x_tsI (off := 116) (t := 117) dX27_marksOf_1 (by rw [e]; decide) (by rw [e]; decide) (by rw [e]; rfl) rfl key
  have hx116 := hn
  have key : b_Y (d + 1) mX27_marksOf n Q X 184 [(2, 163), (0, a1), (0, a2), (0, a3), (9, 0)] [] w := by
      refine x_bipush 7 (z := 7) dX27_marksOf_184 rfl (by decide) rfl ?_
      exact y_iret dX27_marksOf_186 rfl k
  exact x_tsO (t := 184) dX27_marksOf_1 (by omega) rfl key
def fX27_is (w : bW) (a1 : Int) (a2 : Int) : Int := (if a1 < 0 then 0 else (if b_and (w 168 a1) a2 ≤ 0 then 0 else 1))
def oX27_is (n : Nat) (w : bW) (a1 : Int) (a2 : Int) : Prop := if a1 < 0 then True else ((w 163 4 = 168) ∧ ((0 ≤ a1 ∧ a1 < 20000) ∧ (True)))
theorem vX27_is {d n : Nat} {w : bW} {Q : Int → bW → Prop} {X : String → bW → Prop} (hn : 169 ≤ n) (a1 : Int) (a2 : Int) (ok : oX27_is n w a1 a2) (k : Q (fX27_is w a1 a2) w) : b_K (d + 1) mX27_is [(2, 163), (0, a1), (0, a2)] n w Q X := by
  have i163 := iz163 (Nat.le_trans (Nat.le_of_ble_eq_true rfl) hn)
  have i168 := iz168 (Nat.le_trans (Nat.le_of_ble_eq_true rfl) hn)
  unfold fX27_is at k
  unfold oX27_is at ok
  refine k_of (by decide) rfl rfl rfl (ls := [(2, 163), (0, a1), (0, a2)]) rfl ?_
  refine x_iload_n 1 dX27_is_0 rfl rfl rfl ?_
  refine x_if_lt (t := 19) 18 dX27_is_1 rfl rfl (b_itqv ok k (fun hc ok k => ?_) (fun hc ok k => ?_))
  · refine x_iconst 0 (z := 0) dX27_is_19 rfl (by decide) rfl ?_
    exact y_zret dX27_is_20 rfl (by decide) k
  · refine x_aload_n 0 dX27_is_4 rfl rfl rfl rfl rfl ?_
    obtain ⟨e1, ok⟩ := ok
    refine y_get 26 4 (c := 25) (z := 168) dX27_is_5 i163 rfl in_X27 q4113 rfl rfl rfl e1 rfl ?_
    refine x_iload_n 1 dX27_is_8 rfl rfl rfl ?_
    obtain ⟨e2, ok⟩ := ok
    refine y_bald (z := w 168 a1) dX27_is_9 ⟨20000, i168, e2⟩ rfl rfl ?_
    refine x_iload_n 2 dX27_is_10 rfl rfl rfl ?_
    refine x_iand dX27_is_11 rfl ?_
    refine x_if_le (t := 19) 7 dX27_is_12 rfl rfl (b_itqv (b_tt _) k (fun hc ok k => ?_) (fun hc ok k => ?_))
    · refine x_iconst 0 (z := 0) dX27_is_19 rfl (by decide) rfl ?_
      exact y_zret dX27_is_20 rfl (by decide) k
    · refine x_iconst 1 (z := 1) dX27_is_15 rfl (by decide) rfl ?_
      refine x_goto 4 (q := 20) dX27_is_16 rfl ?_
      exact y_zret dX27_is_20 rfl (by decide) k
def fX27_isKind (w : bW) (a1 : Int) (a2 : Int) : Int := (if a1 < 0 then 0 else (if w 164 a1 ≠ a2 then 0 else 1))
def oX27_isKind (n : Nat) (w : bW) (a1 : Int) (a2 : Int) : Prop := if a1 < 0 then True else ((w 163 0 = 164) ∧ ((0 ≤ a1 ∧ a1 < 20000) ∧ (True)))
theorem vX27_isKind {d n : Nat} {w : bW} {Q : Int → bW → Prop} {X : String → bW → Prop} (hn : 165 ≤ n) (a1 : Int) (a2 : Int) (ok : oX27_isKind n w a1 a2) (k : Q (fX27_isKind w a1 a2) w) : b_K (d + 1) mX27_isKind [(2, 163), (0, a1), (0, a2)] n w Q X := by
  have i163 := iz163 (Nat.le_trans (Nat.le_of_ble_eq_true rfl) hn)
  have i164 := iz164 (Nat.le_trans (Nat.le_of_ble_eq_true rfl) hn)
  unfold fX27_isKind at k
  unfold oX27_isKind at ok
  refine k_of (by decide) rfl rfl rfl (ls := [(2, 163), (0, a1), (0, a2)]) rfl ?_
  refine x_iload_n 1 dX27_isKind_0 rfl rfl rfl ?_
  refine x_if_lt (t := 18) 17 dX27_isKind_1 rfl rfl (b_itqv ok k (fun hc ok k => ?_) (fun hc ok k => ?_))
  · refine x_iconst 0 (z := 0) dX27_isKind_18 rfl (by decide) rfl ?_
    exact y_zret dX27_isKind_19 rfl (by decide) k
  · refine x_aload_n 0 dX27_isKind_4 rfl rfl rfl rfl rfl ?_
    obtain ⟨e1, ok⟩ := ok
    refine y_get 9 0 (c := 25) (z := 164) dX27_isKind_5 i163 rfl in_X27 q4106 rfl rfl rfl e1 rfl ?_
    refine x_iload_n 1 dX27_isKind_8 rfl rfl rfl ?_
    obtain ⟨e2, ok⟩ := ok
    refine y_bald (z := w 164 a1) dX27_isKind_9 ⟨20000, i164, e2⟩ rfl rfl ?_
    refine x_iload_n 2 dX27_isKind_10 rfl rfl rfl ?_
    refine x_icmp_ne (t := 18) 7 dX27_isKind_11 rfl rfl (b_itqv (b_tt _) k (fun hc ok k => ?_) (fun hc ok k => ?_))
    · refine x_iconst 0 (z := 0) dX27_isKind_18 rfl (by decide) rfl ?_
      exact y_zret dX27_isKind_19 rfl (by decide) k
    · refine x_iconst 1 (z := 1) dX27_isKind_14 rfl (by decide) rfl ?_
      refine x_goto 4 (q := 19) dX27_isKind_15 rfl ?_
      exact y_zret dX27_isKind_19 rfl (by decide) k
def fX28_look (w : bW) (t : Int) (a1 : Int) : Int := (if w t 1 ≤ a1 then (-1) else b_and (w (t + 3) a1) 255)
def oX28_look (n : Nat) (w : bW) (t : Int) (a1 : Int) : Prop := if w t 1 ≤ a1 then True else ((0 ≤ a1 ∧ a1 < 16384) ∧ (True))
theorem vX28_look {d n : Nat} {w : bW} {Q : Int → bW → Prop} {X : String → bW → Prop} (hn : 254 ≤ n) (t : Int) (a1 : Int) (ht : b_is n t 0 26 20) (ok : oX28_look n w t a1) (k : Q (fX28_look w t a1) w) : b_K (d + 1) mX28_look [(2, t), (0, a1)] n w Q X := by
  unfold fX28_look at k
  unfold oX28_look at ok
  refine k_of (by decide) rfl rfl rfl (ls := [(2, t), (0, a1)]) rfl ?_
  refine x_iload_n 1 dX28_look_0 rfl rfl rfl ?_
  refine x_aload_n 0 dX28_look_1 rfl rfl rfl rfl rfl ?_
  refine y_get 65 1 (c := 26) (z := w t 1) dX28_look_2 ht rfl in_X28 q4156 rfl rfl rfl rfl rfl ?_
  refine x_icmp_ge (t := 21) 16 dX28_look_5 rfl rfl (b_itqv ok k (fun hc ok k => ?_) (fun hc ok k => ?_))
  · refine x_iconst (-1) (z := (-1)) dX28_look_21 rfl (by decide) rfl ?_
    exact y_iret dX28_look_22 rfl k
  · refine x_aload_n 0 dX28_look_8 rfl rfl rfl rfl rfl ?_
    refine y_getO 9 0 (c := 26) dX28_look_9 ht rfl in_X28 q4154 rfl rfl rfl (fun h5 hf => of_X28_0 (Nat.le_trans (Nat.le_of_ble_eq_true rfl) hn) h5 ht hf) rfl (fun e1 => ?_)
    refine x_iload_n 1 dX28_look_12 rfl rfl rfl ?_
    obtain ⟨e2, ok⟩ := ok
    refine y_bald (z := w (t + 3) a1) dX28_look_13 ⟨16384, e1, e2⟩ rfl rfl ?_
    refine x_sipush 255 (z := 255) dX28_look_14 rfl (by decide) rfl ?_
    refine x_iand dX28_look_17 rfl ?_
    refine x_goto 4 (q := 22) dX28_look_18 rfl ?_
    exact y_iret dX28_look_22 rfl k
def fX28_isDigit (w : bW) (a0 : Int) : Int := (if a0 < 48 then 0 else (if 57 < a0 then 0 else 1))
theorem vX28_isDigit {d n : Nat} {w : bW} {Q : Int → bW → Prop} {X : String → bW → Prop} (a0 : Int) (k : Q (fX28_isDigit w a0) w) : b_K (d + 1) mX28_isDigit [(0, a0)] n w Q X := by
  unfold fX28_isDigit at k
  refine k_of (by decide) rfl rfl rfl (ls := [(0, a0)]) rfl ?_
  refine x_iload_n 0 dX28_isDigit_0 rfl rfl rfl ?_
  refine x_bipush 48 (z := 48) dX28_isDigit_1 rfl (by decide) rfl ?_
  refine x_icmp_lt (t := 16) 13 dX28_isDigit_3 rfl rfl (b_itqv (b_tt _) k (fun hc ok k => ?_) (fun hc ok k => ?_))
  · refine x_iconst 0 (z := 0) dX28_isDigit_16 rfl (by decide) rfl ?_
    exact y_zret dX28_isDigit_17 rfl (by decide) k
  · refine x_iload_n 0 dX28_isDigit_6 rfl rfl rfl ?_
    refine x_bipush 57 (z := 57) dX28_isDigit_7 rfl (by decide) rfl ?_
    refine x_icmp_gt (t := 16) 7 dX28_isDigit_9 rfl rfl (b_itqv (b_tt _) k (fun hc ok k => ?_) (fun hc ok k => ?_))
    · refine x_iconst 0 (z := 0) dX28_isDigit_16 rfl (by decide) rfl ?_
      exact y_zret dX28_isDigit_17 rfl (by decide) k
    · refine x_iconst 1 (z := 1) dX28_isDigit_12 rfl (by decide) rfl ?_
      refine x_goto 4 (q := 17) dX28_isDigit_13 rfl ?_
      exact y_zret dX28_isDigit_17 rfl (by decide) k
def fX28_isLetter (w : bW) (a0 : Int) : Int := (if a0 < 97 then (if a0 < 65 then (if a0 ≠ 95 then 0 else 1) else (if a0 ≤ 90 then 1 else (if a0 ≠ 95 then 0 else 1))) else (if a0 ≤ 122 then 1 else (if a0 < 65 then (if a0 ≠ 95 then 0 else 1) else (if a0 ≤ 90 then 1 else (if a0 ≠ 95 then 0 else 1)))))
theorem vX28_isLetter {d n : Nat} {w : bW} {Q : Int → bW → Prop} {X : String → bW → Prop} (a0 : Int) (k : Q (fX28_isLetter w a0) w) : b_K (d + 1) mX28_isLetter [(0, a0)] n w Q X := by
  unfold fX28_isLetter at k
  refine k_of (by decide) rfl rfl rfl (ls := [(0, a0)]) rfl ?_
  refine x_iload_n 0 dX28_isLetter_0 rfl rfl rfl ?_
  refine x_bipush 97 (z := 97) dX28_isLetter_1 rfl (by decide) rfl ?_
  refine x_icmp_lt (t := 12) 9 dX28_isLetter_3 rfl rfl (b_itqv (b_tt _) k (fun hc ok k => ?_) (fun hc ok k => ?_))
  · refine x_iload_n 0 dX28_isLetter_12 rfl rfl rfl ?_
    refine x_bipush 65 (z := 65) dX28_isLetter_13 rfl (by decide) rfl ?_
    refine x_icmp_lt (t := 24) 9 dX28_isLetter_15 rfl rfl (b_itqv (b_tt _) k (fun hc ok k => ?_) (fun hc ok k => ?_))
    · refine x_iload_n 0 dX28_isLetter_24 rfl rfl rfl ?_
      refine x_bipush 95 (z := 95) dX28_isLetter_25 rfl (by decide) rfl ?_
      refine x_icmp_ne (t := 34) 7 dX28_isLetter_27 rfl rfl (b_itqv (b_tt _) k (fun hc ok k => ?_) (fun hc ok k => ?_))
      · refine x_iconst 0 (z := 0) dX28_isLetter_34 rfl (by decide) rfl ?_
        exact y_zret dX28_isLetter_35 rfl (by decide) k
      · refine x_iconst 1 (z := 1) dX28_isLetter_30 rfl (by decide) rfl ?_
        refine x_goto 4 (q := 35) dX28_isLetter_31 rfl ?_
        exact y_zret dX28_isLetter_35 rfl (by decide) k
    · refine x_iload_n 0 dX28_isLetter_18 rfl rfl rfl ?_
      refine x_bipush 90 (z := 90) dX28_isLetter_19 rfl (by decide) rfl ?_
      refine x_icmp_le (t := 30) 9 dX28_isLetter_21 rfl rfl (b_itqv (b_tt _) k (fun hc ok k => ?_) (fun hc ok k => ?_))
      · refine x_iconst 1 (z := 1) dX28_isLetter_30 rfl (by decide) rfl ?_
        refine x_goto 4 (q := 35) dX28_isLetter_31 rfl ?_
        exact y_zret dX28_isLetter_35 rfl (by decide) k
      · refine x_iload_n 0 dX28_isLetter_24 rfl rfl rfl ?_
        refine x_bipush 95 (z := 95) dX28_isLetter_25 rfl (by decide) rfl ?_
        refine x_icmp_ne (t := 34) 7 dX28_isLetter_27 rfl rfl (b_itqv (b_tt _) k (fun hc ok k => ?_) (fun hc ok k => ?_))
        · refine x_iconst 0 (z := 0) dX28_isLetter_34 rfl (by decide) rfl ?_
          exact y_zret dX28_isLetter_35 rfl (by decide) k
        · refine x_iconst 1 (z := 1) dX28_isLetter_30 rfl (by decide) rfl ?_
          refine x_goto 4 (q := 35) dX28_isLetter_31 rfl ?_
          exact y_zret dX28_isLetter_35 rfl (by decide) k
  · refine x_iload_n 0 dX28_isLetter_6 rfl rfl rfl ?_
    refine x_bipush 122 (z := 122) dX28_isLetter_7 rfl (by decide) rfl ?_
    refine x_icmp_le (t := 30) 21 dX28_isLetter_9 rfl rfl (b_itqv (b_tt _) k (fun hc ok k => ?_) (fun hc ok k => ?_))
    · refine x_iconst 1 (z := 1) dX28_isLetter_30 rfl (by decide) rfl ?_
      refine x_goto 4 (q := 35) dX28_isLetter_31 rfl ?_
      exact y_zret dX28_isLetter_35 rfl (by decide) k
    · refine x_iload_n 0 dX28_isLetter_12 rfl rfl rfl ?_
      refine x_bipush 65 (z := 65) dX28_isLetter_13 rfl (by decide) rfl ?_
      refine x_icmp_lt (t := 24) 9 dX28_isLetter_15 rfl rfl (b_itqv (b_tt _) k (fun hc ok k => ?_) (fun hc ok k => ?_))
      · refine x_iload_n 0 dX28_isLetter_24 rfl rfl rfl ?_
        refine x_bipush 95 (z := 95) dX28_isLetter_25 rfl (by decide) rfl ?_
        refine x_icmp_ne (t := 34) 7 dX28_isLetter_27 rfl rfl (b_itqv (b_tt _) k (fun hc ok k => ?_) (fun hc ok k => ?_))
        · refine x_iconst 0 (z := 0) dX28_isLetter_34 rfl (by decide) rfl ?_
          exact y_zret dX28_isLetter_35 rfl (by decide) k
        · refine x_iconst 1 (z := 1) dX28_isLetter_30 rfl (by decide) rfl ?_
          refine x_goto 4 (q := 35) dX28_isLetter_31 rfl ?_
          exact y_zret dX28_isLetter_35 rfl (by decide) k
      · refine x_iload_n 0 dX28_isLetter_18 rfl rfl rfl ?_
        refine x_bipush 90 (z := 90) dX28_isLetter_19 rfl (by decide) rfl ?_
        refine x_icmp_le (t := 30) 9 dX28_isLetter_21 rfl rfl (b_itqv (b_tt _) k (fun hc ok k => ?_) (fun hc ok k => ?_))
        · refine x_iconst 1 (z := 1) dX28_isLetter_30 rfl (by decide) rfl ?_
          refine x_goto 4 (q := 35) dX28_isLetter_31 rfl ?_
          exact y_zret dX28_isLetter_35 rfl (by decide) k
        · refine x_iload_n 0 dX28_isLetter_24 rfl rfl rfl ?_
          refine x_bipush 95 (z := 95) dX28_isLetter_25 rfl (by decide) rfl ?_
          refine x_icmp_ne (t := 34) 7 dX28_isLetter_27 rfl rfl (b_itqv (b_tt _) k (fun hc ok k => ?_) (fun hc ok k => ?_))
          · refine x_iconst 0 (z := 0) dX28_isLetter_34 rfl (by decide) rfl ?_
            exact y_zret dX28_isLetter_35 rfl (by decide) k
          · refine x_iconst 1 (z := 1) dX28_isLetter_30 rfl (by decide) rfl ?_
            refine x_goto 4 (q := 35) dX28_isLetter_31 rfl ?_
            exact y_zret dX28_isLetter_35 rfl (by decide) k
def fX28_fail (w : bW) (t : Int) : Int := 0
def gX28_fail (w : bW) (t : Int) : bW := (b_up w t 14 (w t 16))
theorem vX28_fail {d n : Nat} {w : bW} {Q : Int → bW → Prop} {X : String → bW → Prop} (t : Int) (ht : b_is n t 0 26 20) (k : Q (fX28_fail w t) (gX28_fail w t)) : b_K (d + 1) mX28_fail [(2, t)] n w Q X := by
  unfold fX28_fail gX28_fail at k
  refine k_of (by decide) rfl rfl rfl (ls := [(2, t)]) rfl ?_
  refine x_aload_n 0 dX28_fail_0 rfl rfl rfl rfl rfl ?_
  refine x_aload_n 0 dX28_fail_1 rfl rfl rfl rfl rfl ?_
  refine y_get 76 16 (c := 26) (z := w t 16) dX28_fail_2 ht rfl in_X28 q4189 rfl rfl rfl rfl rfl ?_
  refine x_put 102 14 (c := 26) dX28_fail_5 ht rfl in_X28 tyX28_ok nmX28 q4186 rfl rfl rfl (Or.inl rfl) (Or.inl ⟨rfl, rfl⟩) rfl ?_
  refine x_iconst 0 (z := 0) dX28_fail_8 rfl (by decide) rfl ?_
  exact y_zret dX28_fail_9 rfl (by decide) k
def fX28_isSequence (w : bW) (t : Int) (a1 : Int) : Int := (if w (t + 4) a1 ≠ 4 then 0 else 1)
def oX28_isSequence (n : Nat) (w : bW) (t : Int) (a1 : Int) : Prop := (0 ≤ a1 ∧ a1 < 4096) ∧ (True)
theorem vX28_isSequence {d n : Nat} {w : bW} {Q : Int → bW → Prop} {X : String → bW → Prop} (hn : 254 ≤ n) (t : Int) (a1 : Int) (ht : b_is n t 0 26 20) (ok : oX28_isSequence n w t a1) (k : Q (fX28_isSequence w t a1) w) : b_K (d + 1) mX28_isSequence [(2, t), (0, a1)] n w Q X := by
  unfold fX28_isSequence at k
  unfold oX28_isSequence at ok
  refine k_of (by decide) rfl rfl rfl (ls := [(2, t), (0, a1)]) rfl ?_
  refine x_aload_n 0 dX28_isSequence_0 rfl rfl rfl rfl rfl ?_
  refine y_getO 15 2 (c := 26) dX28_isSequence_1 ht rfl in_X28 q4158 rfl rfl rfl (fun h5 hf => of_X28_2 (Nat.le_trans (Nat.le_of_ble_eq_true rfl) hn) h5 ht hf) rfl (fun e1 => ?_)
  refine x_iload_n 1 dX28_isSequence_4 rfl rfl rfl ?_
  obtain ⟨e2, ok⟩ := ok
  refine y_bald (z := w (t + 4) a1) dX28_isSequence_5 ⟨4096, e1, e2⟩ rfl rfl ?_
  refine x_iconst 4 (z := 4) dX28_isSequence_6 rfl (by decide) rfl ?_
  refine x_icmp_ne (t := 14) 7 dX28_isSequence_7 rfl rfl (b_itqv (b_tt _) k (fun hc ok k => ?_) (fun hc ok k => ?_))
  · refine x_iconst 0 (z := 0) dX28_isSequence_14 rfl (by decide) rfl ?_
    exact y_zret dX28_isSequence_15 rfl (by decide) k
  · refine x_iconst 1 (z := 1) dX28_isSequence_10 rfl (by decide) rfl ?_
    refine x_goto 4 (q := 15) dX28_isSequence_11 rfl ?_
    exact y_zret dX28_isSequence_15 rfl (by decide) k
def fX28_hasMark (w : bW) (t : Int) (a1 : Int) : Int := (if w (t + 7) a1 < 0 then 0 else 1)
def oX28_hasMark (n : Nat) (w : bW) (t : Int) (a1 : Int) : Prop := (0 ≤ a1 ∧ a1 < 4096) ∧ (True)
theorem vX28_hasMark {d n : Nat} {w : bW} {Q : Int → bW → Prop} {X : String → bW → Prop} (hn : 254 ≤ n) (t : Int) (a1 : Int) (ht : b_is n t 0 26 20) (ok : oX28_hasMark n w t a1) (k : Q (fX28_hasMark w t a1) w) : b_K (d + 1) mX28_hasMark [(2, t), (0, a1)] n w Q X := by
  unfold fX28_hasMark at k
  unfold oX28_hasMark at ok
  refine k_of (by decide) rfl rfl rfl (ls := [(2, t), (0, a1)]) rfl ?_
  refine x_aload_n 0 dX28_hasMark_0 rfl rfl rfl rfl rfl ?_
  refine y_getO 25 5 (c := 26) dX28_hasMark_1 ht rfl in_X28 q4165 rfl rfl rfl (fun h5 hf => of_X28_5 (Nat.le_trans (Nat.le_of_ble_eq_true rfl) hn) h5 ht hf) rfl (fun e1 => ?_)
  refine x_iload_n 1 dX28_hasMark_4 rfl rfl rfl ?_
  obtain ⟨e2, ok⟩ := ok
  refine y_iald (z := w (t + 7) a1) dX28_hasMark_5 ⟨4096, e1, e2⟩ rfl rfl ?_
  refine x_if_lt (t := 13) 7 dX28_hasMark_6 rfl rfl (b_itqv (b_tt _) k (fun hc ok k => ?_) (fun hc ok k => ?_))
  · refine x_iconst 0 (z := 0) dX28_hasMark_13 rfl (by decide) rfl ?_
    exact y_zret dX28_hasMark_14 rfl (by decide) k
  · refine x_iconst 1 (z := 1) dX28_hasMark_9 rfl (by decide) rfl ?_
    refine x_goto 4 (q := 14) dX28_hasMark_10 rfl ?_
    exact y_zret dX28_hasMark_14 rfl (by decide) k
def fX28_isWord (w : bW) (t : Int) (a1 : Int) (a2 : Int) : Int := (if w (t + 4) a1 ≠ 5 then 0 else (if w (t + 13) a1 ≠ a2 then 0 else 1))
def oX28_isWord (n : Nat) (w : bW) (t : Int) (a1 : Int) (a2 : Int) : Prop := (0 ≤ a1 ∧ a1 < 4096) ∧ (if w (t + 4) a1 ≠ 5 then True else ((0 ≤ a1 ∧ a1 < 4096) ∧ (True)))
theorem vX28_isWord {d n : Nat} {w : bW} {Q : Int → bW → Prop} {X : String → bW → Prop} (hn : 254 ≤ n) (t : Int) (a1 : Int) (a2 : Int) (ht : b_is n t 0 26 20) (ok : oX28_isWord n w t a1 a2) (k : Q (fX28_isWord w t a1 a2) w) : b_K (d + 1) mX28_isWord [(2, t), (0, a1), (0, a2)] n w Q X := by
  unfold fX28_isWord at k
  unfold oX28_isWord at ok
  refine k_of (by decide) rfl rfl rfl (ls := [(2, t), (0, a1), (0, a2)]) rfl ?_
  refine x_aload_n 0 dX28_isWord_0 rfl rfl rfl rfl rfl ?_
  refine y_getO 15 2 (c := 26) dX28_isWord_1 ht rfl in_X28 q4158 rfl rfl rfl (fun h5 hf => of_X28_2 (Nat.le_trans (Nat.le_of_ble_eq_true rfl) hn) h5 ht hf) rfl (fun e1 => ?_)
  refine x_iload_n 1 dX28_isWord_4 rfl rfl rfl ?_
  obtain ⟨e2, ok⟩ := ok
  refine y_bald (z := w (t + 4) a1) dX28_isWord_5 ⟨4096, e1, e2⟩ rfl rfl ?_
  refine x_iconst 5 (z := 5) dX28_isWord_6 rfl (by decide) rfl ?_
  refine x_icmp_ne (t := 24) 17 dX28_isWord_7 rfl rfl (b_itqv ok k (fun hc ok k => ?_) (fun hc ok k => ?_))
  · refine x_iconst 0 (z := 0) dX28_isWord_24 rfl (by decide) rfl ?_
    exact y_zret dX28_isWord_25 rfl (by decide) k
  · refine x_aload_n 0 dX28_isWord_10 rfl rfl rfl rfl rfl ?_
    refine y_getO 43 11 (c := 26) dX28_isWord_11 ht rfl in_X28 q4179 rfl rfl rfl (fun h5 hf => of_X28_11 (Nat.le_trans (Nat.le_of_ble_eq_true rfl) hn) h5 ht hf) rfl (fun e3 => ?_)
    refine x_iload_n 1 dX28_isWord_14 rfl rfl rfl ?_
    obtain ⟨e4, ok⟩ := ok
    refine y_iald (z := w (t + 13) a1) dX28_isWord_15 ⟨4096, e3, e4⟩ rfl rfl ?_
    refine x_iload_n 2 dX28_isWord_16 rfl rfl rfl ?_
    refine x_icmp_ne (t := 24) 7 dX28_isWord_17 rfl rfl (b_itqv (b_tt _) k (fun hc ok k => ?_) (fun hc ok k => ?_))
    · refine x_iconst 0 (z := 0) dX28_isWord_24 rfl (by decide) rfl ?_
      exact y_zret dX28_isWord_25 rfl (by decide) k
    · refine x_iconst 1 (z := 1) dX28_isWord_20 rfl (by decide) rfl ?_
      refine x_goto 4 (q := 25) dX28_isWord_21 rfl ?_
      exact y_zret dX28_isWord_25 rfl (by decide) k
def fX30_isBlank (w : bW) (a0 : Int) : Int := (if a0 = 32 then 1 else (if a0 = 9 then 1 else (if a0 = 10 then 1 else (if a0 ≠ 13 then 0 else 1))))
theorem vX30_isBlank {d n : Nat} {w : bW} {Q : Int → bW → Prop} {X : String → bW → Prop} (a0 : Int) (k : Q (fX30_isBlank w a0) w) : b_K (d + 1) mX30_isBlank [(0, a0)] n w Q X := by
  unfold fX30_isBlank at k
  refine k_of (by decide) rfl rfl rfl (ls := [(0, a0)]) rfl ?_
  refine x_iload_n 0 dX30_isBlank_0 rfl rfl rfl ?_
  refine x_bipush 32 (z := 32) dX30_isBlank_1 rfl (by decide) rfl ?_
  refine x_icmp_eq (t := 24) 21 dX30_isBlank_3 rfl rfl (b_itqv (b_tt _) k (fun hc ok k => ?_) (fun hc ok k => ?_))
  · refine x_iconst 1 (z := 1) dX30_isBlank_24 rfl (by decide) rfl ?_
    refine x_goto 4 (q := 29) dX30_isBlank_25 rfl ?_
    exact y_zret dX30_isBlank_29 rfl (by decide) k
  · refine x_iload_n 0 dX30_isBlank_6 rfl rfl rfl ?_
    refine x_bipush 9 (z := 9) dX30_isBlank_7 rfl (by decide) rfl ?_
    refine x_icmp_eq (t := 24) 15 dX30_isBlank_9 rfl rfl (b_itqv (b_tt _) k (fun hc ok k => ?_) (fun hc ok k => ?_))
    · refine x_iconst 1 (z := 1) dX30_isBlank_24 rfl (by decide) rfl ?_
      refine x_goto 4 (q := 29) dX30_isBlank_25 rfl ?_
      exact y_zret dX30_isBlank_29 rfl (by decide) k
    · refine x_iload_n 0 dX30_isBlank_12 rfl rfl rfl ?_
      refine x_bipush 10 (z := 10) dX30_isBlank_13 rfl (by decide) rfl ?_
      refine x_icmp_eq (t := 24) 9 dX30_isBlank_15 rfl rfl (b_itqv (b_tt _) k (fun hc ok k => ?_) (fun hc ok k => ?_))
      · refine x_iconst 1 (z := 1) dX30_isBlank_24 rfl (by decide) rfl ?_
        refine x_goto 4 (q := 29) dX30_isBlank_25 rfl ?_
        exact y_zret dX30_isBlank_29 rfl (by decide) k
      · refine x_iload_n 0 dX30_isBlank_18 rfl rfl rfl ?_
        refine x_bipush 13 (z := 13) dX30_isBlank_19 rfl (by decide) rfl ?_
        refine x_icmp_ne (t := 28) 7 dX30_isBlank_21 rfl rfl (b_itqv (b_tt _) k (fun hc ok k => ?_) (fun hc ok k => ?_))
        · refine x_iconst 0 (z := 0) dX30_isBlank_28 rfl (by decide) rfl ?_
          exact y_zret dX30_isBlank_29 rfl (by decide) k
        · refine x_iconst 1 (z := 1) dX30_isBlank_24 rfl (by decide) rfl ?_
          refine x_goto 4 (q := 29) dX30_isBlank_25 rfl ?_
          exact y_zret dX30_isBlank_29 rfl (by decide) k
def fX30_isDigit (w : bW) (a0 : Int) : Int := (if a0 < 48 then 0 else (if 57 < a0 then 0 else 1))
theorem vX30_isDigit {d n : Nat} {w : bW} {Q : Int → bW → Prop} {X : String → bW → Prop} (a0 : Int) (k : Q (fX30_isDigit w a0) w) : b_K (d + 1) mX30_isDigit [(0, a0)] n w Q X := by
  unfold fX30_isDigit at k
  refine k_of (by decide) rfl rfl rfl (ls := [(0, a0)]) rfl ?_
  refine x_iload_n 0 dX30_isDigit_0 rfl rfl rfl ?_
  refine x_bipush 48 (z := 48) dX30_isDigit_1 rfl (by decide) rfl ?_
  refine x_icmp_lt (t := 16) 13 dX30_isDigit_3 rfl rfl (b_itqv (b_tt _) k (fun hc ok k => ?_) (fun hc ok k => ?_))
  · refine x_iconst 0 (z := 0) dX30_isDigit_16 rfl (by decide) rfl ?_
    exact y_zret dX30_isDigit_17 rfl (by decide) k
  · refine x_iload_n 0 dX30_isDigit_6 rfl rfl rfl ?_
    refine x_bipush 57 (z := 57) dX30_isDigit_7 rfl (by decide) rfl ?_
    refine x_icmp_gt (t := 16) 7 dX30_isDigit_9 rfl rfl (b_itqv (b_tt _) k (fun hc ok k => ?_) (fun hc ok k => ?_))
    · refine x_iconst 0 (z := 0) dX30_isDigit_16 rfl (by decide) rfl ?_
      exact y_zret dX30_isDigit_17 rfl (by decide) k
    · refine x_iconst 1 (z := 1) dX30_isDigit_12 rfl (by decide) rfl ?_
      refine x_goto 4 (q := 17) dX30_isDigit_13 rfl ?_
      exact y_zret dX30_isDigit_17 rfl (by decide) k
def fX30_isPlain (w : bW) (a0 : Int) : Int := (if a0 < 32 then 0 else (if 126 < a0 then 0 else 1))
theorem vX30_isPlain {d n : Nat} {w : bW} {Q : Int → bW → Prop} {X : String → bW → Prop} (a0 : Int) (k : Q (fX30_isPlain w a0) w) : b_K (d + 1) mX30_isPlain [(0, a0)] n w Q X := by
  unfold fX30_isPlain at k
  refine k_of (by decide) rfl rfl rfl (ls := [(0, a0)]) rfl ?_
  refine x_iload_n 0 dX30_isPlain_0 rfl rfl rfl ?_
  refine x_bipush 32 (z := 32) dX30_isPlain_1 rfl (by decide) rfl ?_
  refine x_icmp_lt (t := 16) 13 dX30_isPlain_3 rfl rfl (b_itqv (b_tt _) k (fun hc ok k => ?_) (fun hc ok k => ?_))
  · refine x_iconst 0 (z := 0) dX30_isPlain_16 rfl (by decide) rfl ?_
    exact y_zret dX30_isPlain_17 rfl (by decide) k
  · refine x_iload_n 0 dX30_isPlain_6 rfl rfl rfl ?_
    refine x_bipush 126 (z := 126) dX30_isPlain_7 rfl (by decide) rfl ?_
    refine x_icmp_gt (t := 16) 7 dX30_isPlain_9 rfl rfl (b_itqv (b_tt _) k (fun hc ok k => ?_) (fun hc ok k => ?_))
    · refine x_iconst 0 (z := 0) dX30_isPlain_16 rfl (by decide) rfl ?_
      exact y_zret dX30_isPlain_17 rfl (by decide) k
    · refine x_iconst 1 (z := 1) dX30_isPlain_12 rfl (by decide) rfl ?_
      refine x_goto 4 (q := 17) dX30_isPlain_13 rfl ?_
      exact y_zret dX30_isPlain_17 rfl (by decide) k
def fX30_isLetter (w : bW) (a0 : Int) : Int := (if a0 < 97 then (if a0 < 65 then 0 else (if 90 < a0 then 0 else 1)) else (if a0 ≤ 122 then 1 else (if a0 < 65 then 0 else (if 90 < a0 then 0 else 1))))
theorem vX30_isLetter {d n : Nat} {w : bW} {Q : Int → bW → Prop} {X : String → bW → Prop} (a0 : Int) (k : Q (fX30_isLetter w a0) w) : b_K (d + 1) mX30_isLetter [(0, a0)] n w Q X := by
  unfold fX30_isLetter at k
  refine k_of (by decide) rfl rfl rfl (ls := [(0, a0)]) rfl ?_
  refine x_iload_n 0 dX30_isLetter_0 rfl rfl rfl ?_
  refine x_bipush 97 (z := 97) dX30_isLetter_1 rfl (by decide) rfl ?_
  refine x_icmp_lt (t := 12) 9 dX30_isLetter_3 rfl rfl (b_itqv (b_tt _) k (fun hc ok k => ?_) (fun hc ok k => ?_))
  · refine x_iload_n 0 dX30_isLetter_12 rfl rfl rfl ?_
    refine x_bipush 65 (z := 65) dX30_isLetter_13 rfl (by decide) rfl ?_
    refine x_icmp_lt (t := 28) 13 dX30_isLetter_15 rfl rfl (b_itqv (b_tt _) k (fun hc ok k => ?_) (fun hc ok k => ?_))
    · refine x_iconst 0 (z := 0) dX30_isLetter_28 rfl (by decide) rfl ?_
      exact y_zret dX30_isLetter_29 rfl (by decide) k
    · refine x_iload_n 0 dX30_isLetter_18 rfl rfl rfl ?_
      refine x_bipush 90 (z := 90) dX30_isLetter_19 rfl (by decide) rfl ?_
      refine x_icmp_gt (t := 28) 7 dX30_isLetter_21 rfl rfl (b_itqv (b_tt _) k (fun hc ok k => ?_) (fun hc ok k => ?_))
      · refine x_iconst 0 (z := 0) dX30_isLetter_28 rfl (by decide) rfl ?_
        exact y_zret dX30_isLetter_29 rfl (by decide) k
      · refine x_iconst 1 (z := 1) dX30_isLetter_24 rfl (by decide) rfl ?_
        refine x_goto 4 (q := 29) dX30_isLetter_25 rfl ?_
        exact y_zret dX30_isLetter_29 rfl (by decide) k
  · refine x_iload_n 0 dX30_isLetter_6 rfl rfl rfl ?_
    refine x_bipush 122 (z := 122) dX30_isLetter_7 rfl (by decide) rfl ?_
    refine x_icmp_le (t := 24) 15 dX30_isLetter_9 rfl rfl (b_itqv (b_tt _) k (fun hc ok k => ?_) (fun hc ok k => ?_))
    · refine x_iconst 1 (z := 1) dX30_isLetter_24 rfl (by decide) rfl ?_
      refine x_goto 4 (q := 29) dX30_isLetter_25 rfl ?_
      exact y_zret dX30_isLetter_29 rfl (by decide) k
    · refine x_iload_n 0 dX30_isLetter_12 rfl rfl rfl ?_
      refine x_bipush 65 (z := 65) dX30_isLetter_13 rfl (by decide) rfl ?_
      refine x_icmp_lt (t := 28) 13 dX30_isLetter_15 rfl rfl (b_itqv (b_tt _) k (fun hc ok k => ?_) (fun hc ok k => ?_))
      · refine x_iconst 0 (z := 0) dX30_isLetter_28 rfl (by decide) rfl ?_
        exact y_zret dX30_isLetter_29 rfl (by decide) k
      · refine x_iload_n 0 dX30_isLetter_18 rfl rfl rfl ?_
        refine x_bipush 90 (z := 90) dX30_isLetter_19 rfl (by decide) rfl ?_
        refine x_icmp_gt (t := 28) 7 dX30_isLetter_21 rfl rfl (b_itqv (b_tt _) k (fun hc ok k => ?_) (fun hc ok k => ?_))
        · refine x_iconst 0 (z := 0) dX30_isLetter_28 rfl (by decide) rfl ?_
          exact y_zret dX30_isLetter_29 rfl (by decide) k
        · refine x_iconst 1 (z := 1) dX30_isLetter_24 rfl (by decide) rfl ?_
          refine x_goto 4 (q := 29) dX30_isLetter_25 rfl ?_
          exact y_zret dX30_isLetter_29 rfl (by decide) k
def fX30_isPart (w : bW) (a0 : Int) : Int := (if fX30_isLetter w a0 ≠ 0 then 1 else (if fX30_isDigit w a0 ≠ 0 then 1 else (if a0 ≠ 95 then 0 else 1)))
theorem vX30_isPart {d n : Nat} {w : bW} {Q : Int → bW → Prop} {X : String → bW → Prop} (a0 : Int) (k : Q (fX30_isPart w a0) w) : b_K (d + 2) mX30_isPart [(0, a0)] n w Q X := by
  unfold fX30_isPart at k
  refine k_of (by decide) rfl rfl rfl (ls := [(0, a0)]) rfl ?_
  refine x_iload_n 0 dX30_isPart_0 rfl rfl rfl ?_
  refine y_Si 9 (M := mX30_isLetter) (As := [(0, a0)]) (st := []) dX30_isPart_1 q1726 q1721 q398 q1722 hmX30_isLetter rfl rfl rfl rfl rfl rfl rfl rfl (vX30_isLetter a0 ?_)
  refine x_if_ne (t := 20) 16 dX30_isPart_4 rfl rfl (b_itqv (b_tt _) k (fun hc ok k => ?_) (fun hc ok k => ?_))
  · refine x_iconst 1 (z := 1) dX30_isPart_20 rfl (by decide) rfl ?_
    refine x_goto 4 (q := 25) dX30_isPart_21 rfl ?_
    exact y_zret dX30_isPart_25 rfl (by decide) k
  · refine x_iload_n 0 dX30_isPart_7 rfl rfl rfl ?_
    refine y_Si 15 (M := mX30_isDigit) (As := [(0, a0)]) (st := []) dX30_isPart_8 q1705 q1706 q398 q1707 hmX30_isDigit rfl rfl rfl rfl rfl rfl rfl rfl (vX30_isDigit a0 ?_)
    refine x_if_ne (t := 20) 9 dX30_isPart_11 rfl rfl (b_itqv (b_tt _) k (fun hc ok k => ?_) (fun hc ok k => ?_))
    · refine x_iconst 1 (z := 1) dX30_isPart_20 rfl (by decide) rfl ?_
      refine x_goto 4 (q := 25) dX30_isPart_21 rfl ?_
      exact y_zret dX30_isPart_25 rfl (by decide) k
    · refine x_iload_n 0 dX30_isPart_14 rfl rfl rfl ?_
      refine x_bipush 95 (z := 95) dX30_isPart_15 rfl (by decide) rfl ?_
      refine x_icmp_ne (t := 24) 7 dX30_isPart_17 rfl rfl (b_itqv (b_tt _) k (fun hc ok k => ?_) (fun hc ok k => ?_))
      · refine x_iconst 0 (z := 0) dX30_isPart_24 rfl (by decide) rfl ?_
        exact y_zret dX30_isPart_25 rfl (by decide) k
      · refine x_iconst 1 (z := 1) dX30_isPart_20 rfl (by decide) rfl ?_
        refine x_goto 4 (q := 25) dX30_isPart_21 rfl ?_
        exact y_zret dX30_isPart_25 rfl (by decide) k
def fX4_refuse (w : bW) : Int := (-1)
def gX4_refuse (w : bW) : bW := (if 0 ≤ w 6 13 then w else (b_up w 6 13 (w 7 3)))
theorem vX4_refuse {d n : Nat} {w : bW} {Q : Int → bW → Prop} {X : String → bW → Prop} (hn : 143 ≤ n) (k : Q (fX4_refuse w) (gX4_refuse w)) : b_K (d + 1) mX4_refuse [(2, 6)] n w Q X := by
  have i6 := iz6 (Nat.le_trans (Nat.le_of_ble_eq_true rfl) hn)
  have i7 := iz7 (Nat.le_trans (Nat.le_of_ble_eq_true rfl) hn)
  unfold fX4_refuse gX4_refuse at k
  refine k_of (by decide) rfl rfl rfl (ls := [(2, 6)]) rfl ?_
  refine x_aload_n 0 dX4_refuse_0 rfl rfl rfl rfl rfl ?_
  refine y_get 67 13 (c := 3) (z := w 6 13) dX4_refuse_1 i6 rfl in_X4 q688 rfl rfl rfl rfl rfl ?_
  refine x_if_ge (t := 18) 14 dX4_refuse_4 rfl rfl (b_itqw (b_tt _) k (fun hc ok k => ?_) (fun hc ok k => ?_))
  · refine x_iconst (-1) (z := (-1)) dX4_refuse_18 rfl (by decide) rfl ?_
    exact y_iret dX4_refuse_19 rfl k
  · refine x_aload_n 0 dX4_refuse_7 rfl rfl rfl rfl rfl ?_
    refine x_aload_n 0 dX4_refuse_8 rfl rfl rfl rfl rfl ?_
    refine y_getF 12 1 (c := 3) (z := 7) dX4_refuse_9 i6 rfl in_X4 q651 rfl rfl rfl fn_6_1 (Nat.le_trans (Nat.le_of_ble_eq_true rfl) hn) rfl ?_
    refine y_get 85 3 (c := 4) (z := w 7 3) dX4_refuse_12 i7 rfl in_X5 q605 rfl rfl rfl rfl rfl ?_
    refine x_put 67 13 (c := 3) dX4_refuse_15 i6 rfl in_X4 tyX4_ok nmX4 q688 rfl rfl rfl (Or.inl rfl) (Or.inl ⟨rfl, rfl⟩) rfl ?_
    refine x_iconst (-1) (z := (-1)) dX4_refuse_18 rfl (by decide) rfl ?_
    exact y_iret dX4_refuse_19 rfl k
def fX4_begin (w : bW) (a1 : Int) (a2 : Int) : Int := (if w 6 12 = 4096 then fX4_refuse w else (if a2 < 60 then w 6 12 else fX4_refuse w))
def gX4_begin (w : bW) (a1 : Int) (a2 : Int) : bW := (if w 6 12 = 4096 then (gX4_refuse w) else (if a2 < 60 then (b_up (b_up (b_up (b_up (b_up (b_up (b_up (b_up (b_up (b_up w 6 12 (b_i ((w 6 12) + 1))) 10 (w 6 12) (b_b8 a1)) 11 (w 6 12) (-1)) 12 (w 6 12) (w 7 3)) 13 (w 6 12) (w 7 4)) 14 (w 6 12) 0) 15 (w 6 12) 0) 16 (w 6 12) (-1)) 17 (w 6 12) (-1)) 18 (w 6 12) 0) else (gX4_refuse w)))
def oX4_begin (n : Nat) (w : bW) (a1 : Int) (a2 : Int) : Prop := if w 6 12 = 4096 then True else (if a2 < 60 then ((0 ≤ w 6 12 ∧ w 6 12 < 4096) ∧ ((0 ≤ w 6 12 ∧ w 6 12 < 4096) ∧ ((0 ≤ w 6 12 ∧ w 6 12 < 4096) ∧ ((0 ≤ w 6 12 ∧ w 6 12 < 4096) ∧ ((0 ≤ w 6 12 ∧ w 6 12 < 4096) ∧ ((0 ≤ w 6 12 ∧ w 6 12 < 4096) ∧ ((0 ≤ w 6 12 ∧ w 6 12 < 4096) ∧ ((0 ≤ w 6 12 ∧ w 6 12 < 4096) ∧ ((0 ≤ w 6 12 ∧ w 6 12 < 4096) ∧ (True)))))))))) else True)
theorem vX4_begin {d n : Nat} {w : bW} {Q : Int → bW → Prop} {X : String → bW → Prop} (hn : 143 ≤ n) (a1 : Int) (a2 : Int) (ok : oX4_begin n w a1 a2) (k : Q (fX4_begin w a1 a2) (gX4_begin w a1 a2)) : b_K (d + 2) mX4_begin [(2, 6), (0, a1), (0, a2)] n w Q X := by
  have i6 := iz6 (Nat.le_trans (Nat.le_of_ble_eq_true rfl) hn)
  have i7 := iz7 (Nat.le_trans (Nat.le_of_ble_eq_true rfl) hn)
  have i10 := iz10 (Nat.le_trans (Nat.le_of_ble_eq_true rfl) hn)
  have i11 := iz11 (Nat.le_trans (Nat.le_of_ble_eq_true rfl) hn)
  have i12 := iz12 (Nat.le_trans (Nat.le_of_ble_eq_true rfl) hn)
  have i13 := iz13 (Nat.le_trans (Nat.le_of_ble_eq_true rfl) hn)
  have i14 := iz14 (Nat.le_trans (Nat.le_of_ble_eq_true rfl) hn)
  have i15 := iz15 (Nat.le_trans (Nat.le_of_ble_eq_true rfl) hn)
  have i16 := iz16 (Nat.le_trans (Nat.le_of_ble_eq_true rfl) hn)
  have i17 := iz17 (Nat.le_trans (Nat.le_of_ble_eq_true rfl) hn)
  have i18 := iz18 (Nat.le_trans (Nat.le_of_ble_eq_true rfl) hn)
  unfold fX4_begin gX4_begin at k
  unfold oX4_begin at ok
  refine k_of (by decide) rfl rfl rfl (ls := [(2, 6), (0, a1), (0, a2), (9, 0)]) rfl ?_
  refine x_aload_n 0 dX4_begin_0 rfl rfl rfl rfl rfl ?_
  refine y_get 63 12 (c := 3) (z := w 6 12) dX4_begin_1 i6 rfl in_X4 q686 rfl rfl rfl rfl rfl ?_
  refine x_sipush 4096 (z := 4096) dX4_begin_4 rfl (by decide) rfl ?_
  refine x_icmp_eq (t := 16) 9 dX4_begin_7 rfl rfl (b_itq ok k (fun hc ok k => ?_) (fun hc ok k => ?_))
  · refine x_aload_n 0 dX4_begin_16 rfl rfl rfl rfl rfl ?_
    refine y_Vi 81 (M := mX4_refuse) (As := []) (st := []) dX4_begin_17 i6 rfl q1767 q1769 qs13 q371 q1770 rfl hmX4_refuse rfl rfl rfl rfl rfl rfl rfl rfl (vX4_refuse (Nat.le_trans (Nat.le_of_ble_eq_true rfl) hn) ?_)
    exact y_iret dX4_begin_20 rfl k
  · refine x_iload_n 2 dX4_begin_10 rfl rfl rfl ?_
    refine x_bipush 60 (z := 60) dX4_begin_11 rfl (by decide) rfl ?_
    refine x_icmp_lt (t := 21) 8 dX4_begin_13 rfl rfl (b_itq ok k (fun hc ok k => ?_) (fun hc ok k => ?_))
    · refine x_aload_n 0 dX4_begin_21 rfl rfl rfl rfl rfl ?_
      refine x_dup dX4_begin_22 rfl rfl ?_
      refine y_get 63 12 (c := 3) (z := w 6 12) dX4_begin_23 i6 rfl in_X4 q686 rfl rfl rfl rfl rfl ?_
      refine x_dup_x1 dX4_begin_26 rfl rfl rfl ?_
      refine x_iconst 1 (z := 1) dX4_begin_27 rfl (by decide) rfl ?_
      refine x_iadd dX4_begin_28 rfl ?_
      refine x_put 63 12 (c := 3) dX4_begin_29 i6 rfl in_X4 tyX4_ok nmX4 q686 rfl rfl rfl (Or.inl rfl) (Or.inl ⟨rfl, rfl⟩) rfl ?_
      refine x_istore_n 3 (ls' := [(2, 6), (0, a1), (0, a2), (0, w 6 12)]) dX4_begin_32 rfl rfl rfl rfl ?_
      refine x_aload_n 0 dX4_begin_33 rfl rfl rfl rfl rfl ?_
      refine y_getF 27 3 (c := 3) (z := 10) dX4_begin_34 i6 rfl in_X4 q653 rfl rfl rfl fn_6_3 (Nat.le_trans (Nat.le_of_ble_eq_true rfl) hn) rfl ?_
      refine x_iload_n 3 dX4_begin_37 rfl rfl rfl ?_
      refine x_iload_n 1 dX4_begin_38 rfl rfl rfl ?_
      refine x_i2b dX4_begin_39 rfl ?_
      obtain ⟨e3, ok⟩ := ok
      refine y_bast (x' := b_b8 a1) dX4_begin_40 ⟨4096, i10, e3⟩ (b_b8_i _) rfl ?_
      refine x_aload_n 0 dX4_begin_41 rfl rfl rfl rfl rfl ?_
      refine y_getF 31 4 (c := 3) (z := 11) dX4_begin_42 i6 rfl in_X4 q657 rfl rfl rfl fn_6_4 (Nat.le_trans (Nat.le_of_ble_eq_true rfl) hn) rfl ?_
      refine x_iload_n 3 dX4_begin_45 rfl rfl rfl ?_
      refine x_iconst (-1) (z := (-1)) dX4_begin_46 rfl (by decide) rfl ?_
      obtain ⟨e4, ok⟩ := ok
      refine y_bast (x' := (-1)) dX4_begin_47 ⟨4096, i11, e4⟩ (by decide) rfl ?_
      refine x_aload_n 0 dX4_begin_48 rfl rfl rfl rfl rfl ?_
      refine y_getF 34 5 (c := 3) (z := 12) dX4_begin_49 i6 rfl in_X4 q661 rfl rfl rfl fn_6_5 (Nat.le_trans (Nat.le_of_ble_eq_true rfl) hn) rfl ?_
      refine x_iload_n 3 dX4_begin_52 rfl rfl rfl ?_
      refine x_aload_n 0 dX4_begin_53 rfl rfl rfl rfl rfl ?_
      refine y_getF 12 1 (c := 3) (z := 7) dX4_begin_54 i6 rfl in_X4 q651 rfl rfl rfl fn_6_1 (Nat.le_trans (Nat.le_of_ble_eq_true rfl) hn) rfl ?_
      refine y_get 85 3 (c := 4) (z := w 7 3) dX4_begin_57 i7 rfl in_X5 q605 rfl rfl rfl rfl rfl ?_
      obtain ⟨e5, ok⟩ := ok
      refine y_iast (x' := w 7 3) dX4_begin_60 ⟨4096, i12, e5⟩ rfl rfl ?_
      refine x_aload_n 0 dX4_begin_61 rfl rfl rfl rfl rfl ?_
      refine y_getF 38 6 (c := 3) (z := 13) dX4_begin_62 i6 rfl in_X4 q664 rfl rfl rfl fn_6_6 (Nat.le_trans (Nat.le_of_ble_eq_true rfl) hn) rfl ?_
      refine x_iload_n 3 dX4_begin_65 rfl rfl rfl ?_
      refine x_aload_n 0 dX4_begin_66 rfl rfl rfl rfl rfl ?_
      refine y_getF 12 1 (c := 3) (z := 7) dX4_begin_67 i6 rfl in_X4 q651 rfl rfl rfl fn_6_1 (Nat.le_trans (Nat.le_of_ble_eq_true rfl) hn) rfl ?_
      refine y_get 112 4 (c := 4) (z := w 7 4) dX4_begin_70 i7 rfl in_X5 q608 rfl rfl rfl rfl rfl ?_
      obtain ⟨e6, ok⟩ := ok
      refine y_iast (x' := w 7 4) dX4_begin_73 ⟨4096, i13, e6⟩ rfl rfl ?_
      refine x_aload_n 0 dX4_begin_74 rfl rfl rfl rfl rfl ?_
      refine y_getF 41 7 (c := 3) (z := 14) dX4_begin_75 i6 rfl in_X4 q667 rfl rfl rfl fn_6_7 (Nat.le_trans (Nat.le_of_ble_eq_true rfl) hn) rfl ?_
      refine x_iload_n 3 dX4_begin_78 rfl rfl rfl ?_
      refine x_iconst 0 (z := 0) dX4_begin_79 rfl (by decide) rfl ?_
      obtain ⟨e7, ok⟩ := ok
      refine y_iast (x' := 0) dX4_begin_80 ⟨4096, i14, e7⟩ rfl rfl ?_
      refine x_aload_n 0 dX4_begin_81 rfl rfl rfl rfl rfl ?_
      refine y_getF 44 8 (c := 3) (z := 15) dX4_begin_82 i6 rfl in_X4 q670 rfl rfl rfl fn_6_8 (Nat.le_trans (Nat.le_of_ble_eq_true rfl) hn) rfl ?_
      refine x_iload_n 3 dX4_begin_85 rfl rfl rfl ?_
      refine x_iconst 0 (z := 0) dX4_begin_86 rfl (by decide) rfl ?_
      obtain ⟨e8, ok⟩ := ok
      refine y_iast (x' := 0) dX4_begin_87 ⟨4096, i15, e8⟩ rfl rfl ?_
      refine x_aload_n 0 dX4_begin_88 rfl rfl rfl rfl rfl ?_
      refine y_getF 47 9 (c := 3) (z := 16) dX4_begin_89 i6 rfl in_X4 q672 rfl rfl rfl fn_6_9 (Nat.le_trans (Nat.le_of_ble_eq_true rfl) hn) rfl ?_
      refine x_iload_n 3 dX4_begin_92 rfl rfl rfl ?_
      refine x_iconst (-1) (z := (-1)) dX4_begin_93 rfl (by decide) rfl ?_
      obtain ⟨e9, ok⟩ := ok
      refine y_iast (x' := (-1)) dX4_begin_94 ⟨4096, i16, e9⟩ rfl rfl ?_
      refine x_aload_n 0 dX4_begin_95 rfl rfl rfl rfl rfl ?_
      refine y_getF 50 10 (c := 3) (z := 17) dX4_begin_96 i6 rfl in_X4 q676 rfl rfl rfl fn_6_10 (Nat.le_trans (Nat.le_of_ble_eq_true rfl) hn) rfl ?_
      refine x_iload_n 3 dX4_begin_99 rfl rfl rfl ?_
      refine x_iconst (-1) (z := (-1)) dX4_begin_100 rfl (by decide) rfl ?_
      obtain ⟨e10, ok⟩ := ok
      refine y_iast (x' := (-1)) dX4_begin_101 ⟨4096, i17, e10⟩ rfl rfl ?_
      refine x_aload_n 0 dX4_begin_102 rfl rfl rfl rfl rfl ?_
      refine y_getF 53 11 (c := 3) (z := 18) dX4_begin_103 i6 rfl in_X4 q680 rfl rfl rfl fn_6_11 (Nat.le_trans (Nat.le_of_ble_eq_true rfl) hn) rfl ?_
      refine x_iload_n 3 dX4_begin_106 rfl rfl rfl ?_
      refine x_iconst 0 (z := 0) dX4_begin_107 rfl (by decide) rfl ?_
      obtain ⟨e11, ok⟩ := ok
      refine y_iast (x' := 0) dX4_begin_108 ⟨4096, i18, e11⟩ rfl rfl ?_
      refine x_iload_n 3 dX4_begin_109 rfl rfl rfl ?_
      exact y_iret dX4_begin_110 rfl k
    · refine x_aload_n 0 dX4_begin_16 rfl rfl rfl rfl rfl ?_
      refine y_Vi 81 (M := mX4_refuse) (As := []) (st := []) dX4_begin_17 i6 rfl q1767 q1769 qs13 q371 q1770 rfl hmX4_refuse rfl rfl rfl rfl rfl rfl rfl rfl (vX4_refuse (Nat.le_trans (Nat.le_of_ble_eq_true rfl) hn) ?_)
      exact y_iret dX4_begin_20 rfl k
def fX4_isArgument (w : bW) : Int := (if w 7 2 = 2 then 1 else (if w 7 2 = 3 then 1 else (if w 7 2 = 4 then 1 else (if w 7 2 = 5 then 1 else (if w 7 2 = 123 then 1 else (if w 7 2 ≠ 40 then 0 else 1))))))
theorem vX4_isArgument {d n : Nat} {w : bW} {Q : Int → bW → Prop} {X : String → bW → Prop} (hn : 143 ≤ n) (k : Q (fX4_isArgument w) w) : b_K (d + 1) mX4_isArgument [(2, 6)] n w Q X := by
  have i6 := iz6 (Nat.le_trans (Nat.le_of_ble_eq_true rfl) hn)
  have i7 := iz7 (Nat.le_trans (Nat.le_of_ble_eq_true rfl) hn)
  unfold fX4_isArgument at k
  refine k_of (by decide) rfl rfl rfl (ls := [(2, 6), (9, 0)]) rfl ?_
  refine x_aload_n 0 dX4_isArgument_0 rfl rfl rfl rfl rfl ?_
  refine y_getF 12 1 (c := 3) (z := 7) dX4_isArgument_1 i6 rfl in_X4 q651 rfl rfl rfl fn_6_1 (Nat.le_trans (Nat.le_of_ble_eq_true rfl) hn) rfl ?_
  refine y_get 78 2 (c := 4) (z := w 7 2) dX4_isArgument_4 i7 rfl in_X5 q603 rfl rfl rfl rfl rfl ?_
  refine x_istore_n 1 (ls' := [(2, 6), (0, w 7 2)]) dX4_isArgument_7 rfl rfl rfl rfl ?_
  refine x_iload_n 1 dX4_isArgument_8 rfl rfl rfl ?_
  refine x_iconst 2 (z := 2) dX4_isArgument_9 rfl (by decide) rfl ?_
  refine x_icmp_eq (t := 40) 30 dX4_isArgument_10 rfl rfl (b_itqv (b_tt _) k (fun hc ok k => ?_) (fun hc ok k => ?_))
  · refine x_iconst 1 (z := 1) dX4_isArgument_40 rfl (by decide) rfl ?_
    refine x_goto 4 (q := 45) dX4_isArgument_41 rfl ?_
    exact y_zret dX4_isArgument_45 rfl (by decide) k
  · refine x_iload_n 1 dX4_isArgument_13 rfl rfl rfl ?_
    refine x_iconst 3 (z := 3) dX4_isArgument_14 rfl (by decide) rfl ?_
    refine x_icmp_eq (t := 40) 25 dX4_isArgument_15 rfl rfl (b_itqv (b_tt _) k (fun hc ok k => ?_) (fun hc ok k => ?_))
    · refine x_iconst 1 (z := 1) dX4_isArgument_40 rfl (by decide) rfl ?_
      refine x_goto 4 (q := 45) dX4_isArgument_41 rfl ?_
      exact y_zret dX4_isArgument_45 rfl (by decide) k
    · refine x_iload_n 1 dX4_isArgument_18 rfl rfl rfl ?_
      refine x_iconst 4 (z := 4) dX4_isArgument_19 rfl (by decide) rfl ?_
      refine x_icmp_eq (t := 40) 20 dX4_isArgument_20 rfl rfl (b_itqv (b_tt _) k (fun hc ok k => ?_) (fun hc ok k => ?_))
      · refine x_iconst 1 (z := 1) dX4_isArgument_40 rfl (by decide) rfl ?_
        refine x_goto 4 (q := 45) dX4_isArgument_41 rfl ?_
        exact y_zret dX4_isArgument_45 rfl (by decide) k
      · refine x_iload_n 1 dX4_isArgument_23 rfl rfl rfl ?_
        refine x_iconst 5 (z := 5) dX4_isArgument_24 rfl (by decide) rfl ?_
        refine x_icmp_eq (t := 40) 15 dX4_isArgument_25 rfl rfl (b_itqv (b_tt _) k (fun hc ok k => ?_) (fun hc ok k => ?_))
        · refine x_iconst 1 (z := 1) dX4_isArgument_40 rfl (by decide) rfl ?_
          refine x_goto 4 (q := 45) dX4_isArgument_41 rfl ?_
          exact y_zret dX4_isArgument_45 rfl (by decide) k
        · refine x_iload_n 1 dX4_isArgument_28 rfl rfl rfl ?_
          refine x_bipush 123 (z := 123) dX4_isArgument_29 rfl (by decide) rfl ?_
          refine x_icmp_eq (t := 40) 9 dX4_isArgument_31 rfl rfl (b_itqv (b_tt _) k (fun hc ok k => ?_) (fun hc ok k => ?_))
          · refine x_iconst 1 (z := 1) dX4_isArgument_40 rfl (by decide) rfl ?_
            refine x_goto 4 (q := 45) dX4_isArgument_41 rfl ?_
            exact y_zret dX4_isArgument_45 rfl (by decide) k
          · refine x_iload_n 1 dX4_isArgument_34 rfl rfl rfl ?_
            refine x_bipush 40 (z := 40) dX4_isArgument_35 rfl (by decide) rfl ?_
            refine x_icmp_ne (t := 44) 7 dX4_isArgument_37 rfl rfl (b_itqv (b_tt _) k (fun hc ok k => ?_) (fun hc ok k => ?_))
            · refine x_iconst 0 (z := 0) dX4_isArgument_44 rfl (by decide) rfl ?_
              exact y_zret dX4_isArgument_45 rfl (by decide) k
            · refine x_iconst 1 (z := 1) dX4_isArgument_40 rfl (by decide) rfl ?_
              refine x_goto 4 (q := 45) dX4_isArgument_41 rfl ?_
              exact y_zret dX4_isArgument_45 rfl (by decide) k
def fX4_link (w : bW) (a1 : Int) (a2 : Int) (a3 : Int) : Int := a3
def gX4_link (w : bW) (a1 : Int) (a2 : Int) (a3 : Int) : bW := (if a3 < 0 then w else (if 0 ≤ a2 then (b_up (b_up w 17 a2 a3) 18 a1 (b_i ((w 18 a1) + 1))) else (b_up (b_up w 16 a1 a3) 18 a1 (b_i ((w 18 a1) + 1)))))
def oX4_link (n : Nat) (w : bW) (a1 : Int) (a2 : Int) (a3 : Int) : Prop := if a3 < 0 then True else (if 0 ≤ a2 then ((0 ≤ a2 ∧ a2 < 4096) ∧ ((0 ≤ a1 ∧ a1 < 4096) ∧ (True))) else ((0 ≤ a1 ∧ a1 < 4096) ∧ ((0 ≤ a1 ∧ a1 < 4096) ∧ (True))))
theorem vX4_link {d n : Nat} {w : bW} {Q : Int → bW → Prop} {X : String → bW → Prop} (hn : 143 ≤ n) (a1 : Int) (a2 : Int) (a3 : Int) (ok : oX4_link n w a1 a2 a3) (k : Q (fX4_link w a1 a2 a3) (gX4_link w a1 a2 a3)) : b_K (d + 1) mX4_link [(2, 6), (0, a1), (0, a2), (0, a3)] n w Q X := by
  have i6 := iz6 (Nat.le_trans (Nat.le_of_ble_eq_true rfl) hn)
  have i16 := iz16 (Nat.le_trans (Nat.le_of_ble_eq_true rfl) hn)
  have i17 := iz17 (Nat.le_trans (Nat.le_of_ble_eq_true rfl) hn)
  have i18 := iz18 (Nat.le_trans (Nat.le_of_ble_eq_true rfl) hn)
  unfold fX4_link gX4_link at k
  unfold oX4_link at ok
  refine k_of (by decide) rfl rfl rfl (ls := [(2, 6), (0, a1), (0, a2), (0, a3)]) rfl ?_
  refine x_iload_n 3 dX4_link_0 rfl rfl rfl ?_
  refine x_if_lt (t := 35) 34 dX4_link_1 rfl rfl (b_itqw ok k (fun hc ok k => ?_) (fun hc ok k => ?_))
  · refine x_iload_n 3 dX4_link_35 rfl rfl rfl ?_
    exact y_iret dX4_link_36 rfl k
  · refine x_iload_n 2 dX4_link_4 rfl rfl rfl ?_
    refine x_if_ge (t := 18) 13 dX4_link_5 rfl rfl (b_itqw ok k (fun hc ok k => ?_) (fun hc ok k => ?_))
    · refine x_aload_n 0 dX4_link_18 rfl rfl rfl rfl rfl ?_
      refine y_getF 50 10 (c := 3) (z := 17) dX4_link_19 i6 rfl in_X4 q676 rfl rfl rfl fn_6_10 (Nat.le_trans (Nat.le_of_ble_eq_true rfl) hn) rfl ?_
      refine x_iload_n 2 dX4_link_22 rfl rfl rfl ?_
      refine x_iload_n 3 dX4_link_23 rfl rfl rfl ?_
      obtain ⟨e1, ok⟩ := ok
      refine y_iast (x' := a3) dX4_link_24 ⟨4096, i17, e1⟩ rfl rfl ?_
      refine x_aload_n 0 dX4_link_25 rfl rfl rfl rfl rfl ?_
      refine y_getF 53 11 (c := 3) (z := 18) dX4_link_26 i6 rfl in_X4 q680 rfl rfl rfl fn_6_11 (Nat.le_trans (Nat.le_of_ble_eq_true rfl) hn) rfl ?_
      refine x_iload_n 1 dX4_link_29 rfl rfl rfl ?_
      refine x_dup2 dX4_link_30 rfl rfl rfl ?_
      obtain ⟨e2, ok⟩ := ok
      refine y_iald (z := w 18 a1) dX4_link_31 ⟨4096, i18, e2⟩ rfl rfl ?_
      refine x_iconst 1 (z := 1) dX4_link_32 rfl (by decide) rfl ?_
      refine x_iadd dX4_link_33 rfl ?_
      refine y_iast (x' := b_i ((w 18 a1) + 1)) dX4_link_34 ⟨4096, i18, e2⟩ rfl rfl ?_
      refine x_iload_n 3 dX4_link_35 rfl rfl rfl ?_
      exact y_iret dX4_link_36 rfl k
    · refine x_aload_n 0 dX4_link_8 rfl rfl rfl rfl rfl ?_
      refine y_getF 47 9 (c := 3) (z := 16) dX4_link_9 i6 rfl in_X4 q672 rfl rfl rfl fn_6_9 (Nat.le_trans (Nat.le_of_ble_eq_true rfl) hn) rfl ?_
      refine x_iload_n 1 dX4_link_12 rfl rfl rfl ?_
      refine x_iload_n 3 dX4_link_13 rfl rfl rfl ?_
      obtain ⟨e3, ok⟩ := ok
      refine y_iast (x' := a3) dX4_link_14 ⟨4096, i16, e3⟩ rfl rfl ?_
      refine x_goto 10 (q := 25) dX4_link_15 rfl ?_
      refine x_aload_n 0 dX4_link_25 rfl rfl rfl rfl rfl ?_
      refine y_getF 53 11 (c := 3) (z := 18) dX4_link_26 i6 rfl in_X4 q680 rfl rfl rfl fn_6_11 (Nat.le_trans (Nat.le_of_ble_eq_true rfl) hn) rfl ?_
      refine x_iload_n 1 dX4_link_29 rfl rfl rfl ?_
      refine x_dup2 dX4_link_30 rfl rfl rfl ?_
      obtain ⟨e4, ok⟩ := ok
      refine y_iald (z := w 18 a1) dX4_link_31 ⟨4096, i18, e4⟩ rfl rfl ?_
      refine x_iconst 1 (z := 1) dX4_link_32 rfl (by decide) rfl ?_
      refine x_iadd dX4_link_33 rfl ?_
      refine y_iast (x' := b_i ((w 18 a1) + 1)) dX4_link_34 ⟨4096, i18, e4⟩ rfl rfl ?_
      refine x_iload_n 3 dX4_link_35 rfl rfl rfl ?_
      exact y_iret dX4_link_36 rfl k
def fX4_isSequence (w : bW) (a1 : Int) : Int := (if w 10 a1 ≠ 7 then 0 else 1)
def oX4_isSequence (n : Nat) (w : bW) (a1 : Int) : Prop := (0 ≤ a1 ∧ a1 < 4096) ∧ (True)
theorem vX4_isSequence {d n : Nat} {w : bW} {Q : Int → bW → Prop} {X : String → bW → Prop} (hn : 143 ≤ n) (a1 : Int) (ok : oX4_isSequence n w a1) (k : Q (fX4_isSequence w a1) w) : b_K (d + 1) mX4_isSequence [(2, 6), (0, a1)] n w Q X := by
  have i6 := iz6 (Nat.le_trans (Nat.le_of_ble_eq_true rfl) hn)
  have i10 := iz10 (Nat.le_trans (Nat.le_of_ble_eq_true rfl) hn)
  unfold fX4_isSequence at k
  unfold oX4_isSequence at ok
  refine k_of (by decide) rfl rfl rfl (ls := [(2, 6), (0, a1)]) rfl ?_
  refine x_aload_n 0 dX4_isSequence_0 rfl rfl rfl rfl rfl ?_
  refine y_getF 27 3 (c := 3) (z := 10) dX4_isSequence_1 i6 rfl in_X4 q653 rfl rfl rfl fn_6_3 (Nat.le_trans (Nat.le_of_ble_eq_true rfl) hn) rfl ?_
  refine x_iload_n 1 dX4_isSequence_4 rfl rfl rfl ?_
  obtain ⟨e1, ok⟩ := ok
  refine y_bald (z := w 10 a1) dX4_isSequence_5 ⟨4096, i10, e1⟩ rfl rfl ?_
  refine x_bipush 7 (z := 7) dX4_isSequence_6 rfl (by decide) rfl ?_
  refine x_icmp_ne (t := 15) 7 dX4_isSequence_8 rfl rfl (b_itqv (b_tt _) k (fun hc ok k => ?_) (fun hc ok k => ?_))
  · refine x_iconst 0 (z := 0) dX4_isSequence_15 rfl (by decide) rfl ?_
    exact y_zret dX4_isSequence_16 rfl (by decide) k
  · refine x_iconst 1 (z := 1) dX4_isSequence_11 rfl (by decide) rfl ?_
    refine x_goto 4 (q := 16) dX4_isSequence_12 rfl ?_
    exact y_zret dX4_isSequence_16 rfl (by decide) k
def fX4_is (w : bW) (a1 : Int) (a2 : Int) (a3 : Int) : Int := (if w 10 a1 ≠ 8 then 0 else (if w 11 a1 ≠ a2 then 0 else (if w 18 a1 ≠ a3 then 0 else 1)))
def oX4_is (n : Nat) (w : bW) (a1 : Int) (a2 : Int) (a3 : Int) : Prop := (0 ≤ a1 ∧ a1 < 4096) ∧ (if w 10 a1 ≠ 8 then True else ((0 ≤ a1 ∧ a1 < 4096) ∧ (if w 11 a1 ≠ a2 then True else ((0 ≤ a1 ∧ a1 < 4096) ∧ (True)))))
theorem vX4_is {d n : Nat} {w : bW} {Q : Int → bW → Prop} {X : String → bW → Prop} (hn : 143 ≤ n) (a1 : Int) (a2 : Int) (a3 : Int) (ok : oX4_is n w a1 a2 a3) (k : Q (fX4_is w a1 a2 a3) w) : b_K (d + 1) mX4_is [(2, 6), (0, a1), (0, a2), (0, a3)] n w Q X := by
  have i6 := iz6 (Nat.le_trans (Nat.le_of_ble_eq_true rfl) hn)
  have i10 := iz10 (Nat.le_trans (Nat.le_of_ble_eq_true rfl) hn)
  have i11 := iz11 (Nat.le_trans (Nat.le_of_ble_eq_true rfl) hn)
  have i18 := iz18 (Nat.le_trans (Nat.le_of_ble_eq_true rfl) hn)
  unfold fX4_is at k
  unfold oX4_is at ok
  refine k_of (by decide) rfl rfl rfl (ls := [(2, 6), (0, a1), (0, a2), (0, a3)]) rfl ?_
  refine x_aload_n 0 dX4_is_0 rfl rfl rfl rfl rfl ?_
  refine y_getF 27 3 (c := 3) (z := 10) dX4_is_1 i6 rfl in_X4 q653 rfl rfl rfl fn_6_3 (Nat.le_trans (Nat.le_of_ble_eq_true rfl) hn) rfl ?_
  refine x_iload_n 1 dX4_is_4 rfl rfl rfl ?_
  obtain ⟨e1, ok⟩ := ok
  refine y_bald (z := w 10 a1) dX4_is_5 ⟨4096, i10, e1⟩ rfl rfl ?_
  refine x_bipush 8 (z := 8) dX4_is_6 rfl (by decide) rfl ?_
  refine x_icmp_ne (t := 35) 27 dX4_is_8 rfl rfl (b_itqv ok k (fun hc ok k => ?_) (fun hc ok k => ?_))
  · refine x_iconst 0 (z := 0) dX4_is_35 rfl (by decide) rfl ?_
    exact y_zret dX4_is_36 rfl (by decide) k
  · refine x_aload_n 0 dX4_is_11 rfl rfl rfl rfl rfl ?_
    refine y_getF 31 4 (c := 3) (z := 11) dX4_is_12 i6 rfl in_X4 q657 rfl rfl rfl fn_6_4 (Nat.le_trans (Nat.le_of_ble_eq_true rfl) hn) rfl ?_
    refine x_iload_n 1 dX4_is_15 rfl rfl rfl ?_
    obtain ⟨e2, ok⟩ := ok
    refine y_bald (z := w 11 a1) dX4_is_16 ⟨4096, i11, e2⟩ rfl rfl ?_
    refine x_iload_n 2 dX4_is_17 rfl rfl rfl ?_
    refine x_icmp_ne (t := 35) 17 dX4_is_18 rfl rfl (b_itqv ok k (fun hc ok k => ?_) (fun hc ok k => ?_))
    · refine x_iconst 0 (z := 0) dX4_is_35 rfl (by decide) rfl ?_
      exact y_zret dX4_is_36 rfl (by decide) k
    · refine x_aload_n 0 dX4_is_21 rfl rfl rfl rfl rfl ?_
      refine y_getF 53 11 (c := 3) (z := 18) dX4_is_22 i6 rfl in_X4 q680 rfl rfl rfl fn_6_11 (Nat.le_trans (Nat.le_of_ble_eq_true rfl) hn) rfl ?_
      refine x_iload_n 1 dX4_is_25 rfl rfl rfl ?_
      obtain ⟨e3, ok⟩ := ok
      refine y_iald (z := w 18 a1) dX4_is_26 ⟨4096, i18, e3⟩ rfl rfl ?_
      refine x_iload_n 3 dX4_is_27 rfl rfl rfl ?_
      refine x_icmp_ne (t := 35) 7 dX4_is_28 rfl rfl (b_itqv (b_tt _) k (fun hc ok k => ?_) (fun hc ok k => ?_))
      · refine x_iconst 0 (z := 0) dX4_is_35 rfl (by decide) rfl ?_
        exact y_zret dX4_is_36 rfl (by decide) k
      · refine x_iconst 1 (z := 1) dX4_is_31 rfl (by decide) rfl ?_
        refine x_goto 4 (q := 36) dX4_is_32 rfl ?_
        exact y_zret dX4_is_36 rfl (by decide) k
def fX4_text (w : bW) : Int := w 7 0
theorem vX4_text {d n : Nat} {w : bW} {Q : Int → bW → Prop} {X : String → bW → Prop} (hn : 143 ≤ n) (k : Q (fX4_text w) w) : b_K (d + 1) mX4_text [(2, 6)] n w Q X := by
  have i6 := iz6 (Nat.le_trans (Nat.le_of_ble_eq_true rfl) hn)
  have i7 := iz7 (Nat.le_trans (Nat.le_of_ble_eq_true rfl) hn)
  unfold fX4_text at k
  refine k_of (by decide) rfl rfl rfl (ls := [(2, 6)]) rfl ?_
  refine x_aload_n 0 dX4_text_0 rfl rfl rfl rfl rfl ?_
  refine y_getF 12 1 (c := 3) (z := 7) dX4_text_1 i6 rfl in_X4 q651 rfl rfl rfl fn_6_1 (Nat.le_trans (Nat.le_of_ble_eq_true rfl) hn) rfl ?_
  refine y_get 60 0 (c := 4) (z := w 7 0) dX4_text_4 i7 rfl in_X5 q601 rfl rfl rfl rfl rfl ?_
  exact y_aret dX4_text_7 rfl (Or.inr ⟨_, rfl⟩) k
def fX5_at (w : bW) (a1 : Int) : Int := (if w 7 1 ≤ a1 then (-1) else b_and (w (w 7 0) a1) 255)
def oX5_at (n : Nat) (w : bW) (a1 : Int) : Prop := if w 7 1 ≤ a1 then True else (b_ai n (w 7 0) 1 1 a1 ∧ (True))
theorem vX5_at {d n : Nat} {w : bW} {Q : Int → bW → Prop} {X : String → bW → Prop} (hn : 8 ≤ n) (a1 : Int) (ok : oX5_at n w a1) (k : Q (fX5_at w a1) w) : b_K (d + 1) mX5_at [(2, 7), (0, a1)] n w Q X := by
  have i7 := iz7 (Nat.le_trans (Nat.le_of_ble_eq_true rfl) hn)
  unfold fX5_at at k
  unfold oX5_at at ok
  refine k_of (by decide) rfl rfl rfl (ls := [(2, 7), (0, a1)]) rfl ?_
  refine x_iload_n 1 dX5_at_0 rfl rfl rfl ?_
  refine x_aload_n 0 dX5_at_1 rfl rfl rfl rfl rfl ?_
  refine y_get 15 1 (c := 4) (z := w 7 1) dX5_at_2 i7 rfl in_X5 q602 rfl rfl rfl rfl rfl ?_
  refine x_icmp_ge (t := 21) 16 dX5_at_5 rfl rfl (b_itqv ok k (fun hc ok k => ?_) (fun hc ok k => ?_))
  · refine x_iconst (-1) (z := (-1)) dX5_at_21 rfl (by decide) rfl ?_
    exact y_iret dX5_at_22 rfl k
  · refine x_aload_n 0 dX5_at_8 rfl rfl rfl rfl rfl ?_
    refine y_get 9 0 (c := 4) (z := w 7 0) dX5_at_9 i7 rfl in_X5 q600 rfl rfl rfl rfl rfl ?_
    refine x_iload_n 1 dX5_at_12 rfl rfl rfl ?_
    obtain ⟨e1, ok⟩ := ok
    refine y_bald (z := w (w 7 0) a1) dX5_at_13 e1 rfl rfl ?_
    refine x_sipush 255 (z := 255) dX5_at_14 rfl (by decide) rfl ?_
    refine x_iand dX5_at_17 rfl ?_
    refine x_goto 4 (q := 22) dX5_at_18 rfl ?_
    exact y_iret dX5_at_22 rfl k
def gX6_clear (w : bW) (t : Int) : bW := (b_up (b_up w t 1 0) t 2 0)
theorem vX6_clear {d n : Nat} {w : bW} {Q : Int → bW → Prop} {X : String → bW → Prop} (t : Int) (ht : b_is n t 0 5 3) (k : Q 0 (gX6_clear w t)) : b_K (d + 1) mX6_clear [(2, t)] n w Q X := by
  unfold gX6_clear at k
  refine k_of (by decide) rfl rfl rfl (ls := [(2, t)]) rfl ?_
  refine x_aload_n 0 dX6_clear_0 rfl rfl rfl rfl rfl ?_
  refine x_iconst 0 (z := 0) dX6_clear_1 rfl (by decide) rfl ?_
  refine x_put 13 1 (c := 5) dX6_clear_2 ht rfl in_X6 tyX6_ok nmX6 q631 rfl rfl rfl (Or.inl rfl) (Or.inl ⟨rfl, rfl⟩) rfl ?_
  refine x_aload_n 0 dX6_clear_5 rfl rfl rfl rfl rfl ?_
  refine x_iconst 0 (z := 0) dX6_clear_6 rfl (by decide) rfl ?_
  refine x_put 17 2 (c := 5) dX6_clear_7 ht rfl in_X6 tyX6_ok nmX6 q635 rfl rfl rfl (Or.inl rfl) (Or.inr (Or.inl ⟨rfl, rfl, by decide⟩)) rfl ?_
  exact y_vret dX6_clear_10 rfl k
def fX6_bits (w : bW) (t : Int) : Int := (if w t 1 ≠ 0 then b_i ((b_i ((b_i (16 * (w t 1))) - (fJ11_numberOfLeadingZeros w (w (t + 1) (b_i ((w t 1) - 1)))))) + 16) else 0)
def oX6_bits (n : Nat) (w : bW) (t : Int) : Prop := if w t 1 ≠ 0 then ((0 ≤ b_i ((w t 1) - 1) ∧ b_i ((w t 1) - 1) < 200) ∧ (True)) else True
theorem vX6_bits {d n : Nat} {w : bW} {Q : Int → bW → Prop} {X : String → bW → Prop} (hn : 143 ≤ n) (t : Int) (ht : b_is n t 0 5 3) (ok : oX6_bits n w t) (k : Q (fX6_bits w t) w) : b_K (d + 2) mX6_bits [(2, t)] n w Q X := by
  unfold fX6_bits at k
  unfold oX6_bits at ok
  refine k_of (by decide) rfl rfl rfl (ls := [(2, t)]) rfl ?_
  refine x_aload_n 0 dX6_bits_0 rfl rfl rfl rfl rfl ?_
  refine y_get 13 1 (c := 5) (z := w t 1) dX6_bits_1 ht rfl in_X6 q631 rfl rfl rfl rfl rfl ?_
  refine x_if_ne (t := 11) 7 dX6_bits_4 rfl rfl (b_itqv ok k (fun hc ok k => ?_) (fun hc ok k => ?_))
  · refine x_bipush 16 (z := 16) dX6_bits_11 rfl (by decide) rfl ?_
    refine x_aload_n 0 dX6_bits_13 rfl rfl rfl rfl rfl ?_
    refine y_get 13 1 (c := 5) (z := w t 1) dX6_bits_14 ht rfl in_X6 q631 rfl rfl rfl rfl rfl ?_
    refine x_imul dX6_bits_17 rfl ?_
    refine x_aload_n 0 dX6_bits_18 rfl rfl rfl rfl rfl ?_
    refine y_getO 7 0 (c := 5) dX6_bits_19 ht rfl in_X6 q626 rfl rfl rfl (fun h5 hf => of_X6_0 (Nat.le_trans (Nat.le_of_ble_eq_true rfl) hn) h5 ht hf) rfl (fun e1 => ?_)
    refine x_aload_n 0 dX6_bits_22 rfl rfl rfl rfl rfl ?_
    refine y_get 13 1 (c := 5) (z := w t 1) dX6_bits_23 ht rfl in_X6 q631 rfl rfl rfl rfl rfl ?_
    refine x_iconst 1 (z := 1) dX6_bits_26 rfl (by decide) rfl ?_
    refine x_isub dX6_bits_27 rfl ?_
    obtain ⟨e2, ok⟩ := ok
    refine y_iald (z := w (t + 1) (b_i ((w t 1) - 1))) dX6_bits_28 ⟨200, e1, e2⟩ rfl rfl ?_
    refine y_Si 32 (M := mJ11_numberOfLeadingZeros) (As := [(0, w (t + 1) (b_i ((w t 1) - 1)))]) (st := [(0, b_i (16 * (w t 1)))]) dX6_bits_29 q1755 q1756 q399 q1757 hmJ11_numberOfLeadingZeros rfl rfl rfl rfl rfl rfl rfl rfl (vJ11_numberOfLeadingZeros (w (t + 1) (b_i ((w t 1) - 1))) ?_)
    refine x_isub dX6_bits_32 rfl ?_
    refine x_bipush 16 (z := 16) dX6_bits_33 rfl (by decide) rfl ?_
    refine x_iadd dX6_bits_35 rfl ?_
    exact y_iret dX6_bits_36 rfl k
  · refine x_iconst 0 (z := 0) dX6_bits_7 rfl (by decide) rfl ?_
    refine x_goto 28 (q := 36) dX6_bits_8 rfl ?_
    exact y_iret dX6_bits_36 rfl k
def fX6_isZero (w : bW) (t : Int) : Int := (if w t 1 ≠ 0 then 0 else 1)
theorem vX6_isZero {d n : Nat} {w : bW} {Q : Int → bW → Prop} {X : String → bW → Prop} (t : Int) (ht : b_is n t 0 5 3) (k : Q (fX6_isZero w t) w) : b_K (d + 1) mX6_isZero [(2, t)] n w Q X := by
  unfold fX6_isZero at k
  refine k_of (by decide) rfl rfl rfl (ls := [(2, t)]) rfl ?_
  refine x_aload_n 0 dX6_isZero_0 rfl rfl rfl rfl rfl ?_
  refine y_get 13 1 (c := 5) (z := w t 1) dX6_isZero_1 ht rfl in_X6 q631 rfl rfl rfl rfl rfl ?_
  refine x_if_ne (t := 11) 7 dX6_isZero_4 rfl rfl (b_itqv (b_tt _) k (fun hc ok k => ?_) (fun hc ok k => ?_))
  · refine x_iconst 0 (z := 0) dX6_isZero_11 rfl (by decide) rfl ?_
    exact y_zret dX6_isZero_12 rfl (by decide) k
  · refine x_iconst 1 (z := 1) dX6_isZero_7 rfl (by decide) rfl ?_
    refine x_goto 4 (q := 12) dX6_isZero_8 rfl ?_
    exact y_zret dX6_isZero_12 rfl (by decide) k
def fX6_at (w : bW) (t : Int) (a1 : Int) : Int := (if w t 1 ≤ a1 then 0 else w (t + 1) a1)
def oX6_at (n : Nat) (w : bW) (t : Int) (a1 : Int) : Prop := if w t 1 ≤ a1 then True else ((0 ≤ a1 ∧ a1 < 200) ∧ (True))
theorem vX6_at {d n : Nat} {w : bW} {Q : Int → bW → Prop} {X : String → bW → Prop} (hn : 143 ≤ n) (t : Int) (a1 : Int) (ht : b_is n t 0 5 3) (ok : oX6_at n w t a1) (k : Q (fX6_at w t a1) w) : b_K (d + 1) mX6_at [(2, t), (0, a1)] n w Q X := by
  unfold fX6_at at k
  unfold oX6_at at ok
  refine k_of (by decide) rfl rfl rfl (ls := [(2, t), (0, a1)]) rfl ?_
  refine x_iload_n 1 dX6_at_0 rfl rfl rfl ?_
  refine x_aload_n 0 dX6_at_1 rfl rfl rfl rfl rfl ?_
  refine y_get 13 1 (c := 5) (z := w t 1) dX6_at_2 ht rfl in_X6 q631 rfl rfl rfl rfl rfl ?_
  refine x_icmp_ge (t := 17) 12 dX6_at_5 rfl rfl (b_itqv ok k (fun hc ok k => ?_) (fun hc ok k => ?_))
  · refine x_iconst 0 (z := 0) dX6_at_17 rfl (by decide) rfl ?_
    exact y_iret dX6_at_18 rfl k
  · refine x_aload_n 0 dX6_at_8 rfl rfl rfl rfl rfl ?_
    refine y_getO 7 0 (c := 5) dX6_at_9 ht rfl in_X6 q626 rfl rfl rfl (fun h5 hf => of_X6_0 (Nat.le_trans (Nat.le_of_ble_eq_true rfl) hn) h5 ht hf) rfl (fun e1 => ?_)
    refine x_iload_n 1 dX6_at_12 rfl rfl rfl ?_
    obtain ⟨e2, ok⟩ := ok
    refine y_iald (z := w (t + 1) a1) dX6_at_13 ⟨200, e1, e2⟩ rfl rfl ?_
    refine x_goto 4 (q := 18) dX6_at_14 rfl ?_
    exact y_iret dX6_at_18 rfl k
def gX6_copy (w : bW) (t : Int) (a1 : Int) : bW := (b_up (b_up (b_cp w (a1 + 1) 0 (t + 1) 0 (w a1 1)) t 1 ((b_cp w (a1 + 1) 0 (t + 1) 0 (w a1 1)) a1 1)) t 2 ((b_up (b_cp w (a1 + 1) 0 (t + 1) 0 (w a1 1)) t 1 ((b_cp w (a1 + 1) 0 (t + 1) 0 (w a1 1)) a1 1)) a1 2))
def oX6_copy (n : Nat) (w : bW) (t : Int) (a1 : Int) : Prop := (a1 + 1 ≠ t + 1 ∧ (0 : Int) ≤ 0 ∧ (0 : Int) ≤ 0 ∧ (0 : Int) ≤ w a1 1 ∧ (0 : Int) + w a1 1 ≤ 200 ∧ (0 : Int) + w a1 1 ≤ 200) ∧ (((b_up (b_cp w (a1 + 1) 0 (t + 1) 0 (w a1 1)) t 1 ((b_cp w (a1 + 1) 0 (t + 1) 0 (w a1 1)) a1 1)) a1 2 = 0 ∨ (b_up (b_cp w (a1 + 1) 0 (t + 1) 0 (w a1 1)) t 1 ((b_cp w (a1 + 1) 0 (t + 1) 0 (w a1 1)) a1 1)) a1 2 = 1) ∧ (True))
theorem vX6_copy {d n : Nat} {w : bW} {Q : Int → bW → Prop} {X : String → bW → Prop} (hn : 143 ≤ n) (t : Int) (a1 : Int) (ht : b_is n t 0 5 3) (ha1 : b_is n a1 0 5 3) (ok : oX6_copy n w t a1) (k : Q 0 (gX6_copy w t a1)) : b_K (d + 1) mX6_copy [(2, t), (2, a1)] n w Q X := by
  unfold gX6_copy at k
  unfold oX6_copy at ok
  refine k_of (by decide) rfl rfl rfl (ls := [(2, t), (2, a1)]) rfl ?_
  refine x_aload_n 1 dX6_copy_0 rfl rfl rfl rfl rfl ?_
  refine y_getO 7 0 (c := 5) dX6_copy_1 ha1 rfl in_X6 q626 rfl rfl rfl (fun h5 hf => of_X6_0 (Nat.le_trans (Nat.le_of_ble_eq_true rfl) hn) h5 ha1 hf) rfl (fun e1 => ?_)
  refine x_iconst 0 (z := 0) dX6_copy_4 rfl (by decide) rfl ?_
  refine x_aload_n 0 dX6_copy_5 rfl rfl rfl rfl rfl ?_
  refine y_getO 7 0 (c := 5) dX6_copy_6 ht rfl in_X6 q626 rfl rfl rfl (fun h5 hf => of_X6_0 (Nat.le_trans (Nat.le_of_ble_eq_true rfl) hn) h5 ht hf) rfl (fun e2 => ?_)
  refine x_iconst 0 (z := 0) dX6_copy_9 rfl (by decide) rfl ?_
  refine x_aload_n 1 dX6_copy_10 rfl rfl rfl rfl rfl ?_
  refine y_get 13 1 (c := 5) (z := w a1 1) dX6_copy_11 ha1 rfl in_X6 q631 rfl rfl rfl rfl rfl ?_
  obtain ⟨e3, ok⟩ := ok
  refine x_copyi 21 dX6_copy_14 q2801 q1893 q1892 q400 e1 e2 e3.1 (by decide) e3.2.1 e3.2.2.1 e3.2.2.2.1 e3.2.2.2.2.1 e3.2.2.2.2.2 (Nat.le_add_left 1 d) rfl rfl ?_
  refine x_aload_n 0 dX6_copy_17 rfl rfl rfl rfl rfl ?_
  refine x_aload_n 1 dX6_copy_18 rfl rfl rfl rfl rfl ?_
  refine y_get 13 1 (c := 5) (z := (b_cp w (a1 + 1) 0 (t + 1) 0 (w a1 1)) a1 1) dX6_copy_19 ha1 rfl in_X6 q631 rfl rfl rfl rfl rfl ?_
  refine x_put 13 1 (c := 5) dX6_copy_22 ht rfl in_X6 tyX6_ok nmX6 q631 rfl rfl rfl (Or.inl rfl) (Or.inl ⟨rfl, rfl⟩) rfl ?_
  refine x_aload_n 0 dX6_copy_25 rfl rfl rfl rfl rfl ?_
  refine x_aload_n 1 dX6_copy_26 rfl rfl rfl rfl rfl ?_
  refine y_get 17 2 (c := 5) (z := (b_up (b_cp w (a1 + 1) 0 (t + 1) 0 (w a1 1)) t 1 ((b_cp w (a1 + 1) 0 (t + 1) 0 (w a1 1)) a1 1)) a1 2) dX6_copy_27 ha1 rfl in_X6 q635 rfl rfl rfl rfl rfl ?_
  obtain ⟨e4, ok⟩ := ok
  refine x_put 17 2 (c := 5) dX6_copy_30 ht rfl in_X6 tyX6_ok nmX6 q635 rfl rfl rfl (Or.inl rfl) (Or.inr (Or.inl ⟨rfl, rfl, e4⟩)) rfl ?_
  exact y_vret dX6_copy_33 rfl k
def fX6_endless (w : bW) (t : Int) (a1 : Int) (a2 : Int) : Int := (if w t 2 ≠ 0 then (if a2 = 0 then b_and (b_xor (fX6_at w t a1) (-1)) 65535 else b_and (b_i (-(fX6_at w t a1))) 65535) else fX6_at w t a1)
def oX6_endless (n : Nat) (w : bW) (t : Int) (a1 : Int) (a2 : Int) : Prop := if w t 2 ≠ 0 then (if a2 = 0 then ((oX6_at n w t a1) ∧ (True)) else ((oX6_at n w t a1) ∧ (True))) else ((oX6_at n w t a1) ∧ (True))
theorem vX6_endless {d n : Nat} {w : bW} {Q : Int → bW → Prop} {X : String → bW → Prop} (hn : 143 ≤ n) (t : Int) (a1 : Int) (a2 : Int) (ht : b_is n t 0 5 3) (ok : oX6_endless n w t a1 a2) (k : Q (fX6_endless w t a1 a2) w) : b_K (d + 2) mX6_endless [(2, t), (0, a1), (0, a2)] n w Q X := by
  unfold fX6_endless at k
  unfold oX6_endless at ok
  refine k_of (by decide) rfl rfl rfl (ls := [(2, t), (0, a1), (0, a2)]) rfl ?_
  refine x_aload_n 0 dX6_endless_0 rfl rfl rfl rfl rfl ?_
  refine y_get 17 2 (c := 5) (z := w t 2) dX6_endless_1 ht rfl in_X6 q635 rfl rfl rfl rfl rfl ?_
  refine x_if_ne (t := 15) 11 dX6_endless_4 rfl rfl (b_itqv ok k (fun hc ok k => ?_) (fun hc ok k => ?_))
  · refine x_iload_n 2 dX6_endless_15 rfl rfl rfl ?_
    refine x_if_eq (t := 31) 15 dX6_endless_16 rfl rfl (b_itqv ok k (fun hc ok k => ?_) (fun hc ok k => ?_))
    · refine x_aload_n 0 dX6_endless_31 rfl rfl rfl rfl rfl ?_
      refine x_iload_n 1 dX6_endless_32 rfl rfl rfl ?_
      obtain ⟨e3, ok⟩ := ok
      refine y_Vi 38 (M := mX6_at) (As := [(0, a1)]) (st := []) dX6_endless_33 ht rfl q2828 q1962 q1963 q373 q1964 rfl hmX6_at rfl rfl rfl rfl rfl rfl rfl rfl (vX6_at (Nat.le_trans (Nat.le_of_ble_eq_true rfl) hn) t a1 ht e3 ?_)
      refine x_iconst (-1) (z := (-1)) dX6_endless_36 rfl (by decide) rfl ?_
      refine x_ixor dX6_endless_37 rfl ?_
      refine x_ldc 41 (x := 65535) dX6_endless_38 q2829 rfl (by decide) rfl ?_
      refine x_iand dX6_endless_40 rfl ?_
      exact y_iret dX6_endless_41 rfl k
    · refine x_aload_n 0 dX6_endless_19 rfl rfl rfl rfl rfl ?_
      refine x_iload_n 1 dX6_endless_20 rfl rfl rfl ?_
      obtain ⟨e6, ok⟩ := ok
      refine y_Vi 38 (M := mX6_at) (As := [(0, a1)]) (st := []) dX6_endless_21 ht rfl q2828 q1962 q1963 q373 q1964 rfl hmX6_at rfl rfl rfl rfl rfl rfl rfl rfl (vX6_at (Nat.le_trans (Nat.le_of_ble_eq_true rfl) hn) t a1 ht e6 ?_)
      refine x_ineg dX6_endless_24 rfl ?_
      refine x_ldc 41 (x := 65535) dX6_endless_25 q2829 rfl (by decide) rfl ?_
      refine x_iand dX6_endless_27 rfl ?_
      refine x_goto 13 (q := 41) dX6_endless_28 rfl ?_
      exact y_iret dX6_endless_41 rfl k
  · refine x_aload_n 0 dX6_endless_7 rfl rfl rfl rfl rfl ?_
    refine x_iload_n 1 dX6_endless_8 rfl rfl rfl ?_
    obtain ⟨e9, ok⟩ := ok
    refine y_Vi 38 (M := mX6_at) (As := [(0, a1)]) (st := []) dX6_endless_9 ht rfl q2828 q1962 q1963 q373 q1964 rfl hmX6_at rfl rfl rfl rfl rfl rfl rfl rfl (vX6_at (Nat.le_trans (Nat.le_of_ble_eq_true rfl) hn) t a1 ht e9 ?_)
    refine x_goto 29 (q := 41) dX6_endless_12 rfl ?_
    exact y_iret dX6_endless_41 rfl k
def fX7_partsOf (w : bW) (a1 : Int) : Int := (if 0 ≤ a1 then w 23 a1 else 0)
def oX7_partsOf (n : Nat) (w : bW) (a1 : Int) : Prop := if 0 ≤ a1 then ((w 19 3 = 23) ∧ ((0 ≤ a1 ∧ a1 < 60000) ∧ (True))) else True
theorem vX7_partsOf {d n : Nat} {w : bW} {Q : Int → bW → Prop} {X : String → bW → Prop} (hn : 24 ≤ n) (a1 : Int) (ok : oX7_partsOf n w a1) (k : Q (fX7_partsOf w a1) w) : b_K (d + 1) mX7_partsOf [(2, 19), (0, a1)] n w Q X := by
  have i19 := iz19 (Nat.le_trans (Nat.le_of_ble_eq_true rfl) hn)
  have i23 := iz23 (Nat.le_trans (Nat.le_of_ble_eq_true rfl) hn)
  unfold fX7_partsOf at k
  unfold oX7_partsOf at ok
  refine k_of (by decide) rfl rfl rfl (ls := [(2, 19), (0, a1)]) rfl ?_
  refine x_iload_n 1 dX7_partsOf_0 rfl rfl rfl ?_
  refine x_if_ge (t := 8) 7 dX7_partsOf_1 rfl rfl (b_itqv ok k (fun hc ok k => ?_) (fun hc ok k => ?_))
  · refine x_aload_n 0 dX7_partsOf_8 rfl rfl rfl rfl rfl ?_
    obtain ⟨e1, ok⟩ := ok
    refine y_get 23 3 (c := 6) (z := 23) dX7_partsOf_9 i19 rfl in_X7 q769 rfl rfl rfl e1 rfl ?_
    refine x_iload_n 1 dX7_partsOf_12 rfl rfl rfl ?_
    obtain ⟨e2, ok⟩ := ok
    refine y_sald (z := w 23 a1) dX7_partsOf_13 ⟨60000, i23, e2⟩ rfl rfl ?_
    exact y_iret dX7_partsOf_14 rfl k
  · refine x_iconst 0 (z := 0) dX7_partsOf_4 rfl (by decide) rfl ?_
    refine x_goto 9 (q := 14) dX7_partsOf_5 rfl ?_
    exact y_iret dX7_partsOf_14 rfl k
def fX7_bucket (w : bW) (a0 : Int) (a1 : Int) (a2 : Int) : Int := b_and (b_xor (b_i ((b_i ((b_i ((b_i (a0 * 31)) + a1)) * 40503)) + (b_i (a2 * 9973)))) (b_ush (b_i ((b_i ((b_i ((b_i (a0 * 31)) + a1)) * 40503)) + (b_i (a2 * 9973)))) 12)) 4095
theorem vX7_bucket {d n : Nat} {w : bW} {Q : Int → bW → Prop} {X : String → bW → Prop} (a0 : Int) (a1 : Int) (a2 : Int) (k : Q (fX7_bucket w a0 a1 a2) w) : b_K (d + 1) mX7_bucket [(0, a0), (0, a1), (0, a2)] n w Q X := by
  unfold fX7_bucket at k
  refine k_of (by decide) rfl rfl rfl (ls := [(0, a0), (0, a1), (0, a2), (9, 0)]) rfl ?_
  refine x_iload_n 0 dX7_bucket_0 rfl rfl rfl ?_
  refine x_bipush 31 (z := 31) dX7_bucket_1 rfl (by decide) rfl ?_
  refine x_imul dX7_bucket_3 rfl ?_
  refine x_iload_n 1 dX7_bucket_4 rfl rfl rfl ?_
  refine x_iadd dX7_bucket_5 rfl ?_
  refine x_ldc 42 (x := 40503) dX7_bucket_6 q738 rfl (by decide) rfl ?_
  refine x_imul dX7_bucket_8 rfl ?_
  refine x_iload_n 2 dX7_bucket_9 rfl rfl rfl ?_
  refine x_sipush 9973 (z := 9973) dX7_bucket_10 rfl (by decide) rfl ?_
  refine x_imul dX7_bucket_13 rfl ?_
  refine x_iadd dX7_bucket_14 rfl ?_
  refine x_istore_n 3 (ls' := [(0, a0), (0, a1), (0, a2), (0, b_i ((b_i ((b_i ((b_i (a0 * 31)) + a1)) * 40503)) + (b_i (a2 * 9973))))]) dX7_bucket_15 rfl rfl rfl rfl ?_
  refine x_iload_n 3 dX7_bucket_16 rfl rfl rfl ?_
  refine x_iload_n 3 dX7_bucket_17 rfl rfl rfl ?_
  refine x_bipush 12 (z := 12) dX7_bucket_18 rfl (by decide) rfl ?_
  refine x_iushr dX7_bucket_20 rfl ?_
  refine x_ixor dX7_bucket_21 rfl ?_
  refine x_sipush 4095 (z := 4095) dX7_bucket_22 rfl (by decide) rfl ?_
  refine x_iand dX7_bucket_25 rfl ?_
  exact y_iret dX7_bucket_26 rfl k
def fX7_is (w : bW) (a1 : Int) (a2 : Int) : Int := (if b_and (w 24 a1) a2 = 0 then 0 else 1)
def oX7_is (n : Nat) (w : bW) (a1 : Int) (a2 : Int) : Prop := (w 19 4 = 24) ∧ ((0 ≤ a1 ∧ a1 < 60000) ∧ (True))
theorem vX7_is {d n : Nat} {w : bW} {Q : Int → bW → Prop} {X : String → bW → Prop} (hn : 25 ≤ n) (a1 : Int) (a2 : Int) (ok : oX7_is n w a1 a2) (k : Q (fX7_is w a1 a2) w) : b_K (d + 1) mX7_is [(2, 19), (0, a1), (0, a2)] n w Q X := by
  have i19 := iz19 (Nat.le_trans (Nat.le_of_ble_eq_true rfl) hn)
  have i24 := iz24 (Nat.le_trans (Nat.le_of_ble_eq_true rfl) hn)
  unfold fX7_is at k
  unfold oX7_is at ok
  refine k_of (by decide) rfl rfl rfl (ls := [(2, 19), (0, a1), (0, a2)]) rfl ?_
  refine x_aload_n 0 dX7_is_0 rfl rfl rfl rfl rfl ?_
  obtain ⟨e1, ok⟩ := ok
  refine y_get 27 4 (c := 6) (z := 24) dX7_is_1 i19 rfl in_X7 q770 rfl rfl rfl e1 rfl ?_
  refine x_iload_n 1 dX7_is_4 rfl rfl rfl ?_
  obtain ⟨e2, ok⟩ := ok
  refine y_bald (z := w 24 a1) dX7_is_5 ⟨60000, i24, e2⟩ rfl rfl ?_
  refine x_iload_n 2 dX7_is_6 rfl rfl rfl ?_
  refine x_iand dX7_is_7 rfl ?_
  refine x_if_eq (t := 15) 7 dX7_is_8 rfl rfl (b_itqv (b_tt _) k (fun hc ok k => ?_) (fun hc ok k => ?_))
  · refine x_iconst 0 (z := 0) dX7_is_15 rfl (by decide) rfl ?_
    exact y_zret dX7_is_16 rfl (by decide) k
  · refine x_iconst 1 (z := 1) dX7_is_11 rfl (by decide) rfl ?_
    refine x_goto 4 (q := 16) dX7_is_12 rfl ?_
    exact y_zret dX7_is_16 rfl (by decide) k
def fX7_both (w : bW) (a1 : Int) (a2 : Int) (a3 : Int) : Int := (if fX7_is w a1 a3 = 0 then 0 else (if a2 < 0 then 1 else (if fX7_is w a2 a3 = 0 then 0 else 1)))
def oX7_both (n : Nat) (w : bW) (a1 : Int) (a2 : Int) (a3 : Int) : Prop := (oX7_is n w a1 a3) ∧ (if fX7_is w a1 a3 = 0 then True else (if a2 < 0 then True else ((oX7_is n w a2 a3) ∧ (True))))
theorem vX7_both {d n : Nat} {w : bW} {Q : Int → bW → Prop} {X : String → bW → Prop} (hn : 25 ≤ n) (a1 : Int) (a2 : Int) (a3 : Int) (ok : oX7_both n w a1 a2 a3) (k : Q (fX7_both w a1 a2 a3) w) : b_K (d + 2) mX7_both [(2, 19), (0, a1), (0, a2), (0, a3)] n w Q X := by
  have i19 := iz19 (Nat.le_trans (Nat.le_of_ble_eq_true rfl) hn)
  unfold fX7_both at k
  unfold oX7_both at ok
  refine k_of (by decide) rfl rfl rfl (ls := [(2, 19), (0, a1), (0, a2), (0, a3)]) rfl ?_
  refine x_aload_n 0 dX7_both_0 rfl rfl rfl rfl rfl ?_
  refine x_iload_n 1 dX7_both_1 rfl rfl rfl ?_
  refine x_iload_n 3 dX7_both_2 rfl rfl rfl ?_
  obtain ⟨e3, ok⟩ := ok
  refine y_Vi 50 (M := mX7_is) (As := [(0, a1), (0, a3)]) (st := []) dX7_both_3 i19 rfl q743 q744 q745 q374 q746 rfl hmX7_is rfl rfl rfl rfl rfl rfl rfl rfl (vX7_is (Nat.le_trans (Nat.le_of_ble_eq_true rfl) hn) a1 a3 e3 ?_)
  refine x_if_eq (t := 26) 20 dX7_both_6 rfl rfl (b_itqv ok k (fun hc ok k => ?_) (fun hc ok k => ?_))
  · refine x_iconst 0 (z := 0) dX7_both_26 rfl (by decide) rfl ?_
    exact y_zret dX7_both_27 rfl (by decide) k
  · refine x_iload_n 2 dX7_both_9 rfl rfl rfl ?_
    refine x_if_lt (t := 22) 12 dX7_both_10 rfl rfl (b_itqv ok k (fun hc ok k => ?_) (fun hc ok k => ?_))
    · refine x_iconst 1 (z := 1) dX7_both_22 rfl (by decide) rfl ?_
      refine x_goto 4 (q := 27) dX7_both_23 rfl ?_
      exact y_zret dX7_both_27 rfl (by decide) k
    · refine x_aload_n 0 dX7_both_13 rfl rfl rfl rfl rfl ?_
      refine x_iload_n 2 dX7_both_14 rfl rfl rfl ?_
      refine x_iload_n 3 dX7_both_15 rfl rfl rfl ?_
      obtain ⟨e6, ok⟩ := ok
      refine y_Vi 50 (M := mX7_is) (As := [(0, a2), (0, a3)]) (st := []) dX7_both_16 i19 rfl q743 q744 q745 q374 q746 rfl hmX7_is rfl rfl rfl rfl rfl rfl rfl rfl (vX7_is (Nat.le_trans (Nat.le_of_ble_eq_true rfl) hn) a2 a3 e6 ?_)
      refine x_if_eq (t := 26) 7 dX7_both_19 rfl rfl (b_itqv (b_tt _) k (fun hc ok k => ?_) (fun hc ok k => ?_))
      · refine x_iconst 0 (z := 0) dX7_both_26 rfl (by decide) rfl ?_
        exact y_zret dX7_both_27 rfl (by decide) k
      · refine x_iconst 1 (z := 1) dX7_both_22 rfl (by decide) rfl ?_
        refine x_goto 4 (q := 27) dX7_both_23 rfl ?_
        exact y_zret dX7_both_27 rfl (by decide) k
def fX7_arguments (w : bW) (a0 : Int) : Int := (if a0 < 0 then (-1) else (if a0 ≤ 18 then (if 9 < a0 then (if 13 < a0 then 2 else 1) else 0) else (-1)))
theorem vX7_arguments {d n : Nat} {w : bW} {Q : Int → bW → Prop} {X : String → bW → Prop} (a0 : Int) (k : Q (fX7_arguments w a0) w) : b_K (d + 1) mX7_arguments [(0, a0)] n w Q X := by
  unfold fX7_arguments at k
  refine k_of (by decide) rfl rfl rfl (ls := [(0, a0)]) rfl ?_
  refine x_iload_n 0 dX7_arguments_0 rfl rfl rfl ?_
  refine x_if_lt (t := 10) 9 dX7_arguments_1 rfl rfl (b_itqv (b_tt _) k (fun hc ok k => ?_) (fun hc ok k => ?_))
  · refine x_iconst (-1) (z := (-1)) dX7_arguments_10 rfl (by decide) rfl ?_
    refine x_goto 24 (q := 35) dX7_arguments_11 rfl ?_
    exact y_iret dX7_arguments_35 rfl k
  · refine x_iload_n 0 dX7_arguments_4 rfl rfl rfl ?_
    refine x_bipush 18 (z := 18) dX7_arguments_5 rfl (by decide) rfl ?_
    refine x_icmp_le (t := 14) 7 dX7_arguments_7 rfl rfl (b_itqv (b_tt _) k (fun hc ok k => ?_) (fun hc ok k => ?_))
    · refine x_iload_n 0 dX7_arguments_14 rfl rfl rfl ?_
      refine x_bipush 9 (z := 9) dX7_arguments_15 rfl (by decide) rfl ?_
      refine x_icmp_gt (t := 24) 7 dX7_arguments_17 rfl rfl (b_itqv (b_tt _) k (fun hc ok k => ?_) (fun hc ok k => ?_))
      · refine x_iload_n 0 dX7_arguments_24 rfl rfl rfl ?_
        refine x_bipush 13 (z := 13) dX7_arguments_25 rfl (by decide) rfl ?_
        refine x_icmp_gt (t := 34) 7 dX7_arguments_27 rfl rfl (b_itqv (b_tt _) k (fun hc ok k => ?_) (fun hc ok k => ?_))
        · refine x_iconst 2 (z := 2) dX7_arguments_34 rfl (by decide) rfl ?_
          exact y_iret dX7_arguments_35 rfl k
        · refine x_iconst 1 (z := 1) dX7_arguments_30 rfl (by decide) rfl ?_
          refine x_goto 4 (q := 35) dX7_arguments_31 rfl ?_
          exact y_iret dX7_arguments_35 rfl k
      · refine x_iconst 0 (z := 0) dX7_arguments_20 rfl (by decide) rfl ?_
        refine x_goto 14 (q := 35) dX7_arguments_21 rfl ?_
        exact y_iret dX7_arguments_35 rfl k
    · refine x_iconst (-1) (z := (-1)) dX7_arguments_10 rfl (by decide) rfl ?_
      refine x_goto 24 (q := 35) dX7_arguments_11 rfl ?_
      exact y_iret dX7_arguments_35 rfl k
def fX8_fixedTop (w : bW) : Int := w 27 4
theorem vX8_fixedTop {d n : Nat} {w : bW} {Q : Int → bW → Prop} {X : String → bW → Prop} (hn : 28 ≤ n) (k : Q (fX8_fixedTop w) w) : b_K (d + 1) mX8_fixedTop [(2, 27)] n w Q X := by
  have i27 := iz27 (Nat.le_trans (Nat.le_of_ble_eq_true rfl) hn)
  unfold fX8_fixedTop at k
  refine k_of (by decide) rfl rfl rfl (ls := [(2, 27)]) rfl ?_
  refine x_aload_n 0 dX8_fixedTop_0 rfl rfl rfl rfl rfl ?_
  refine y_get 27 4 (c := 7) (z := w 27 4) dX8_fixedTop_1 i27 rfl in_X8 q807 rfl rfl rfl rfl rfl ?_
  exact y_iret dX8_fixedTop_4 rfl k
def fX8_small (w : bW) (a0 : Int) : Int := b_or (b_shl a0 1) 1
theorem vX8_small {d n : Nat} {w : bW} {Q : Int → bW → Prop} {X : String → bW → Prop} (a0 : Int) (k : Q (fX8_small w a0) w) : b_K (d + 1) mX8_small [(0, a0)] n w Q X := by
  unfold fX8_small at k
  refine k_of (by decide) rfl rfl rfl (ls := [(0, a0)]) rfl ?_
  refine x_iload_n 0 dX8_small_0 rfl rfl rfl ?_
  refine x_iconst 1 (z := 1) dX8_small_1 rfl (by decide) rfl ?_
  refine x_ishl dX8_small_2 rfl ?_
  refine x_iconst 1 (z := 1) dX8_small_3 rfl (by decide) rfl ?_
  refine x_ior dX8_small_4 rfl ?_
  exact y_iret dX8_small_5 rfl k
def fX8_numberLength (w : bW) (a0 : Int) : Int := (if 6 < a0 then b_i (2 + (b_div (b_i ((b_i (a0 - 6)) + 6)) 7)) else b_i (2 + 0))
theorem vX8_numberLength {d n : Nat} {w : bW} {Q : Int → bW → Prop} {X : String → bW → Prop} (a0 : Int) (k : Q (fX8_numberLength w a0) w) : b_K (d + 1) mX8_numberLength [(0, a0)] n w Q X := by
  unfold fX8_numberLength at k
  refine k_of (by decide) rfl rfl rfl (ls := [(0, a0)]) rfl ?_
  refine x_iconst 2 (z := 2) dX8_numberLength_0 rfl (by decide) rfl ?_
  refine x_iload_n 0 dX8_numberLength_1 rfl rfl rfl ?_
  refine x_bipush 6 (z := 6) dX8_numberLength_2 rfl (by decide) rfl ?_
  refine x_icmp_gt (t := 11) 7 dX8_numberLength_4 rfl rfl (b_itqv (b_tt _) k (fun hc ok k => ?_) (fun hc ok k => ?_))
  · refine x_iload_n 0 dX8_numberLength_11 rfl rfl rfl ?_
    refine x_bipush 6 (z := 6) dX8_numberLength_12 rfl (by decide) rfl ?_
    refine x_isub dX8_numberLength_14 rfl ?_
    refine x_bipush 6 (z := 6) dX8_numberLength_15 rfl (by decide) rfl ?_
    refine x_iadd dX8_numberLength_17 rfl ?_
    refine x_bipush 7 (z := 7) dX8_numberLength_18 rfl (by decide) rfl ?_
    refine x_idiv dX8_numberLength_20 (by decide) rfl ?_
    refine x_iadd dX8_numberLength_21 rfl ?_
    exact y_iret dX8_numberLength_22 rfl k
  · refine x_iconst 0 (z := 0) dX8_numberLength_7 rfl (by decide) rfl ?_
    refine x_goto 13 (q := 21) dX8_numberLength_8 rfl ?_
    refine x_iadd dX8_numberLength_21 rfl ?_
    exact y_iret dX8_numberLength_22 rfl k
def gX8_set (w : bW) (a1 : Int) (a2 : Int) (a3 : Int) : bW := (if a1 ≤ 0 then (b_up w 30 (b_i ((b_shr (b_i (-a1)) 1) + a2)) a3) else (b_up w (w 27 0) (b_i ((b_shr a1 1) + a2)) a3))
def oX8_set (n : Nat) (w : bW) (a1 : Int) (a2 : Int) (a3 : Int) : Prop := if a1 ≤ 0 then ((0 ≤ b_i ((b_shr (b_i (-a1)) 1) + a2) ∧ b_i ((b_shr (b_i (-a1)) 1) + a2) < 280000) ∧ (True)) else (b_ai n (w 27 0) 1 0 (b_i ((b_shr a1 1) + a2)) ∧ (True))
theorem vX8_set {d n : Nat} {w : bW} {Q : Int → bW → Prop} {X : String → bW → Prop} (hn : 143 ≤ n) (a1 : Int) (a2 : Int) (a3 : Int) (ok : oX8_set n w a1 a2 a3) (k : Q 0 (gX8_set w a1 a2 a3)) : b_K (d + 1) mX8_set [(2, 27), (0, a1), (0, a2), (0, a3)] n w Q X := by
  have i27 := iz27 (Nat.le_trans (Nat.le_of_ble_eq_true rfl) hn)
  have i30 := iz30 (Nat.le_trans (Nat.le_of_ble_eq_true rfl) hn)
  unfold gX8_set at k
  unfold oX8_set at ok
  refine k_of (by decide) rfl rfl rfl (ls := [(2, 27), (0, a1), (0, a2), (0, a3)]) rfl ?_
  refine x_iload_n 1 dX8_set_0 rfl rfl rfl ?_
  refine x_if_le (t := 18) 17 dX8_set_1 rfl rfl (b_itqw ok k (fun hc ok k => ?_) (fun hc ok k => ?_))
  · refine x_aload_n 0 dX8_set_18 rfl rfl rfl rfl rfl ?_
    refine y_getF 24 3 (c := 7) (z := 30) dX8_set_19 i27 rfl in_X8 q806 rfl rfl rfl fn_27_3 (Nat.le_trans (Nat.le_of_ble_eq_true rfl) hn) rfl ?_
    refine x_iload_n 1 dX8_set_22 rfl rfl rfl ?_
    refine x_ineg dX8_set_23 rfl ?_
    refine x_iconst 1 (z := 1) dX8_set_24 rfl (by decide) rfl ?_
    refine x_ishr dX8_set_25 rfl ?_
    refine x_iload_n 2 dX8_set_26 rfl rfl rfl ?_
    refine x_iadd dX8_set_27 rfl ?_
    refine x_iload_n 3 dX8_set_28 rfl rfl rfl ?_
    obtain ⟨e1, ok⟩ := ok
    refine y_iast (x' := a3) dX8_set_29 ⟨280000, i30, e1⟩ rfl rfl ?_
    exact y_vret dX8_set_30 rfl k
  · refine x_aload_n 0 dX8_set_4 rfl rfl rfl rfl rfl ?_
    refine y_get 10 0 (c := 7) (z := w 27 0) dX8_set_5 i27 rfl in_X8 q803 rfl rfl rfl rfl rfl ?_
    refine x_iload_n 1 dX8_set_8 rfl rfl rfl ?_
    refine x_iconst 1 (z := 1) dX8_set_9 rfl (by decide) rfl ?_
    refine x_ishr dX8_set_10 rfl ?_
    refine x_iload_n 2 dX8_set_11 rfl rfl rfl ?_
    refine x_iadd dX8_set_12 rfl ?_
    refine x_iload_n 3 dX8_set_13 rfl rfl rfl ?_
    obtain ⟨e2, ok⟩ := ok
    refine y_iast (x' := a3) dX8_set_14 e2 rfl rfl ?_
    refine x_goto 15 (q := 30) dX8_set_15 rfl ?_
    exact y_vret dX8_set_30 rfl k
def fX8_cell (w : bW) (a1 : Int) (a2 : Int) : Int := (if a1 ≤ 0 then w 30 (b_i ((b_shr (b_i (-a1)) 1) + a2)) else w (w 27 0) (b_i ((b_shr a1 1) + a2)))
def oX8_cell (n : Nat) (w : bW) (a1 : Int) (a2 : Int) : Prop := if a1 ≤ 0 then ((0 ≤ b_i ((b_shr (b_i (-a1)) 1) + a2) ∧ b_i ((b_shr (b_i (-a1)) 1) + a2) < 280000) ∧ (True)) else (b_ai n (w 27 0) 1 0 (b_i ((b_shr a1 1) + a2)) ∧ (True))
theorem vX8_cell {d n : Nat} {w : bW} {Q : Int → bW → Prop} {X : String → bW → Prop} (hn : 143 ≤ n) (a1 : Int) (a2 : Int) (ok : oX8_cell n w a1 a2) (k : Q (fX8_cell w a1 a2) w) : b_K (d + 1) mX8_cell [(2, 27), (0, a1), (0, a2)] n w Q X := by
  have i27 := iz27 (Nat.le_trans (Nat.le_of_ble_eq_true rfl) hn)
  have i30 := iz30 (Nat.le_trans (Nat.le_of_ble_eq_true rfl) hn)
  unfold fX8_cell at k
  unfold oX8_cell at ok
  refine k_of (by decide) rfl rfl rfl (ls := [(2, 27), (0, a1), (0, a2)]) rfl ?_
  refine x_iload_n 1 dX8_cell_0 rfl rfl rfl ?_
  refine x_if_le (t := 17) 16 dX8_cell_1 rfl rfl (b_itqv ok k (fun hc ok k => ?_) (fun hc ok k => ?_))
  · refine x_aload_n 0 dX8_cell_17 rfl rfl rfl rfl rfl ?_
    refine y_getF 24 3 (c := 7) (z := 30) dX8_cell_18 i27 rfl in_X8 q806 rfl rfl rfl fn_27_3 (Nat.le_trans (Nat.le_of_ble_eq_true rfl) hn) rfl ?_
    refine x_iload_n 1 dX8_cell_21 rfl rfl rfl ?_
    refine x_ineg dX8_cell_22 rfl ?_
    refine x_iconst 1 (z := 1) dX8_cell_23 rfl (by decide) rfl ?_
    refine x_ishr dX8_cell_24 rfl ?_
    refine x_iload_n 2 dX8_cell_25 rfl rfl rfl ?_
    refine x_iadd dX8_cell_26 rfl ?_
    obtain ⟨e1, ok⟩ := ok
    refine y_iald (z := w 30 (b_i ((b_shr (b_i (-a1)) 1) + a2))) dX8_cell_27 ⟨280000, i30, e1⟩ rfl rfl ?_
    exact y_iret dX8_cell_28 rfl k
  · refine x_aload_n 0 dX8_cell_4 rfl rfl rfl rfl rfl ?_
    refine y_get 10 0 (c := 7) (z := w 27 0) dX8_cell_5 i27 rfl in_X8 q803 rfl rfl rfl rfl rfl ?_
    refine x_iload_n 1 dX8_cell_8 rfl rfl rfl ?_
    refine x_iconst 1 (z := 1) dX8_cell_9 rfl (by decide) rfl ?_
    refine x_ishr dX8_cell_10 rfl ?_
    refine x_iload_n 2 dX8_cell_11 rfl rfl rfl ?_
    refine x_iadd dX8_cell_12 rfl ?_
    obtain ⟨e2, ok⟩ := ok
    refine y_iald (z := w (w 27 0) (b_i ((b_shr a1 1) + a2))) dX8_cell_13 e2 rfl rfl ?_
    refine x_goto 14 (q := 28) dX8_cell_14 rfl ?_
    exact y_iret dX8_cell_28 rfl k
def fX8_isSmall (w : bW) (a0 : Int) : Int := (if b_and a0 1 = 0 then 0 else 1)
theorem vX8_isSmall {d n : Nat} {w : bW} {Q : Int → bW → Prop} {X : String → bW → Prop} (a0 : Int) (k : Q (fX8_isSmall w a0) w) : b_K (d + 1) mX8_isSmall [(0, a0)] n w Q X := by
  unfold fX8_isSmall at k
  refine k_of (by decide) rfl rfl rfl (ls := [(0, a0)]) rfl ?_
  refine x_iload_n 0 dX8_isSmall_0 rfl rfl rfl ?_
  refine x_iconst 1 (z := 1) dX8_isSmall_1 rfl (by decide) rfl ?_
  refine x_iand dX8_isSmall_2 rfl ?_
  refine x_if_eq (t := 10) 7 dX8_isSmall_3 rfl rfl (b_itqv (b_tt _) k (fun hc ok k => ?_) (fun hc ok k => ?_))
  · refine x_iconst 0 (z := 0) dX8_isSmall_10 rfl (by decide) rfl ?_
    exact y_zret dX8_isSmall_11 rfl (by decide) k
  · refine x_iconst 1 (z := 1) dX8_isSmall_6 rfl (by decide) rfl ?_
    refine x_goto 4 (q := 11) dX8_isSmall_7 rfl ?_
    exact y_zret dX8_isSmall_11 rfl (by decide) k
def fX8_isPlace (w : bW) (a0 : Int) : Int := (if b_and a0 1 ≠ 0 then 0 else (if a0 < 0 then 1 else (if a0 < 32 then 0 else 1)))
theorem vX8_isPlace {d n : Nat} {w : bW} {Q : Int → bW → Prop} {X : String → bW → Prop} (a0 : Int) (k : Q (fX8_isPlace w a0) w) : b_K (d + 1) mX8_isPlace [(0, a0)] n w Q X := by
  unfold fX8_isPlace at k
  refine k_of (by decide) rfl rfl rfl (ls := [(0, a0)]) rfl ?_
  refine x_iload_n 0 dX8_isPlace_0 rfl rfl rfl ?_
  refine x_iconst 1 (z := 1) dX8_isPlace_1 rfl (by decide) rfl ?_
  refine x_iand dX8_isPlace_2 rfl ?_
  refine x_if_ne (t := 20) 17 dX8_isPlace_3 rfl rfl (b_itqv (b_tt _) k (fun hc ok k => ?_) (fun hc ok k => ?_))
  · refine x_iconst 0 (z := 0) dX8_isPlace_20 rfl (by decide) rfl ?_
    exact y_zret dX8_isPlace_21 rfl (by decide) k
  · refine x_iload_n 0 dX8_isPlace_6 rfl rfl rfl ?_
    refine x_if_lt (t := 16) 9 dX8_isPlace_7 rfl rfl (b_itqv (b_tt _) k (fun hc ok k => ?_) (fun hc ok k => ?_))
    · refine x_iconst 1 (z := 1) dX8_isPlace_16 rfl (by decide) rfl ?_
      refine x_goto 4 (q := 21) dX8_isPlace_17 rfl ?_
      exact y_zret dX8_isPlace_21 rfl (by decide) k
    · refine x_iload_n 0 dX8_isPlace_10 rfl rfl rfl ?_
      refine x_bipush 32 (z := 32) dX8_isPlace_11 rfl (by decide) rfl ?_
      refine x_icmp_lt (t := 20) 7 dX8_isPlace_13 rfl rfl (b_itqv (b_tt _) k (fun hc ok k => ?_) (fun hc ok k => ?_))
      · refine x_iconst 0 (z := 0) dX8_isPlace_20 rfl (by decide) rfl ?_
        exact y_zret dX8_isPlace_21 rfl (by decide) k
      · refine x_iconst 1 (z := 1) dX8_isPlace_16 rfl (by decide) rfl ?_
        refine x_goto 4 (q := 21) dX8_isPlace_17 rfl ?_
        exact y_zret dX8_isPlace_21 rfl (by decide) k
def fX8_kind (w : bW) (a1 : Int) : Int := (if fX8_isPlace w a1 = 0 then 0 else fX8_cell w a1 0)
def oX8_kind (n : Nat) (w : bW) (a1 : Int) : Prop := if fX8_isPlace w a1 = 0 then True else ((oX8_cell n w a1 0) ∧ (True))
theorem vX8_kind {d n : Nat} {w : bW} {Q : Int → bW → Prop} {X : String → bW → Prop} (hn : 143 ≤ n) (a1 : Int) (ok : oX8_kind n w a1) (k : Q (fX8_kind w a1) w) : b_K (d + 2) mX8_kind [(2, 27), (0, a1)] n w Q X := by
  have i27 := iz27 (Nat.le_trans (Nat.le_of_ble_eq_true rfl) hn)
  unfold fX8_kind at k
  unfold oX8_kind at ok
  refine k_of (by decide) rfl rfl rfl (ls := [(2, 27), (0, a1)]) rfl ?_
  refine x_iload_n 1 dX8_kind_0 rfl rfl rfl ?_
  refine y_Si 43 (M := mX8_isPlace) (As := [(0, a1)]) (st := []) dX8_kind_1 q2038 q2039 q375 q2040 hmX8_isPlace rfl rfl rfl rfl rfl rfl rfl rfl (vX8_isPlace a1 ?_)
  refine x_if_eq (t := 16) 12 dX8_kind_4 rfl rfl (b_itqv ok k (fun hc ok k => ?_) (fun hc ok k => ?_))
  · refine x_iconst 0 (z := 0) dX8_kind_16 rfl (by decide) rfl ?_
    exact y_iret dX8_kind_17 rfl k
  · refine x_aload_n 0 dX8_kind_7 rfl rfl rfl rfl rfl ?_
    refine x_iload_n 1 dX8_kind_8 rfl rfl rfl ?_
    refine x_iconst 0 (z := 0) dX8_kind_9 rfl (by decide) rfl ?_
    obtain ⟨e5, ok⟩ := ok
    refine y_Vi 47 (M := mX8_cell) (As := [(0, a1), (0, 0)]) (st := []) dX8_kind_10 i27 rfl q2009 q2010 q2011 q375 q2012 rfl hmX8_cell rfl rfl rfl rfl rfl rfl rfl rfl (vX8_cell (Nat.le_trans (Nat.le_of_ble_eq_true rfl) hn) a1 0 e5 ?_)
    refine x_goto 4 (q := 17) dX8_kind_13 rfl ?_
    exact y_iret dX8_kind_17 rfl k
def fX8_sum (w : bW) (a0 : Int) (a1 : Int) : Int := (if a0 < b_i (1073741824 - a1) then b_i (a0 + a1) else 1073741824)
theorem vX8_sum {d n : Nat} {w : bW} {Q : Int → bW → Prop} {X : String → bW → Prop} (a0 : Int) (a1 : Int) (k : Q (fX8_sum w a0 a1) w) : b_K (d + 1) mX8_sum [(0, a0), (0, a1)] n w Q X := by
  unfold fX8_sum at k
  refine k_of (by decide) rfl rfl rfl (ls := [(0, a0), (0, a1)]) rfl ?_
  refine x_iload_n 0 dX8_sum_0 rfl rfl rfl ?_
  refine x_ldc 88 (x := 1073741824) dX8_sum_1 q2048 rfl (by decide) rfl ?_
  refine x_iload_n 1 dX8_sum_3 rfl rfl rfl ?_
  refine x_isub dX8_sum_4 rfl ?_
  refine x_icmp_lt (t := 13) 8 dX8_sum_5 rfl rfl (b_itqv (b_tt _) k (fun hc ok k => ?_) (fun hc ok k => ?_))
  · refine x_iload_n 0 dX8_sum_13 rfl rfl rfl ?_
    refine x_iload_n 1 dX8_sum_14 rfl rfl rfl ?_
    refine x_iadd dX8_sum_15 rfl ?_
    exact y_iret dX8_sum_16 rfl k
  · refine x_ldc 88 (x := 1073741824) dX8_sum_8 q2048 rfl (by decide) rfl ?_
    refine x_goto 6 (q := 16) dX8_sum_10 rfl ?_
    exact y_iret dX8_sum_16 rfl k
def fX8_listCount (w : bW) (a1 : Int) : Int := (if a1 ≠ 10 then fX8_cell w a1 4 else 0)
def oX8_listCount (n : Nat) (w : bW) (a1 : Int) : Prop := if a1 ≠ 10 then ((oX8_cell n w a1 4) ∧ (True)) else True
theorem vX8_listCount {d n : Nat} {w : bW} {Q : Int → bW → Prop} {X : String → bW → Prop} (hn : 143 ≤ n) (a1 : Int) (ok : oX8_listCount n w a1) (k : Q (fX8_listCount w a1) w) : b_K (d + 2) mX8_listCount [(2, 27), (0, a1)] n w Q X := by
  have i27 := iz27 (Nat.le_trans (Nat.le_of_ble_eq_true rfl) hn)
  unfold fX8_listCount at k
  unfold oX8_listCount at ok
  refine k_of (by decide) rfl rfl rfl (ls := [(2, 27), (0, a1)]) rfl ?_
  refine x_iload_n 1 dX8_listCount_0 rfl rfl rfl ?_
  refine x_bipush 10 (z := 10) dX8_listCount_1 rfl (by decide) rfl ?_
  refine x_icmp_ne (t := 10) 7 dX8_listCount_3 rfl rfl (b_itqv ok k (fun hc ok k => ?_) (fun hc ok k => ?_))
  · refine x_aload_n 0 dX8_listCount_10 rfl rfl rfl rfl rfl ?_
    refine x_iload_n 1 dX8_listCount_11 rfl rfl rfl ?_
    refine x_iconst 4 (z := 4) dX8_listCount_12 rfl (by decide) rfl ?_
    obtain ⟨e3, ok⟩ := ok
    refine y_Vi 47 (M := mX8_cell) (As := [(0, a1), (0, 4)]) (st := []) dX8_listCount_13 i27 rfl q2009 q2010 q2011 q375 q2012 rfl hmX8_cell rfl rfl rfl rfl rfl rfl rfl rfl (vX8_cell (Nat.le_trans (Nat.le_of_ble_eq_true rfl) hn) a1 4 e3 ?_)
    exact y_iret dX8_listCount_16 rfl k
  · refine x_iconst 0 (z := 0) dX8_listCount_6 rfl (by decide) rfl ?_
    refine x_goto 9 (q := 16) dX8_listCount_7 rfl ?_
    exact y_iret dX8_listCount_16 rfl k
def fX8_count (w : bW) (a1 : Int) : Int := fX8_cell w a1 2
def oX8_count (n : Nat) (w : bW) (a1 : Int) : Prop := (oX8_cell n w a1 2) ∧ (True)
theorem vX8_count {d n : Nat} {w : bW} {Q : Int → bW → Prop} {X : String → bW → Prop} (hn : 143 ≤ n) (a1 : Int) (ok : oX8_count n w a1) (k : Q (fX8_count w a1) w) : b_K (d + 2) mX8_count [(2, 27), (0, a1)] n w Q X := by
  have i27 := iz27 (Nat.le_trans (Nat.le_of_ble_eq_true rfl) hn)
  unfold fX8_count at k
  unfold oX8_count at ok
  refine k_of (by decide) rfl rfl rfl (ls := [(2, 27), (0, a1)]) rfl ?_
  refine x_aload_n 0 dX8_count_0 rfl rfl rfl rfl rfl ?_
  refine x_iload_n 1 dX8_count_1 rfl rfl rfl ?_
  refine x_iconst 2 (z := 2) dX8_count_2 rfl (by decide) rfl ?_
  obtain ⟨e3, ok⟩ := ok
  refine y_Vi 47 (M := mX8_cell) (As := [(0, a1), (0, 2)]) (st := []) dX8_count_3 i27 rfl q2009 q2010 q2011 q375 q2012 rfl hmX8_cell rfl rfl rfl rfl rfl rfl rfl rfl (vX8_cell (Nat.le_trans (Nat.le_of_ble_eq_true rfl) hn) a1 2 e3 ?_)
  exact y_iret dX8_count_6 rfl k
def fX8_byteAt (w : bW) (a1 : Int) (a2 : Int) : Int := b_and (b_ush (fX8_cell w a1 (b_i (3 + (b_shr a2 2)))) (b_i (8 * (b_and a2 3)))) 255
def oX8_byteAt (n : Nat) (w : bW) (a1 : Int) (a2 : Int) : Prop := (oX8_cell n w a1 (b_i (3 + (b_shr a2 2)))) ∧ (True)
theorem vX8_byteAt {d n : Nat} {w : bW} {Q : Int → bW → Prop} {X : String → bW → Prop} (hn : 143 ≤ n) (a1 : Int) (a2 : Int) (ok : oX8_byteAt n w a1 a2) (k : Q (fX8_byteAt w a1 a2) w) : b_K (d + 2) mX8_byteAt [(2, 27), (0, a1), (0, a2)] n w Q X := by
  have i27 := iz27 (Nat.le_trans (Nat.le_of_ble_eq_true rfl) hn)
  unfold fX8_byteAt at k
  unfold oX8_byteAt at ok
  refine k_of (by decide) rfl rfl rfl (ls := [(2, 27), (0, a1), (0, a2)]) rfl ?_
  refine x_aload_n 0 dX8_byteAt_0 rfl rfl rfl rfl rfl ?_
  refine x_iload_n 1 dX8_byteAt_1 rfl rfl rfl ?_
  refine x_iconst 3 (z := 3) dX8_byteAt_2 rfl (by decide) rfl ?_
  refine x_iload_n 2 dX8_byteAt_3 rfl rfl rfl ?_
  refine x_iconst 2 (z := 2) dX8_byteAt_4 rfl (by decide) rfl ?_
  refine x_ishr dX8_byteAt_5 rfl ?_
  refine x_iadd dX8_byteAt_6 rfl ?_
  obtain ⟨e3, ok⟩ := ok
  refine y_Vi 47 (M := mX8_cell) (As := [(0, a1), (0, b_i (3 + (b_shr a2 2)))]) (st := []) dX8_byteAt_7 i27 rfl q2009 q2010 q2011 q375 q2012 rfl hmX8_cell rfl rfl rfl rfl rfl rfl rfl rfl (vX8_cell (Nat.le_trans (Nat.le_of_ble_eq_true rfl) hn) a1 (b_i (3 + (b_shr a2 2))) e3 ?_)
  refine x_bipush 8 (z := 8) dX8_byteAt_10 rfl (by decide) rfl ?_
  refine x_iload_n 2 dX8_byteAt_12 rfl rfl rfl ?_
  refine x_iconst 3 (z := 3) dX8_byteAt_13 rfl (by decide) rfl ?_
  refine x_iand dX8_byteAt_14 rfl ?_
  refine x_imul dX8_byteAt_15 rfl ?_
  refine x_iushr dX8_byteAt_16 rfl ?_
  refine x_sipush 255 (z := 255) dX8_byteAt_17 rfl (by decide) rfl ?_
  refine x_iand dX8_byteAt_20 rfl ?_
  exact y_iret dX8_byteAt_21 rfl k
def fX8_total (w : bW) (a1 : Int) : Int := (if a1 ≠ 12 then fX8_cell w a1 1 else 0)
def oX8_total (n : Nat) (w : bW) (a1 : Int) : Prop := if a1 ≠ 12 then ((oX8_cell n w a1 1) ∧ (True)) else True
theorem vX8_total {d n : Nat} {w : bW} {Q : Int → bW → Prop} {X : String → bW → Prop} (hn : 143 ≤ n) (a1 : Int) (ok : oX8_total n w a1) (k : Q (fX8_total w a1) w) : b_K (d + 2) mX8_total [(2, 27), (0, a1)] n w Q X := by
  have i27 := iz27 (Nat.le_trans (Nat.le_of_ble_eq_true rfl) hn)
  unfold fX8_total at k
  unfold oX8_total at ok
  refine k_of (by decide) rfl rfl rfl (ls := [(2, 27), (0, a1)]) rfl ?_
  refine x_iload_n 1 dX8_total_0 rfl rfl rfl ?_
  refine x_bipush 12 (z := 12) dX8_total_1 rfl (by decide) rfl ?_
  refine x_icmp_ne (t := 10) 7 dX8_total_3 rfl rfl (b_itqv ok k (fun hc ok k => ?_) (fun hc ok k => ?_))
  · refine x_aload_n 0 dX8_total_10 rfl rfl rfl rfl rfl ?_
    refine x_iload_n 1 dX8_total_11 rfl rfl rfl ?_
    refine x_iconst 1 (z := 1) dX8_total_12 rfl (by decide) rfl ?_
    obtain ⟨e3, ok⟩ := ok
    refine y_Vi 47 (M := mX8_cell) (As := [(0, a1), (0, 1)]) (st := []) dX8_total_13 i27 rfl q2009 q2010 q2011 q375 q2012 rfl hmX8_cell rfl rfl rfl rfl rfl rfl rfl rfl (vX8_cell (Nat.le_trans (Nat.le_of_ble_eq_true rfl) hn) a1 1 e3 ?_)
    exact y_iret dX8_total_16 rfl k
  · refine x_iconst 0 (z := 0) dX8_total_6 rfl (by decide) rfl ?_
    refine x_goto 9 (q := 16) dX8_total_7 rfl ?_
    exact y_iret dX8_total_16 rfl k
def fX8_many (w : bW) (a1 : Int) : Int := (if a1 ≠ 12 then fX8_cell w a1 6 else 0)
def oX8_many (n : Nat) (w : bW) (a1 : Int) : Prop := if a1 ≠ 12 then ((oX8_cell n w a1 6) ∧ (True)) else True
theorem vX8_many {d n : Nat} {w : bW} {Q : Int → bW → Prop} {X : String → bW → Prop} (hn : 143 ≤ n) (a1 : Int) (ok : oX8_many n w a1) (k : Q (fX8_many w a1) w) : b_K (d + 2) mX8_many [(2, 27), (0, a1)] n w Q X := by
  have i27 := iz27 (Nat.le_trans (Nat.le_of_ble_eq_true rfl) hn)
  unfold fX8_many at k
  unfold oX8_many at ok
  refine k_of (by decide) rfl rfl rfl (ls := [(2, 27), (0, a1)]) rfl ?_
  refine x_iload_n 1 dX8_many_0 rfl rfl rfl ?_
  refine x_bipush 12 (z := 12) dX8_many_1 rfl (by decide) rfl ?_
  refine x_icmp_ne (t := 10) 7 dX8_many_3 rfl rfl (b_itqv ok k (fun hc ok k => ?_) (fun hc ok k => ?_))
  · refine x_aload_n 0 dX8_many_10 rfl rfl rfl rfl rfl ?_
    refine x_iload_n 1 dX8_many_11 rfl rfl rfl ?_
    refine x_bipush 6 (z := 6) dX8_many_12 rfl (by decide) rfl ?_
    obtain ⟨e3, ok⟩ := ok
    refine y_Vi 47 (M := mX8_cell) (As := [(0, a1), (0, 6)]) (st := []) dX8_many_14 i27 rfl q2009 q2010 q2011 q375 q2012 rfl hmX8_cell rfl rfl rfl rfl rfl rfl rfl rfl (vX8_cell (Nat.le_trans (Nat.le_of_ble_eq_true rfl) hn) a1 6 e3 ?_)
    exact y_iret dX8_many_17 rfl k
  · refine x_iconst 0 (z := 0) dX8_many_6 rfl (by decide) rfl ?_
    refine x_goto 10 (q := 17) dX8_many_7 rfl ?_
    exact y_iret dX8_many_17 rfl k
def fX8_height (w : bW) (a1 : Int) : Int := (if a1 ≠ 12 then fX8_cell w a1 7 else 0)
def oX8_height (n : Nat) (w : bW) (a1 : Int) : Prop := if a1 ≠ 12 then ((oX8_cell n w a1 7) ∧ (True)) else True
theorem vX8_height {d n : Nat} {w : bW} {Q : Int → bW → Prop} {X : String → bW → Prop} (hn : 143 ≤ n) (a1 : Int) (ok : oX8_height n w a1) (k : Q (fX8_height w a1) w) : b_K (d + 2) mX8_height [(2, 27), (0, a1)] n w Q X := by
  have i27 := iz27 (Nat.le_trans (Nat.le_of_ble_eq_true rfl) hn)
  unfold fX8_height at k
  unfold oX8_height at ok
  refine k_of (by decide) rfl rfl rfl (ls := [(2, 27), (0, a1)]) rfl ?_
  refine x_iload_n 1 dX8_height_0 rfl rfl rfl ?_
  refine x_bipush 12 (z := 12) dX8_height_1 rfl (by decide) rfl ?_
  refine x_icmp_ne (t := 10) 7 dX8_height_3 rfl rfl (b_itqv ok k (fun hc ok k => ?_) (fun hc ok k => ?_))
  · refine x_aload_n 0 dX8_height_10 rfl rfl rfl rfl rfl ?_
    refine x_iload_n 1 dX8_height_11 rfl rfl rfl ?_
    refine x_bipush 7 (z := 7) dX8_height_12 rfl (by decide) rfl ?_
    obtain ⟨e3, ok⟩ := ok
    refine y_Vi 47 (M := mX8_cell) (As := [(0, a1), (0, 7)]) (st := []) dX8_height_14 i27 rfl q2009 q2010 q2011 q375 q2012 rfl hmX8_cell rfl rfl rfl rfl rfl rfl rfl rfl (vX8_cell (Nat.le_trans (Nat.le_of_ble_eq_true rfl) hn) a1 7 e3 ?_)
    exact y_iret dX8_height_17 rfl k
  · refine x_iconst 0 (z := 0) dX8_height_6 rfl (by decide) rfl ?_
    refine x_goto 10 (q := 17) dX8_height_7 rfl ?_
    exact y_iret dX8_height_17 rfl k
def gX8_dropFixed (w : bW) (a1 : Int) : bW := (b_up w 27 4 a1)
theorem vX8_dropFixed {d n : Nat} {w : bW} {Q : Int → bW → Prop} {X : String → bW → Prop} (hn : 28 ≤ n) (a1 : Int) (k : Q 0 (gX8_dropFixed w a1)) : b_K (d + 1) mX8_dropFixed [(2, 27), (0, a1)] n w Q X := by
  have i27 := iz27 (Nat.le_trans (Nat.le_of_ble_eq_true rfl) hn)
  unfold gX8_dropFixed at k
  refine k_of (by decide) rfl rfl rfl (ls := [(2, 27), (0, a1)]) rfl ?_
  refine x_aload_n 0 dX8_dropFixed_0 rfl rfl rfl rfl rfl ?_
  refine x_iload_n 1 dX8_dropFixed_1 rfl rfl rfl ?_
  refine x_put 27 4 (c := 7) dX8_dropFixed_2 i27 rfl in_X8 tyX8_ok nmX8 q807 rfl rfl rfl (Or.inl rfl) (Or.inl ⟨rfl, rfl⟩) rfl ?_
  exact y_vret dX8_dropFixed_5 rfl k
def fX8_sizeOf (w : bW) (a1 : Int) : Int := (if w (w 27 1) a1 ≠ 1 then (if w (w 27 1) a1 ≠ 2 then b_sz (w (w 27 1) a1) else b_i (3 + (b_shr (b_i ((w (w 27 1) (b_i (a1 + 2))) + 3)) 2))) else b_i (3 + (b_shr (b_i ((b_and (w (w 27 1) (b_i (a1 + 2))) 65535) + 1)) 1)))
def oX8_sizeOf (n : Nat) (w : bW) (a1 : Int) : Prop := b_ai n (w 27 1) 1 0 a1 ∧ (if w (w 27 1) a1 ≠ 1 then (if w (w 27 1) a1 ≠ 2 then ((0 ≤ w (w 27 1) a1 ∧ w (w 27 1) a1 < 12) ∧ (True)) else (b_ai n (w 27 1) 1 0 (b_i (a1 + 2)) ∧ (True))) else (b_ai n (w 27 1) 1 0 (b_i (a1 + 2)) ∧ (True)))
theorem vX8_sizeOf {d n : Nat} {w : bW} {Q : Int → bW → Prop} {X : String → bW → Prop} (hn : 28 ≤ n) (a1 : Int) (ok : oX8_sizeOf n w a1) (k : Q (fX8_sizeOf w a1) w) : b_K (d + 1) mX8_sizeOf [(2, 27), (0, a1)] n w Q X := by
  have i27 := iz27 (Nat.le_trans (Nat.le_of_ble_eq_true rfl) hn)
  unfold fX8_sizeOf at k
  unfold oX8_sizeOf at ok
  refine k_of (by decide) rfl rfl rfl (ls := [(2, 27), (0, a1), (9, 0)]) rfl ?_
  refine x_aload_n 0 dX8_sizeOf_0 rfl rfl rfl rfl rfl ?_
  refine y_get 16 1 (c := 7) (z := w 27 1) dX8_sizeOf_1 i27 rfl in_X8 q804 rfl rfl rfl rfl rfl ?_
  refine x_iload_n 1 dX8_sizeOf_4 rfl rfl rfl ?_
  obtain ⟨e1, ok⟩ := ok
  refine y_iald (z := w (w 27 1) a1) dX8_sizeOf_5 e1 rfl rfl ?_
  refine x_istore_n 2 (ls' := [(2, 27), (0, a1), (0, w (w 27 1) a1)]) dX8_sizeOf_6 rfl rfl rfl rfl ?_
  refine x_iload_n 2 dX8_sizeOf_7 rfl rfl rfl ?_
  refine x_iconst 1 (z := 1) dX8_sizeOf_8 rfl (by decide) rfl ?_
  refine x_icmp_ne (t := 32) 23 dX8_sizeOf_9 rfl rfl (b_itqv ok k (fun hc ok k => ?_) (fun hc ok k => ?_))
  · refine x_iload_n 2 dX8_sizeOf_32 rfl rfl rfl ?_
    refine x_iconst 2 (z := 2) dX8_sizeOf_33 rfl (by decide) rfl ?_
    refine x_icmp_ne (t := 54) 20 dX8_sizeOf_34 rfl rfl (b_itqv ok k (fun hc ok k => ?_) (fun hc ok k => ?_))
    · refine x_gsz 60 dX8_sizeOf_54 q2362 rfl ?_
      refine x_iload_n 2 dX8_sizeOf_57 rfl rfl rfl ?_
      obtain ⟨e2, ok⟩ := ok
      refine x_bsz dX8_sizeOf_58 e2 rfl ?_
      exact y_iret dX8_sizeOf_59 rfl k
    · refine x_iconst 3 (z := 3) dX8_sizeOf_37 rfl (by decide) rfl ?_
      refine x_aload_n 0 dX8_sizeOf_38 rfl rfl rfl rfl rfl ?_
      refine y_get 16 1 (c := 7) (z := w 27 1) dX8_sizeOf_39 i27 rfl in_X8 q804 rfl rfl rfl rfl rfl ?_
      refine x_iload_n 1 dX8_sizeOf_42 rfl rfl rfl ?_
      refine x_iconst 2 (z := 2) dX8_sizeOf_43 rfl (by decide) rfl ?_
      refine x_iadd dX8_sizeOf_44 rfl ?_
      obtain ⟨e3, ok⟩ := ok
      refine y_iald (z := w (w 27 1) (b_i (a1 + 2))) dX8_sizeOf_45 e3 rfl rfl ?_
      refine x_iconst 3 (z := 3) dX8_sizeOf_46 rfl (by decide) rfl ?_
      refine x_iadd dX8_sizeOf_47 rfl ?_
      refine x_iconst 2 (z := 2) dX8_sizeOf_48 rfl (by decide) rfl ?_
      refine x_ishr dX8_sizeOf_49 rfl ?_
      refine x_iadd dX8_sizeOf_50 rfl ?_
      refine x_goto 8 (q := 59) dX8_sizeOf_51 rfl ?_
      exact y_iret dX8_sizeOf_59 rfl k
  · refine x_iconst 3 (z := 3) dX8_sizeOf_12 rfl (by decide) rfl ?_
    refine x_aload_n 0 dX8_sizeOf_13 rfl rfl rfl rfl rfl ?_
    refine y_get 16 1 (c := 7) (z := w 27 1) dX8_sizeOf_14 i27 rfl in_X8 q804 rfl rfl rfl rfl rfl ?_
    refine x_iload_n 1 dX8_sizeOf_17 rfl rfl rfl ?_
    refine x_iconst 2 (z := 2) dX8_sizeOf_18 rfl (by decide) rfl ?_
    refine x_iadd dX8_sizeOf_19 rfl ?_
    obtain ⟨e4, ok⟩ := ok
    refine y_iald (z := w (w 27 1) (b_i (a1 + 2))) dX8_sizeOf_20 e4 rfl rfl ?_
    refine x_ldc 59 (x := 65535) dX8_sizeOf_21 q2108 rfl (by decide) rfl ?_
    refine x_iand dX8_sizeOf_23 rfl ?_
    refine x_iconst 1 (z := 1) dX8_sizeOf_24 rfl (by decide) rfl ?_
    refine x_iadd dX8_sizeOf_25 rfl ?_
    refine x_iconst 1 (z := 1) dX8_sizeOf_26 rfl (by decide) rfl ?_
    refine x_ishr dX8_sizeOf_27 rfl ?_
    refine x_iadd dX8_sizeOf_28 rfl ?_
    refine x_goto 30 (q := 59) dX8_sizeOf_29 rfl ?_
    exact y_iret dX8_sizeOf_59 rfl k
def fX8_sizeHere (w : bW) (a1 : Int) : Int := (if w (w 27 0) a1 ≠ 1 then (if w (w 27 0) a1 ≠ 2 then b_sz (w (w 27 0) a1) else b_i (3 + (b_shr (b_i ((w (w 27 0) (b_i (a1 + 2))) + 3)) 2))) else b_i (3 + (b_shr (b_i ((b_and (w (w 27 0) (b_i (a1 + 2))) 65535) + 1)) 1)))
def oX8_sizeHere (n : Nat) (w : bW) (a1 : Int) : Prop := b_ai n (w 27 0) 1 0 a1 ∧ (if w (w 27 0) a1 ≠ 1 then (if w (w 27 0) a1 ≠ 2 then ((0 ≤ w (w 27 0) a1 ∧ w (w 27 0) a1 < 12) ∧ (True)) else (b_ai n (w 27 0) 1 0 (b_i (a1 + 2)) ∧ (True))) else (b_ai n (w 27 0) 1 0 (b_i (a1 + 2)) ∧ (True)))
theorem vX8_sizeHere {d n : Nat} {w : bW} {Q : Int → bW → Prop} {X : String → bW → Prop} (hn : 28 ≤ n) (a1 : Int) (ok : oX8_sizeHere n w a1) (k : Q (fX8_sizeHere w a1) w) : b_K (d + 1) mX8_sizeHere [(2, 27), (0, a1)] n w Q X := by
  have i27 := iz27 (Nat.le_trans (Nat.le_of_ble_eq_true rfl) hn)
  unfold fX8_sizeHere at k
  unfold oX8_sizeHere at ok
  refine k_of (by decide) rfl rfl rfl (ls := [(2, 27), (0, a1), (9, 0)]) rfl ?_
  refine x_aload_n 0 dX8_sizeHere_0 rfl rfl rfl rfl rfl ?_
  refine y_get 10 0 (c := 7) (z := w 27 0) dX8_sizeHere_1 i27 rfl in_X8 q803 rfl rfl rfl rfl rfl ?_
  refine x_iload_n 1 dX8_sizeHere_4 rfl rfl rfl ?_
  obtain ⟨e1, ok⟩ := ok
  refine y_iald (z := w (w 27 0) a1) dX8_sizeHere_5 e1 rfl rfl ?_
  refine x_istore_n 2 (ls' := [(2, 27), (0, a1), (0, w (w 27 0) a1)]) dX8_sizeHere_6 rfl rfl rfl rfl ?_
  refine x_iload_n 2 dX8_sizeHere_7 rfl rfl rfl ?_
  refine x_iconst 1 (z := 1) dX8_sizeHere_8 rfl (by decide) rfl ?_
  refine x_icmp_ne (t := 32) 23 dX8_sizeHere_9 rfl rfl (b_itqv ok k (fun hc ok k => ?_) (fun hc ok k => ?_))
  · refine x_iload_n 2 dX8_sizeHere_32 rfl rfl rfl ?_
    refine x_iconst 2 (z := 2) dX8_sizeHere_33 rfl (by decide) rfl ?_
    refine x_icmp_ne (t := 54) 20 dX8_sizeHere_34 rfl rfl (b_itqv ok k (fun hc ok k => ?_) (fun hc ok k => ?_))
    · refine x_gsz 60 dX8_sizeHere_54 q2362 rfl ?_
      refine x_iload_n 2 dX8_sizeHere_57 rfl rfl rfl ?_
      obtain ⟨e2, ok⟩ := ok
      refine x_bsz dX8_sizeHere_58 e2 rfl ?_
      exact y_iret dX8_sizeHere_59 rfl k
    · refine x_iconst 3 (z := 3) dX8_sizeHere_37 rfl (by decide) rfl ?_
      refine x_aload_n 0 dX8_sizeHere_38 rfl rfl rfl rfl rfl ?_
      refine y_get 10 0 (c := 7) (z := w 27 0) dX8_sizeHere_39 i27 rfl in_X8 q803 rfl rfl rfl rfl rfl ?_
      refine x_iload_n 1 dX8_sizeHere_42 rfl rfl rfl ?_
      refine x_iconst 2 (z := 2) dX8_sizeHere_43 rfl (by decide) rfl ?_
      refine x_iadd dX8_sizeHere_44 rfl ?_
      obtain ⟨e3, ok⟩ := ok
      refine y_iald (z := w (w 27 0) (b_i (a1 + 2))) dX8_sizeHere_45 e3 rfl rfl ?_
      refine x_iconst 3 (z := 3) dX8_sizeHere_46 rfl (by decide) rfl ?_
      refine x_iadd dX8_sizeHere_47 rfl ?_
      refine x_iconst 2 (z := 2) dX8_sizeHere_48 rfl (by decide) rfl ?_
      refine x_ishr dX8_sizeHere_49 rfl ?_
      refine x_iadd dX8_sizeHere_50 rfl ?_
      refine x_goto 8 (q := 59) dX8_sizeHere_51 rfl ?_
      exact y_iret dX8_sizeHere_59 rfl k
  · refine x_iconst 3 (z := 3) dX8_sizeHere_12 rfl (by decide) rfl ?_
    refine x_aload_n 0 dX8_sizeHere_13 rfl rfl rfl rfl rfl ?_
    refine y_get 10 0 (c := 7) (z := w 27 0) dX8_sizeHere_14 i27 rfl in_X8 q803 rfl rfl rfl rfl rfl ?_
    refine x_iload_n 1 dX8_sizeHere_17 rfl rfl rfl ?_
    refine x_iconst 2 (z := 2) dX8_sizeHere_18 rfl (by decide) rfl ?_
    refine x_iadd dX8_sizeHere_19 rfl ?_
    obtain ⟨e4, ok⟩ := ok
    refine y_iald (z := w (w 27 0) (b_i (a1 + 2))) dX8_sizeHere_20 e4 rfl rfl ?_
    refine x_ldc 59 (x := 65535) dX8_sizeHere_21 q2108 rfl (by decide) rfl ?_
    refine x_iand dX8_sizeHere_23 rfl ?_
    refine x_iconst 1 (z := 1) dX8_sizeHere_24 rfl (by decide) rfl ?_
    refine x_iadd dX8_sizeHere_25 rfl ?_
    refine x_iconst 1 (z := 1) dX8_sizeHere_26 rfl (by decide) rfl ?_
    refine x_ishr dX8_sizeHere_27 rfl ?_
    refine x_iadd dX8_sizeHere_28 rfl ?_
    refine x_goto 30 (q := 59) dX8_sizeHere_29 rfl ?_
    exact y_iret dX8_sizeHere_59 rfl k
def fX8_isNegative (w : bW) (a1 : Int) : Int := (if fX8_isSmall w a1 = 0 then (if b_shr (fX8_cell w a1 2) 16 = 0 then 0 else 1) else (if 0 ≤ a1 then 0 else 1))
def oX8_isNegative (n : Nat) (w : bW) (a1 : Int) : Prop := if fX8_isSmall w a1 = 0 then ((oX8_cell n w a1 2) ∧ (True)) else True
theorem vX8_isNegative {d n : Nat} {w : bW} {Q : Int → bW → Prop} {X : String → bW → Prop} (hn : 143 ≤ n) (a1 : Int) (ok : oX8_isNegative n w a1) (k : Q (fX8_isNegative w a1) w) : b_K (d + 2) mX8_isNegative [(2, 27), (0, a1)] n w Q X := by
  have i27 := iz27 (Nat.le_trans (Nat.le_of_ble_eq_true rfl) hn)
  unfold fX8_isNegative at k
  unfold oX8_isNegative at ok
  refine k_of (by decide) rfl rfl rfl (ls := [(2, 27), (0, a1)]) rfl ?_
  refine x_iload_n 1 dX8_isNegative_0 rfl rfl rfl ?_
  refine y_Si 89 (M := mX8_isSmall) (As := [(0, a1)]) (st := []) dX8_isNegative_1 q2031 q2032 q375 q2033 hmX8_isSmall rfl rfl rfl rfl rfl rfl rfl rfl (vX8_isSmall a1 ?_)
  refine x_if_eq (t := 19) 15 dX8_isNegative_4 rfl rfl (b_itqv ok k (fun hc ok k => ?_) (fun hc ok k => ?_))
  · refine x_aload_n 0 dX8_isNegative_19 rfl rfl rfl rfl rfl ?_
    refine x_iload_n 1 dX8_isNegative_20 rfl rfl rfl ?_
    refine x_iconst 2 (z := 2) dX8_isNegative_21 rfl (by decide) rfl ?_
    obtain ⟨e5, ok⟩ := ok
    refine y_Vi 47 (M := mX8_cell) (As := [(0, a1), (0, 2)]) (st := []) dX8_isNegative_22 i27 rfl q2009 q2010 q2011 q375 q2012 rfl hmX8_cell rfl rfl rfl rfl rfl rfl rfl rfl (vX8_cell (Nat.le_trans (Nat.le_of_ble_eq_true rfl) hn) a1 2 e5 ?_)
    refine x_bipush 16 (z := 16) dX8_isNegative_25 rfl (by decide) rfl ?_
    refine x_ishr dX8_isNegative_27 rfl ?_
    refine x_if_eq (t := 35) 7 dX8_isNegative_28 rfl rfl (b_itqv (b_tt _) k (fun hc ok k => ?_) (fun hc ok k => ?_))
    · refine x_iconst 0 (z := 0) dX8_isNegative_35 rfl (by decide) rfl ?_
      exact y_zret dX8_isNegative_36 rfl (by decide) k
    · refine x_iconst 1 (z := 1) dX8_isNegative_31 rfl (by decide) rfl ?_
      refine x_goto 4 (q := 36) dX8_isNegative_32 rfl ?_
      exact y_zret dX8_isNegative_36 rfl (by decide) k
  · refine x_iload_n 1 dX8_isNegative_7 rfl rfl rfl ?_
    refine x_if_ge (t := 15) 7 dX8_isNegative_8 rfl rfl (b_itqv (b_tt _) k (fun hc ok k => ?_) (fun hc ok k => ?_))
    · refine x_iconst 0 (z := 0) dX8_isNegative_15 rfl (by decide) rfl ?_
      refine x_goto 20 (q := 36) dX8_isNegative_16 rfl ?_
      exact y_zret dX8_isNegative_36 rfl (by decide) k
    · refine x_iconst 1 (z := 1) dX8_isNegative_11 rfl (by decide) rfl ?_
      refine x_goto 24 (q := 36) dX8_isNegative_12 rfl ?_
      exact y_zret dX8_isNegative_36 rfl (by decide) k
def fX8_begin (w : bW) (a1 : Int) : Int := (if fX8_cell w a1 4 = 0 then 0 else 1)
def gX8_begin (w : bW) (a1 : Int) : bW := (gX8_set w a1 4 1)
def oX8_begin (n : Nat) (w : bW) (a1 : Int) : Prop := (oX8_cell n w a1 4) ∧ (if fX8_cell w a1 4 = 0 then ((oX8_set n w a1 4 1) ∧ (True)) else ((oX8_set n w a1 4 1) ∧ (True)))
theorem vX8_begin {d n : Nat} {w : bW} {Q : Int → bW → Prop} {X : String → bW → Prop} (hn : 143 ≤ n) (a1 : Int) (ok : oX8_begin n w a1) (k : Q (fX8_begin w a1) (gX8_begin w a1)) : b_K (d + 2) mX8_begin [(2, 27), (0, a1)] n w Q X := by
  have i27 := iz27 (Nat.le_trans (Nat.le_of_ble_eq_true rfl) hn)
  unfold fX8_begin gX8_begin at k
  unfold oX8_begin at ok
  refine k_of (by decide) rfl rfl rfl (ls := [(2, 27), (0, a1), (9, 0)]) rfl ?_
  refine x_aload_n 0 dX8_begin_0 rfl rfl rfl rfl rfl ?_
  refine x_iload_n 1 dX8_begin_1 rfl rfl rfl ?_
  refine x_iconst 4 (z := 4) dX8_begin_2 rfl (by decide) rfl ?_
  obtain ⟨e3, ok⟩ := ok
  refine y_Vi 47 (M := mX8_cell) (As := [(0, a1), (0, 4)]) (st := []) dX8_begin_3 i27 rfl q2009 q2010 q2011 q375 q2012 rfl hmX8_cell rfl rfl rfl rfl rfl rfl rfl rfl (vX8_cell (Nat.le_trans (Nat.le_of_ble_eq_true rfl) hn) a1 4 e3 ?_)
  refine x_if_eq (t := 13) 7 dX8_begin_6 rfl rfl (b_itqv ok k (fun hc ok k => ?_) (fun hc ok k => ?_))
  · refine x_iconst 0 (z := 0) dX8_begin_13 rfl (by decide) rfl ?_
    refine x_istore_n 2 (ls' := [(2, 27), (0, a1), (0, 0)]) dX8_begin_14 rfl rfl rfl rfl ?_
    refine x_aload_n 0 dX8_begin_15 rfl rfl rfl rfl rfl ?_
    refine x_iload_n 1 dX8_begin_16 rfl rfl rfl ?_
    refine x_iconst 4 (z := 4) dX8_begin_17 rfl (by decide) rfl ?_
    refine x_iconst 1 (z := 1) dX8_begin_18 rfl (by decide) rfl ?_
    obtain ⟨e6, ok⟩ := ok
    refine y_Vv 55 (M := mX8_set) (As := [(0, a1), (0, 4), (0, 1)]) (st := []) dX8_begin_19 i27 rfl q1975 q1977 qs38 q375 q1978 rfl hmX8_set rfl rfl rfl rfl rfl rfl rfl (vX8_set (Nat.le_trans (Nat.le_of_ble_eq_true rfl) hn) a1 4 1 e6 ?_)
    refine x_iload_n 2 dX8_begin_22 rfl rfl rfl ?_
    exact y_zret dX8_begin_23 rfl (by decide) k
  · refine x_iconst 1 (z := 1) dX8_begin_9 rfl (by decide) rfl ?_
    refine x_goto 4 (q := 14) dX8_begin_10 rfl ?_
    refine x_istore_n 2 (ls' := [(2, 27), (0, a1), (0, 1)]) dX8_begin_14 rfl rfl rfl rfl ?_
    refine x_aload_n 0 dX8_begin_15 rfl rfl rfl rfl rfl ?_
    refine x_iload_n 1 dX8_begin_16 rfl rfl rfl ?_
    refine x_iconst 4 (z := 4) dX8_begin_17 rfl (by decide) rfl ?_
    refine x_iconst 1 (z := 1) dX8_begin_18 rfl (by decide) rfl ?_
    obtain ⟨e9, ok⟩ := ok
    refine y_Vv 55 (M := mX8_set) (As := [(0, a1), (0, 4), (0, 1)]) (st := []) dX8_begin_19 i27 rfl q1975 q1977 qs38 q375 q1978 rfl hmX8_set rfl rfl rfl rfl rfl rfl rfl (vX8_set (Nat.le_trans (Nat.le_of_ble_eq_true rfl) hn) a1 4 1 e9 ?_)
    refine x_iload_n 2 dX8_begin_22 rfl rfl rfl ?_
    exact y_zret dX8_begin_23 rfl (by decide) k
def fX9_sign (w : bW) (a0 : Int) : Int := (if 0 ≤ a0 then (if a0 ≤ 0 then 0 else 1) else (-1))
theorem vX9_sign {d n : Nat} {w : bW} {Q : Int → bW → Prop} {X : String → bW → Prop} (a0 : Int) (k : Q (fX9_sign w a0) w) : b_K (d + 1) mX9_sign [(0, a0)] n w Q X := by
  unfold fX9_sign at k
  refine k_of (by decide) rfl rfl rfl (ls := [(0, a0)]) rfl ?_
  refine x_iload_n 0 dX9_sign_0 rfl rfl rfl ?_
  refine x_if_ge (t := 8) 7 dX9_sign_1 rfl rfl (b_itqv (b_tt _) k (fun hc ok k => ?_) (fun hc ok k => ?_))
  · refine x_iload_n 0 dX9_sign_8 rfl rfl rfl ?_
    refine x_if_le (t := 16) 7 dX9_sign_9 rfl rfl (b_itqv (b_tt _) k (fun hc ok k => ?_) (fun hc ok k => ?_))
    · refine x_iconst 0 (z := 0) dX9_sign_16 rfl (by decide) rfl ?_
      exact y_iret dX9_sign_17 rfl k
    · refine x_iconst 1 (z := 1) dX9_sign_12 rfl (by decide) rfl ?_
      refine x_goto 4 (q := 17) dX9_sign_13 rfl ?_
      exact y_iret dX9_sign_17 rfl k
  · refine x_iconst (-1) (z := (-1)) dX9_sign_4 rfl (by decide) rfl ?_
    refine x_goto 12 (q := 17) dX9_sign_5 rfl ?_
    exact y_iret dX9_sign_17 rfl k
def fJ4_length (w : bW) (t4 : Int) : Int := b_shr (b_tlen t4) (fJ4_coder w t4)
def oJ4_length (n : Nat) (w : bW) (t4 : Int) : Prop := (oJ4_coder n w t4) ∧ (True)
theorem vJ4_length {d n : Nat} {w : bW} {Q : Int → bW → Prop} {X : String → bW → Prop} (t4 : Int) (hk : 0 ≤ t4 ∧ t4 < 6) (ok : oJ4_length n w t4) (k : Q (fJ4_length w t4) w) : b_K (d + 2) mJ4_length [(4, t4)] n w Q X := by
  unfold fJ4_length at k
  unfold oJ4_length at ok
  refine k_of (by decide) rfl rfl rfl (ls := [(4, t4)]) rfl ?_
  refine x_aload_n 0 dJ4_length_0 rfl rfl rfl rfl rfl ?_
  refine x_sval 9 dJ4_length_1 hk q4701 rfl ?_
  refine x_lst dJ4_length_4 hk rfl ?_
  refine x_aload_n 0 dJ4_length_5 rfl rfl rfl rfl rfl ?_
  obtain ⟨e3, ok⟩ := ok
  refine y_Ti 335 (M := mJ4_coder) (As := []) (st := [(0, b_tlen t4)]) dJ4_length_6 hk q501 q502 q503 q365 q504 rfl hmJ4_coder rfl rfl rfl rfl rfl rfl rfl rfl (vJ4_coder t4 hk e3 ?_)
  refine x_ishr dJ4_length_9 rfl ?_
  exact y_iret dJ4_length_10 rfl k
def fX1_batch (w : bW) (a1 : Int) (a2 : Int) : Int := (if fX1_isAccount w a1 ≠ 0 then 1 else 0)
def gX1_batch (w : bW) (a1 : Int) (a2 : Int) : bW := (if fX1_isAccount w a1 ≠ 0 then (b_up (b_up (b_up (b_up (b_up (b_up (b_up (b_up w 0 21 1) 0 22 a1) 0 23 a2) 0 24 0) 0 25 0) 0 26 0) 0 28 0) 0 30 0) else w)
theorem vX1_batch {d n : Nat} {w : bW} {Q : Int → bW → Prop} {X : String → bW → Prop} (hn : 143 ≤ n) (a1 : Int) (a2 : Int) (k : Q (fX1_batch w a1 a2) (gX1_batch w a1 a2)) : b_K (d + 2) mX1_batch [(2, 0), (0, a1), (0, a2)] n w Q X := by
  have i0 := iz0 (Nat.le_trans (Nat.le_of_ble_eq_true rfl) hn)
  unfold fX1_batch gX1_batch at k
  refine k_of (by decide) rfl rfl rfl (ls := [(2, 0), (0, a1), (0, a2)]) rfl ?_
  refine x_aload_n 0 dX1_batch_0 rfl rfl rfl rfl rfl ?_
  refine x_iload_n 1 dX1_batch_1 rfl rfl rfl ?_
  refine y_Vi 280 (M := mX1_isAccount) (As := [(0, a1)]) (st := []) dX1_batch_2 i0 rfl q2450 q2452 qs97 q358 q2453 rfl hmX1_isAccount rfl rfl rfl rfl rfl rfl rfl rfl (vX1_isAccount (Nat.le_trans (Nat.le_of_ble_eq_true rfl) hn) a1 ?_)
  refine x_if_ne (t := 10) 5 dX1_batch_5 rfl rfl (b_itq (b_tt _) k (fun hc ok k => ?_) (fun hc ok k => ?_))
  · refine x_aload_n 0 dX1_batch_10 rfl rfl rfl rfl rfl ?_
    refine x_iconst 1 (z := 1) dX1_batch_11 rfl (by decide) rfl ?_
    refine x_put 283 21 (c := 0) dX1_batch_12 i0 rfl in_X1 tyX1_ok nmX1 q1588 rfl rfl rfl (Or.inl rfl) (Or.inr (Or.inl ⟨rfl, rfl, by decide⟩)) rfl ?_
    refine x_aload_n 0 dX1_batch_15 rfl rfl rfl rfl rfl ?_
    refine x_iload_n 1 dX1_batch_16 rfl rfl rfl ?_
    refine x_put 287 22 (c := 0) dX1_batch_17 i0 rfl in_X1 tyX1_ok nmX1 q1589 rfl rfl rfl (Or.inl rfl) (Or.inl ⟨rfl, rfl⟩) rfl ?_
    refine x_aload_n 0 dX1_batch_20 rfl rfl rfl rfl rfl ?_
    refine x_iload_n 2 dX1_batch_21 rfl rfl rfl ?_
    refine x_put 290 23 (c := 0) dX1_batch_22 i0 rfl in_X1 tyX1_ok nmX1 q1590 rfl rfl rfl (Or.inl rfl) (Or.inl ⟨rfl, rfl⟩) rfl ?_
    refine x_aload_n 0 dX1_batch_25 rfl rfl rfl rfl rfl ?_
    refine x_lconst 0 (z := 0) dX1_batch_26 rfl (by decide) rfl ?_
    refine x_put 293 24 (c := 0) dX1_batch_27 i0 rfl in_X1 tyX1_ok nmX1 q1591 rfl rfl rfl (Or.inl rfl) (Or.inr (Or.inr (Or.inl ⟨rfl, rfl⟩))) rfl ?_
    refine x_aload_n 0 dX1_batch_30 rfl rfl rfl rfl rfl ?_
    refine x_iconst 0 (z := 0) dX1_batch_31 rfl (by decide) rfl ?_
    refine x_put 296 25 (c := 0) dX1_batch_32 i0 rfl in_X1 tyX1_ok nmX1 q1592 rfl rfl rfl (Or.inl rfl) (Or.inl ⟨rfl, rfl⟩) rfl ?_
    refine x_aload_n 0 dX1_batch_35 rfl rfl rfl rfl rfl ?_
    refine x_iconst 0 (z := 0) dX1_batch_36 rfl (by decide) rfl ?_
    refine x_put 299 26 (c := 0) dX1_batch_37 i0 rfl in_X1 tyX1_ok nmX1 q1593 rfl rfl rfl (Or.inl rfl) (Or.inl ⟨rfl, rfl⟩) rfl ?_
    refine x_aload_n 0 dX1_batch_40 rfl rfl rfl rfl rfl ?_
    refine x_iconst 0 (z := 0) dX1_batch_41 rfl (by decide) rfl ?_
    refine x_put 302 28 (c := 0) dX1_batch_42 i0 rfl in_X1 tyX1_ok nmX1 q1595 rfl rfl rfl (Or.inl rfl) (Or.inl ⟨rfl, rfl⟩) rfl ?_
    refine x_aload_n 0 dX1_batch_45 rfl rfl rfl rfl rfl ?_
    refine x_iconst 0 (z := 0) dX1_batch_46 rfl (by decide) rfl ?_
    refine x_put 305 30 (c := 0) dX1_batch_47 i0 rfl in_X1 tyX1_ok nmX1 q1597 rfl rfl rfl (Or.inl rfl) (Or.inl ⟨rfl, rfl⟩) rfl ?_
    refine x_iconst 1 (z := 1) dX1_batch_50 rfl (by decide) rfl ?_
    exact y_zret dX1_batch_51 rfl (by decide) k
  · refine x_iconst 0 (z := 0) dX1_batch_8 rfl (by decide) rfl ?_
    exact y_zret dX1_batch_9 rfl (by decide) k
def fX1_balance (w : bW) (a1 : Int) (a2 : Int) : Int := (if a1 = 0 then (if fX1_isAccount w a2 = 0 then (-1) else (if 0 ≤ a2 then w 71 a2 else (-1))) else (if 0 ≤ fX1_contractAt w a2 then w 71 (fX1_contractAt w a2) else (-1)))
def oX1_balance (n : Nat) (w : bW) (a1 : Int) (a2 : Int) : Prop := if a1 = 0 then (if fX1_isAccount w a2 = 0 then True else (if 0 ≤ a2 then ((0 ≤ a2 ∧ a2 < 200) ∧ (True)) else True)) else ((oX1_contractAt n w a2) ∧ (if 0 ≤ fX1_contractAt w a2 then ((0 ≤ fX1_contractAt w a2 ∧ fX1_contractAt w a2 < 200) ∧ (True)) else True))
theorem vX1_balance {d n : Nat} {w : bW} {Q : Int → bW → Prop} {X : String → bW → Prop} (hn : 143 ≤ n) (a1 : Int) (a2 : Int) (ok : oX1_balance n w a1 a2) (k : Q (fX1_balance w a1 a2) w) : b_K (d + 2) mX1_balance [(2, 0), (0, a1), (0, a2)] n w Q X := by
  have i0 := iz0 (Nat.le_trans (Nat.le_of_ble_eq_true rfl) hn)
  have i70 := iz70 (Nat.le_trans (Nat.le_of_ble_eq_true rfl) hn)
  have i71 := iz71 (Nat.le_trans (Nat.le_of_ble_eq_true rfl) hn)
  unfold fX1_balance at k
  unfold oX1_balance at ok
  refine k_of (by decide) rfl rfl rfl (ls := [(2, 0), (0, a1), (0, a2), (9, 0)]) rfl ?_
  refine x_iload_n 1 dX1_balance_0 rfl rfl rfl ?_
  refine x_if_eq (t := 12) 11 dX1_balance_1 rfl rfl (b_itqv ok k (fun hc ok k => ?_) (fun hc ok k => ?_))
  · refine x_aload_n 0 dX1_balance_12 rfl rfl rfl rfl rfl ?_
    refine x_iload_n 2 dX1_balance_13 rfl rfl rfl ?_
    refine y_Vi 280 (M := mX1_isAccount) (As := [(0, a2)]) (st := []) dX1_balance_14 i0 rfl q2450 q2452 qs97 q358 q2453 rfl hmX1_isAccount rfl rfl rfl rfl rfl rfl rfl rfl (vX1_isAccount (Nat.le_trans (Nat.le_of_ble_eq_true rfl) hn) a2 ?_)
    refine x_if_eq (t := 24) 7 dX1_balance_17 rfl rfl (b_itqv ok k (fun hc ok k => ?_) (fun hc ok k => ?_))
    · refine x_iconst (-1) (z := (-1)) dX1_balance_24 rfl (by decide) rfl ?_
      refine x_istore_n 3 (ls' := [(2, 0), (0, a1), (0, a2), (0, (-1))]) dX1_balance_25 rfl rfl rfl rfl ?_
      refine x_iload_n 3 dX1_balance_26 rfl rfl rfl ?_
      refine x_if_ge (t := 36) 9 dX1_balance_27 rfl rfl (b_ifF (by decide) ?_)
      refine x_ldc2 381 (x := (-1)) dX1_balance_30 q3048 rfl (by decide) rfl ?_
      refine x_goto 12 (q := 45) dX1_balance_33 rfl ?_
      exact y_lret dX1_balance_45 rfl k
    · refine x_iload_n 2 dX1_balance_20 rfl rfl rfl ?_
      refine x_goto 4 (q := 25) dX1_balance_21 rfl ?_
      refine x_istore_n 3 (ls' := [(2, 0), (0, a1), (0, a2), (0, a2)]) dX1_balance_25 rfl rfl rfl rfl ?_
      refine x_iload_n 3 dX1_balance_26 rfl rfl rfl ?_
      refine x_if_ge (t := 36) 9 dX1_balance_27 rfl rfl (b_itqv ok k (fun hc ok k => ?_) (fun hc ok k => ?_))
      · refine x_aload_n 0 dX1_balance_36 rfl rfl rfl rfl rfl ?_
        refine y_getF 121 15 (c := 0) (z := 70) dX1_balance_37 i0 rfl in_X1 q1582 rfl rfl rfl fn_0_15 (Nat.le_trans (Nat.le_of_ble_eq_true rfl) hn) rfl ?_
        refine y_getF 265 0 (c := 16) (z := 71) dX1_balance_40 i70 rfl in_X17 q1161 rfl rfl rfl fn_70_0 (Nat.le_trans (Nat.le_of_ble_eq_true rfl) hn) rfl ?_
        refine x_iload_n 3 dX1_balance_43 rfl rfl rfl ?_
        obtain ⟨e3, ok⟩ := ok
        refine y_lald (z := w 71 a2) dX1_balance_44 ⟨200, i71, e3⟩ rfl rfl ?_
        exact y_lret dX1_balance_45 rfl k
      · refine x_ldc2 381 (x := (-1)) dX1_balance_30 q3048 rfl (by decide) rfl ?_
        refine x_goto 12 (q := 45) dX1_balance_33 rfl ?_
        exact y_lret dX1_balance_45 rfl k
  · refine x_aload_n 0 dX1_balance_4 rfl rfl rfl rfl rfl ?_
    refine x_iload_n 2 dX1_balance_5 rfl rfl rfl ?_
    obtain ⟨e6, ok⟩ := ok
    refine y_Vi 378 (M := mX1_contractAt) (As := [(0, a2)]) (st := []) dX1_balance_6 i0 rfl q3044 q3046 qs173 q358 q3047 rfl hmX1_contractAt rfl rfl rfl rfl rfl rfl rfl rfl (vX1_contractAt (Nat.le_trans (Nat.le_of_ble_eq_true rfl) hn) a2 e6 ?_)
    refine x_goto 16 (q := 25) dX1_balance_9 rfl ?_
    refine x_istore_n 3 (ls' := [(2, 0), (0, a1), (0, a2), (0, fX1_contractAt w a2)]) dX1_balance_25 rfl rfl rfl rfl ?_
    refine x_iload_n 3 dX1_balance_26 rfl rfl rfl ?_
    refine x_if_ge (t := 36) 9 dX1_balance_27 rfl rfl (b_itqv ok k (fun hc ok k => ?_) (fun hc ok k => ?_))
    · refine x_aload_n 0 dX1_balance_36 rfl rfl rfl rfl rfl ?_
      refine y_getF 121 15 (c := 0) (z := 70) dX1_balance_37 i0 rfl in_X1 q1582 rfl rfl rfl fn_0_15 (Nat.le_trans (Nat.le_of_ble_eq_true rfl) hn) rfl ?_
      refine y_getF 265 0 (c := 16) (z := 71) dX1_balance_40 i70 rfl in_X17 q1161 rfl rfl rfl fn_70_0 (Nat.le_trans (Nat.le_of_ble_eq_true rfl) hn) rfl ?_
      refine x_iload_n 3 dX1_balance_43 rfl rfl rfl ?_
      obtain ⟨e7, ok⟩ := ok
      refine y_lald (z := w 71 (fX1_contractAt w a2)) dX1_balance_44 ⟨200, i71, e7⟩ rfl rfl ?_
      exact y_lret dX1_balance_45 rfl k
    · refine x_ldc2 381 (x := (-1)) dX1_balance_30 q3048 rfl (by decide) rfl ?_
      refine x_goto 12 (q := 45) dX1_balance_33 rfl ?_
      exact y_lret dX1_balance_45 rfl k
def fX10_low (w : bW) (a1 : Int) : Int := fX8_cell w a1 4
def oX10_low (n : Nat) (w : bW) (a1 : Int) : Prop := (oX8_cell n w a1 4) ∧ (True)
theorem vX10_low {d n : Nat} {w : bW} {Q : Int → bW → Prop} {X : String → bW → Prop} (hn : 143 ≤ n) (a1 : Int) (ok : oX10_low n w a1) (k : Q (fX10_low w a1) w) : b_K (d + 2) mX10_low [(2, 38), (0, a1)] n w Q X := by
  have i27 := iz27 (Nat.le_trans (Nat.le_of_ble_eq_true rfl) hn)
  have i38 := iz38 (Nat.le_trans (Nat.le_of_ble_eq_true rfl) hn)
  unfold fX10_low at k
  unfold oX10_low at ok
  refine k_of (by decide) rfl rfl rfl (ls := [(2, 38), (0, a1)]) rfl ?_
  refine x_aload_n 0 dX10_low_0 rfl rfl rfl rfl rfl ?_
  refine y_getF 7 0 (c := 9) (z := 27) dX10_low_1 i38 rfl in_X10 q857 rfl rfl rfl fn_38_0 (Nat.le_trans (Nat.le_of_ble_eq_true rfl) hn) rfl ?_
  refine x_iload_n 1 dX10_low_4 rfl rfl rfl ?_
  refine x_iconst 4 (z := 4) dX10_low_5 rfl (by decide) rfl ?_
  obtain ⟨e3, ok⟩ := ok
  refine y_Vi 19 (M := mX8_cell) (As := [(0, a1), (0, 4)]) (st := []) dX10_low_6 i27 rfl q2620 q2010 q2011 q375 q2012 rfl hmX8_cell rfl rfl rfl rfl rfl rfl rfl rfl (vX8_cell (Nat.le_trans (Nat.le_of_ble_eq_true rfl) hn) a1 4 e3 ?_)
  exact y_iret dX10_low_9 rfl k
def fX10_high (w : bW) (a1 : Int) : Int := fX8_cell w a1 5
def oX10_high (n : Nat) (w : bW) (a1 : Int) : Prop := (oX8_cell n w a1 5) ∧ (True)
theorem vX10_high {d n : Nat} {w : bW} {Q : Int → bW → Prop} {X : String → bW → Prop} (hn : 143 ≤ n) (a1 : Int) (ok : oX10_high n w a1) (k : Q (fX10_high w a1) w) : b_K (d + 2) mX10_high [(2, 38), (0, a1)] n w Q X := by
  have i27 := iz27 (Nat.le_trans (Nat.le_of_ble_eq_true rfl) hn)
  have i38 := iz38 (Nat.le_trans (Nat.le_of_ble_eq_true rfl) hn)
  unfold fX10_high at k
  unfold oX10_high at ok
  refine k_of (by decide) rfl rfl rfl (ls := [(2, 38), (0, a1)]) rfl ?_
  refine x_aload_n 0 dX10_high_0 rfl rfl rfl rfl rfl ?_
  refine y_getF 7 0 (c := 9) (z := 27) dX10_high_1 i38 rfl in_X10 q857 rfl rfl rfl fn_38_0 (Nat.le_trans (Nat.le_of_ble_eq_true rfl) hn) rfl ?_
  refine x_iload_n 1 dX10_high_4 rfl rfl rfl ?_
  refine x_iconst 5 (z := 5) dX10_high_5 rfl (by decide) rfl ?_
  obtain ⟨e3, ok⟩ := ok
  refine y_Vi 19 (M := mX8_cell) (As := [(0, a1), (0, 5)]) (st := []) dX10_high_6 i27 rfl q2620 q2010 q2011 q375 q2012 rfl hmX8_cell rfl rfl rfl rfl rfl rfl rfl rfl (vX8_cell (Nat.le_trans (Nat.le_of_ble_eq_true rfl) hn) a1 5 e3 ?_)
  exact y_iret dX10_high_9 rfl k
def gX13_two (w : bW) (a1 : Int) (a2 : Int) : bW := (gX13_put_2 (gX13_put_2 w a1) a2)
def oX13_two (n : Nat) (w : bW) (a1 : Int) (a2 : Int) : Prop := (oX13_put_2 n w a1) ∧ ((oX13_put_2 n (gX13_put_2 w a1) a2) ∧ (True))
theorem vX13_two {d n : Nat} {w : bW} {Q : Int → bW → Prop} {X : String → bW → Prop} (hn : 47 ≤ n) (a1 : Int) (a2 : Int) (ok : oX13_two n w a1 a2) (k : Q 0 (gX13_two w a1 a2)) : b_K (d + 2) mX13_two [(2, 46), (0, a1), (0, a2)] n w Q X := by
  have i46 := iz46 (Nat.le_trans (Nat.le_of_ble_eq_true rfl) hn)
  unfold gX13_two at k
  unfold oX13_two at ok
  refine k_of (by decide) rfl rfl rfl (ls := [(2, 46), (0, a1), (0, a2)]) rfl ?_
  refine x_aload_n 0 dX13_two_0 rfl rfl rfl rfl rfl ?_
  refine x_iload_n 1 dX13_two_1 rfl rfl rfl ?_
  obtain ⟨e3, ok⟩ := ok
  refine y_Vv 56 (M := mX13_put_2) (As := [(0, a1)]) (st := []) dX13_two_2 i46 rfl q2394 q2396 qs89 q380 q2397 rfl hmX13_put_2 rfl rfl rfl rfl rfl rfl rfl (vX13_put_2 (Nat.le_trans (Nat.le_of_ble_eq_true rfl) hn) a1 e3 ?_)
  refine x_aload_n 0 dX13_two_5 rfl rfl rfl rfl rfl ?_
  refine x_iload_n 2 dX13_two_6 rfl rfl rfl ?_
  obtain ⟨e6, ok⟩ := ok
  refine y_Vv 56 (M := mX13_put_2) (As := [(0, a2)]) (st := []) dX13_two_7 i46 rfl q2394 q2396 qs89 q380 q2397 rfl hmX13_put_2 rfl rfl rfl rfl rfl rfl rfl (vX13_put_2 (Nat.le_trans (Nat.le_of_ble_eq_true rfl) hn) a2 e6 ?_)
  exact y_vret dX13_two_10 rfl k
def fX13_bitsAt (w : bW) (a1 : Int) : Int := b_and (b_ush (b_or (fX6_at w 47 (b_shr a1 4)) (b_shl (fX6_at w 47 (b_i ((b_shr a1 4) + 1))) 16)) (b_and a1 15)) 127
def oX13_bitsAt (n : Nat) (w : bW) (a1 : Int) : Prop := (oX6_at n w 47 (b_shr a1 4)) ∧ ((oX6_at n w 47 (b_i ((b_shr a1 4) + 1))) ∧ (True))
theorem vX13_bitsAt {d n : Nat} {w : bW} {Q : Int → bW → Prop} {X : String → bW → Prop} (hn : 143 ≤ n) (a1 : Int) (ok : oX13_bitsAt n w a1) (k : Q (fX13_bitsAt w a1) w) : b_K (d + 2) mX13_bitsAt [(2, 46), (0, a1)] n w Q X := by
  have i46 := iz46 (Nat.le_trans (Nat.le_of_ble_eq_true rfl) hn)
  have i47 := iz47 (Nat.le_trans (Nat.le_of_ble_eq_true rfl) hn)
  unfold fX13_bitsAt at k
  unfold oX13_bitsAt at ok
  refine k_of (by decide) rfl rfl rfl (ls := [(2, 46), (0, a1), (9, 0)]) rfl ?_
  refine x_aload_n 0 dX13_bitsAt_0 rfl rfl rfl rfl rfl ?_
  refine y_getF 14 5 (c := 12) (z := 47) dX13_bitsAt_1 i46 rfl in_X13 q934 rfl rfl rfl fn_46_5 (Nat.le_trans (Nat.le_of_ble_eq_true rfl) hn) rfl ?_
  refine x_iload_n 1 dX13_bitsAt_4 rfl rfl rfl ?_
  refine x_iconst 4 (z := 4) dX13_bitsAt_5 rfl (by decide) rfl ?_
  refine x_ishr dX13_bitsAt_6 rfl ?_
  obtain ⟨e3, ok⟩ := ok
  refine y_Vi 120 (M := mX6_at) (As := [(0, b_shr a1 4)]) (st := []) dX13_bitsAt_7 i47 rfl q2429 q1962 q1963 q373 q1964 rfl hmX6_at rfl rfl rfl rfl rfl rfl rfl rfl (vX6_at (Nat.le_trans (Nat.le_of_ble_eq_true rfl) hn) 47 (b_shr a1 4) i47 e3 ?_)
  refine x_aload_n 0 dX13_bitsAt_10 rfl rfl rfl rfl rfl ?_
  refine y_getF 14 5 (c := 12) (z := 47) dX13_bitsAt_11 i46 rfl in_X13 q934 rfl rfl rfl fn_46_5 (Nat.le_trans (Nat.le_of_ble_eq_true rfl) hn) rfl ?_
  refine x_iload_n 1 dX13_bitsAt_14 rfl rfl rfl ?_
  refine x_iconst 4 (z := 4) dX13_bitsAt_15 rfl (by decide) rfl ?_
  refine x_ishr dX13_bitsAt_16 rfl ?_
  refine x_iconst 1 (z := 1) dX13_bitsAt_17 rfl (by decide) rfl ?_
  refine x_iadd dX13_bitsAt_18 rfl ?_
  obtain ⟨e6, ok⟩ := ok
  refine y_Vi 120 (M := mX6_at) (As := [(0, b_i ((b_shr a1 4) + 1))]) (st := [(0, fX6_at w 47 (b_shr a1 4))]) dX13_bitsAt_19 i47 rfl q2429 q1962 q1963 q373 q1964 rfl hmX6_at rfl rfl rfl rfl rfl rfl rfl rfl (vX6_at (Nat.le_trans (Nat.le_of_ble_eq_true rfl) hn) 47 (b_i ((b_shr a1 4) + 1)) i47 e6 ?_)
  refine x_bipush 16 (z := 16) dX13_bitsAt_22 rfl (by decide) rfl ?_
  refine x_ishl dX13_bitsAt_24 rfl ?_
  refine x_ior dX13_bitsAt_25 rfl ?_
  refine x_istore_n 2 (ls' := [(2, 46), (0, a1), (0, b_or (fX6_at w 47 (b_shr a1 4)) (b_shl (fX6_at w 47 (b_i ((b_shr a1 4) + 1))) 16))]) dX13_bitsAt_26 rfl rfl rfl rfl ?_
  refine x_iload_n 2 dX13_bitsAt_27 rfl rfl rfl ?_
  refine x_iload_n 1 dX13_bitsAt_28 rfl rfl rfl ?_
  refine x_bipush 15 (z := 15) dX13_bitsAt_29 rfl (by decide) rfl ?_
  refine x_iand dX13_bitsAt_31 rfl ?_
  refine x_iushr dX13_bitsAt_32 rfl ?_
  refine x_bipush 127 (z := 127) dX13_bitsAt_33 rfl (by decide) rfl ?_
  refine x_iand dX13_bitsAt_35 rfl ?_
  exact y_iret dX13_bitsAt_36 rfl k
def fX13_peek (w : bW) (a1 : Int) : Int := (if w 46 10 ≤ b_i ((w 46 9) + a1) then (-1) else fX8_byteAt w (w 46 8) (b_i ((w 46 9) + a1)))
def oX13_peek (n : Nat) (w : bW) (a1 : Int) : Prop := if w 46 10 ≤ b_i ((w 46 9) + a1) then True else ((oX8_byteAt n w (w 46 8) (b_i ((w 46 9) + a1))) ∧ (True))
theorem vX13_peek {d n : Nat} {w : bW} {Q : Int → bW → Prop} {X : String → bW → Prop} (hn : 143 ≤ n) (a1 : Int) (ok : oX13_peek n w a1) (k : Q (fX13_peek w a1) w) : b_K (d + 3) mX13_peek [(2, 46), (0, a1)] n w Q X := by
  have i27 := iz27 (Nat.le_trans (Nat.le_of_ble_eq_true rfl) hn)
  have i46 := iz46 (Nat.le_trans (Nat.le_of_ble_eq_true rfl) hn)
  unfold fX13_peek at k
  unfold oX13_peek at ok
  refine k_of (by decide) rfl rfl rfl (ls := [(2, 46), (0, a1)]) rfl ?_
  refine x_aload_n 0 dX13_peek_0 rfl rfl rfl rfl rfl ?_
  refine y_get 130 9 (c := 12) (z := w 46 9) dX13_peek_1 i46 rfl in_X13 q940 rfl rfl rfl rfl rfl ?_
  refine x_iload_n 1 dX13_peek_4 rfl rfl rfl ?_
  refine x_iadd dX13_peek_5 rfl ?_
  refine x_aload_n 0 dX13_peek_6 rfl rfl rfl rfl rfl ?_
  refine y_get 132 10 (c := 12) (z := w 46 10) dX13_peek_7 i46 rfl in_X13 q941 rfl rfl rfl rfl rfl ?_
  refine x_icmp_ge (t := 33) 23 dX13_peek_10 rfl rfl (b_itqv ok k (fun hc ok k => ?_) (fun hc ok k => ?_))
  · refine x_iconst (-1) (z := (-1)) dX13_peek_33 rfl (by decide) rfl ?_
    exact y_iret dX13_peek_34 rfl k
  · refine x_aload_n 0 dX13_peek_13 rfl rfl rfl rfl rfl ?_
    refine y_getF 28 1 (c := 12) (z := 27) dX13_peek_14 i46 rfl in_X13 q930 rfl rfl rfl fn_46_1 (Nat.le_trans (Nat.le_of_ble_eq_true rfl) hn) rfl ?_
    refine x_aload_n 0 dX13_peek_17 rfl rfl rfl rfl rfl ?_
    refine y_get 135 8 (c := 12) (z := w 46 8) dX13_peek_18 i46 rfl in_X13 q939 rfl rfl rfl rfl rfl ?_
    refine x_aload_n 0 dX13_peek_21 rfl rfl rfl rfl rfl ?_
    refine y_get 130 9 (c := 12) (z := w 46 9) dX13_peek_22 i46 rfl in_X13 q940 rfl rfl rfl rfl rfl ?_
    refine x_iload_n 1 dX13_peek_25 rfl rfl rfl ?_
    refine x_iadd dX13_peek_26 rfl ?_
    obtain ⟨e3, ok⟩ := ok
    refine y_Vi 109 (M := mX8_byteAt) (As := [(0, w 46 8), (0, b_i ((w 46 9) + a1))]) (st := []) dX13_peek_27 i27 rfl q2407 q2092 q2093 q375 q2094 rfl hmX8_byteAt rfl rfl rfl rfl rfl rfl rfl rfl (vX8_byteAt (Nat.le_trans (Nat.le_of_ble_eq_true rfl) hn) (w 46 8) (b_i ((w 46 9) + a1)) e3 ?_)
    refine x_goto 4 (q := 34) dX13_peek_30 rfl ?_
    exact y_iret dX13_peek_34 rfl k
def fX13_getCount (w : bW) : Int := (if b_i ((w 46 9) + 4) ≤ w 46 10 then (if b_or (b_or (b_or (b_shl (fX13_peek w 0) 24) (b_shl (fX13_peek w 1) 16)) (b_shl (fX13_peek w 2) 8)) (fX13_peek w 3) < 0 then (-1) else (if b_or (b_or (b_or (b_shl (fX13_peek w 0) 24) (b_shl (fX13_peek w 1) 16)) (b_shl (fX13_peek w 2) 8)) (fX13_peek w 3) ≤ b_i ((w 46 10) - (b_i ((w 46 9) + 4))) then b_or (b_or (b_or (b_shl (fX13_peek w 0) 24) (b_shl (fX13_peek w 1) 16)) (b_shl (fX13_peek w 2) 8)) (fX13_peek w 3) else (-1))) else (-1))
def gX13_getCount (w : bW) : bW := (if b_i ((w 46 9) + 4) ≤ w 46 10 then (b_up w 46 9 (b_i ((w 46 9) + 4))) else w)
def oX13_getCount (n : Nat) (w : bW) : Prop := if b_i ((w 46 9) + 4) ≤ w 46 10 then ((oX13_peek n w 0) ∧ ((oX13_peek n w 1) ∧ ((oX13_peek n w 2) ∧ ((oX13_peek n w 3) ∧ (True))))) else True
theorem vX13_getCount {d n : Nat} {w : bW} {Q : Int → bW → Prop} {X : String → bW → Prop} (hn : 143 ≤ n) (ok : oX13_getCount n w) (k : Q (fX13_getCount w) (gX13_getCount w)) : b_K (d + 4) mX13_getCount [(2, 46)] n w Q X := by
  have i46 := iz46 (Nat.le_trans (Nat.le_of_ble_eq_true rfl) hn)
  unfold fX13_getCount gX13_getCount at k
  unfold oX13_getCount at ok
  refine k_of (by decide) rfl rfl rfl (ls := [(2, 46), (9, 0)]) rfl ?_
  refine x_aload_n 0 dX13_getCount_0 rfl rfl rfl rfl rfl ?_
  refine y_get 130 9 (c := 12) (z := w 46 9) dX13_getCount_1 i46 rfl in_X13 q940 rfl rfl rfl rfl rfl ?_
  refine x_iconst 4 (z := 4) dX13_getCount_4 rfl (by decide) rfl ?_
  refine x_iadd dX13_getCount_5 rfl ?_
  refine x_aload_n 0 dX13_getCount_6 rfl rfl rfl rfl rfl ?_
  refine y_get 132 10 (c := 12) (z := w 46 10) dX13_getCount_7 i46 rfl in_X13 q941 rfl rfl rfl rfl rfl ?_
  refine x_icmp_le (t := 15) 5 dX13_getCount_10 rfl rfl (b_itq ok k (fun hc ok k => ?_) (fun hc ok k => ?_))
  · refine x_aload_n 0 dX13_getCount_15 rfl rfl rfl rfl rfl ?_
    refine x_iconst 0 (z := 0) dX13_getCount_16 rfl (by decide) rfl ?_
    obtain ⟨e3, ok⟩ := ok
    refine y_Vi 144 (M := mX13_peek) (As := [(0, 0)]) (st := []) dX13_getCount_17 i46 rfl q2875 q2877 qs154 q380 q2878 rfl hmX13_peek rfl rfl rfl rfl rfl rfl rfl rfl (vX13_peek (Nat.le_trans (Nat.le_of_ble_eq_true rfl) hn) 0 e3 ?_)
    refine x_bipush 24 (z := 24) dX13_getCount_20 rfl (by decide) rfl ?_
    refine x_ishl dX13_getCount_22 rfl ?_
    refine x_aload_n 0 dX13_getCount_23 rfl rfl rfl rfl rfl ?_
    refine x_iconst 1 (z := 1) dX13_getCount_24 rfl (by decide) rfl ?_
    obtain ⟨e6, ok⟩ := ok
    refine y_Vi 144 (M := mX13_peek) (As := [(0, 1)]) (st := [(0, b_shl (fX13_peek w 0) 24)]) dX13_getCount_25 i46 rfl q2875 q2877 qs154 q380 q2878 rfl hmX13_peek rfl rfl rfl rfl rfl rfl rfl rfl (vX13_peek (Nat.le_trans (Nat.le_of_ble_eq_true rfl) hn) 1 e6 ?_)
    refine x_bipush 16 (z := 16) dX13_getCount_28 rfl (by decide) rfl ?_
    refine x_ishl dX13_getCount_30 rfl ?_
    refine x_ior dX13_getCount_31 rfl ?_
    refine x_aload_n 0 dX13_getCount_32 rfl rfl rfl rfl rfl ?_
    refine x_iconst 2 (z := 2) dX13_getCount_33 rfl (by decide) rfl ?_
    obtain ⟨e9, ok⟩ := ok
    refine y_Vi 144 (M := mX13_peek) (As := [(0, 2)]) (st := [(0, b_or (b_shl (fX13_peek w 0) 24) (b_shl (fX13_peek w 1) 16))]) dX13_getCount_34 i46 rfl q2875 q2877 qs154 q380 q2878 rfl hmX13_peek rfl rfl rfl rfl rfl rfl rfl rfl (vX13_peek (Nat.le_trans (Nat.le_of_ble_eq_true rfl) hn) 2 e9 ?_)
    refine x_bipush 8 (z := 8) dX13_getCount_37 rfl (by decide) rfl ?_
    refine x_ishl dX13_getCount_39 rfl ?_
    refine x_ior dX13_getCount_40 rfl ?_
    refine x_aload_n 0 dX13_getCount_41 rfl rfl rfl rfl rfl ?_
    refine x_iconst 3 (z := 3) dX13_getCount_42 rfl (by decide) rfl ?_
    obtain ⟨e12, ok⟩ := ok
    refine y_Vi 144 (M := mX13_peek) (As := [(0, 3)]) (st := [(0, b_or (b_or (b_shl (fX13_peek w 0) 24) (b_shl (fX13_peek w 1) 16)) (b_shl (fX13_peek w 2) 8))]) dX13_getCount_43 i46 rfl q2875 q2877 qs154 q380 q2878 rfl hmX13_peek rfl rfl rfl rfl rfl rfl rfl rfl (vX13_peek (Nat.le_trans (Nat.le_of_ble_eq_true rfl) hn) 3 e12 ?_)
    refine x_ior dX13_getCount_46 rfl ?_
    refine x_istore_n 1 (ls' := [(2, 46), (0, b_or (b_or (b_or (b_shl (fX13_peek w 0) 24) (b_shl (fX13_peek w 1) 16)) (b_shl (fX13_peek w 2) 8)) (fX13_peek w 3))]) dX13_getCount_47 rfl rfl rfl rfl ?_
    refine x_aload_n 0 dX13_getCount_48 rfl rfl rfl rfl rfl ?_
    refine x_dup dX13_getCount_49 rfl rfl ?_
    refine y_get 130 9 (c := 12) (z := w 46 9) dX13_getCount_50 i46 rfl in_X13 q940 rfl rfl rfl rfl rfl ?_
    refine x_iconst 4 (z := 4) dX13_getCount_53 rfl (by decide) rfl ?_
    refine x_iadd dX13_getCount_54 rfl ?_
    refine x_put 130 9 (c := 12) dX13_getCount_55 i46 rfl in_X13 tyX13_ok nmX13 q940 rfl rfl rfl (Or.inl rfl) (Or.inl ⟨rfl, rfl⟩) rfl ?_
    refine x_iload_n 1 dX13_getCount_58 rfl rfl rfl ?_
    refine x_if_lt (t := 75) 16 dX13_getCount_59 rfl rfl (b_itqv (b_tt _) k (fun hc ok k => ?_) (fun hc ok k => ?_))
    · refine x_iconst (-1) (z := (-1)) dX13_getCount_75 rfl (by decide) rfl ?_
      refine x_goto 4 (q := 80) dX13_getCount_76 rfl ?_
      exact y_iret dX13_getCount_80 rfl k
    · refine x_iload_n 1 dX13_getCount_62 rfl rfl rfl ?_
      refine x_aload_n 0 dX13_getCount_63 rfl rfl rfl rfl rfl ?_
      refine y_get 132 10 (c := 12) (z := w 46 10) dX13_getCount_64 i46 rfl in_X13 q941 rfl rfl rfl rfl rfl ?_
      refine x_aload_n 0 dX13_getCount_67 rfl rfl rfl rfl rfl ?_
      refine y_get 130 9 (c := 12) (z := b_i ((w 46 9) + 4)) dX13_getCount_68 i46 rfl in_X13 q940 rfl rfl rfl rfl rfl ?_
      refine x_isub dX13_getCount_71 rfl ?_
      refine x_icmp_le (t := 79) 7 dX13_getCount_72 rfl rfl (b_itqv (b_tt _) k (fun hc ok k => ?_) (fun hc ok k => ?_))
      · refine x_iload_n 1 dX13_getCount_79 rfl rfl rfl ?_
        exact y_iret dX13_getCount_80 rfl k
      · refine x_iconst (-1) (z := (-1)) dX13_getCount_75 rfl (by decide) rfl ?_
        refine x_goto 4 (q := 80) dX13_getCount_76 rfl ?_
        exact y_iret dX13_getCount_80 rfl k
  · refine x_iconst (-1) (z := (-1)) dX13_getCount_13 rfl (by decide) rfl ?_
    exact y_iret dX13_getCount_14 rfl k
def fX16_concat (w : bW) : Int := (if fX16_word w 0 ≠ 11 then (if fX16_isText w (fX16_word w 0) = 0 then fX16_done w 0 86 (-1) 0 0 else (if fX16_word w 1 ≠ fX16_word w 0 then fX16_done w 0 86 (-1) 0 0 else (if fX16_become w 2 (fX16_word w 0) = 0 then fX16_done (gX16_become w 2 (fX16_word w 0)) 0 86 (-1) 0 0 else fX16_done (gX16_become w 2 (fX16_word w 0)) 1 86 (-1) 0 0))) else (if fX16_isText w (w 20 (fX16_left w 0)) = 0 then fX16_done w 0 86 0 0 0 else (if fX16_become w 1 (fX16_left w 0) = 0 then fX16_done (gX16_become w 1 (fX16_left w 0)) 0 86 0 0 0 else fX16_done (gX16_become w 1 (fX16_left w 0)) 1 86 0 0 0)))
def gX16_concat (w : bW) : bW := (if fX16_word w 0 ≠ 11 then (if fX16_isText w (fX16_word w 0) = 0 then (gX16_done w 0 86 (-1) 0 0) else (if fX16_word w 1 ≠ fX16_word w 0 then (gX16_done w 0 86 (-1) 0 0) else (if fX16_become w 2 (fX16_word w 0) = 0 then (gX16_done (gX16_become w 2 (fX16_word w 0)) 0 86 (-1) 0 0) else (gX16_done (gX16_become w 2 (fX16_word w 0)) 1 86 (-1) 0 0)))) else (if fX16_isText w (w 20 (fX16_left w 0)) = 0 then (gX16_done w 0 86 0 0 0) else (if fX16_become w 1 (fX16_left w 0) = 0 then (gX16_done (gX16_become w 1 (fX16_left w 0)) 0 86 0 0 0) else (gX16_done (gX16_become w 1 (fX16_left w 0)) 1 86 0 0 0))))
def oX16_concat (n : Nat) (w : bW) : Prop := (oX16_word n w 0) ∧ (if fX16_word w 0 ≠ 11 then (if fX16_isText w (fX16_word w 0) = 0 then ((oX16_done n w 0 86 (-1) 0 0) ∧ (True)) else ((oX16_word n w 1) ∧ (if fX16_word w 1 ≠ fX16_word w 0 then ((oX16_done n w 0 86 (-1) 0 0) ∧ (True)) else ((oX16_become n w 2 (fX16_word w 0)) ∧ (if fX16_become w 2 (fX16_word w 0) = 0 then ((oX16_done n (gX16_become w 2 (fX16_word w 0)) 0 86 (-1) 0 0) ∧ (True)) else ((oX16_done n (gX16_become w 2 (fX16_word w 0)) 1 86 (-1) 0 0) ∧ (True))))))) else ((oX16_left n w 0) ∧ ((0 ≤ fX16_left w 0 ∧ fX16_left w 0 < 60000) ∧ (if fX16_isText w (w 20 (fX16_left w 0)) = 0 then ((oX16_done n w 0 86 0 0 0) ∧ (True)) else ((oX16_become n w 1 (fX16_left w 0)) ∧ (if fX16_become w 1 (fX16_left w 0) = 0 then ((oX16_done n (gX16_become w 1 (fX16_left w 0)) 0 86 0 0 0) ∧ (True)) else ((oX16_done n (gX16_become w 1 (fX16_left w 0)) 1 86 0 0 0) ∧ (True))))))))
theorem vX16_concat {d n : Nat} {w : bW} {Q : Int → bW → Prop} {X : String → bW → Prop} (hn : 143 ≤ n) (ok : oX16_concat n w) (k : Q (fX16_concat w) (gX16_concat w)) : b_K (d + 3) mX16_concat [(2, 65)] n w Q X := by
  have i19 := iz19 (Nat.le_trans (Nat.le_of_ble_eq_true rfl) hn)
  have i20 := iz20 (Nat.le_trans (Nat.le_of_ble_eq_true rfl) hn)
  have i65 := iz65 (Nat.le_trans (Nat.le_of_ble_eq_true rfl) hn)
  unfold fX16_concat gX16_concat at k
  unfold oX16_concat at ok
  refine k_of (by decide) rfl rfl rfl (ls := [(2, 65), (9, 0), (9, 0)]) rfl ?_
  refine x_aload_n 0 dX16_concat_0 rfl rfl rfl rfl rfl ?_
  refine x_iconst 0 (z := 0) dX16_concat_1 rfl (by decide) rfl ?_
  obtain ⟨e3, ok⟩ := ok
  refine y_Vi 304 (M := mX16_word) (As := [(0, 0)]) (st := []) dX16_concat_2 i65 rfl q2187 q2189 qs58 q383 q2190 rfl hmX16_word rfl rfl rfl rfl rfl rfl rfl rfl (vX16_word (Nat.le_trans (Nat.le_of_ble_eq_true rfl) hn) 0 e3 ?_)
  refine x_istore_n 1 (ls' := [(2, 65), (0, fX16_word w 0), (9, 0)]) dX16_concat_5 rfl rfl rfl rfl ?_
  refine x_iload_n 1 dX16_concat_6 rfl rfl rfl ?_
  refine x_bipush 11 (z := 11) dX16_concat_7 rfl (by decide) rfl ?_
  refine x_icmp_ne (t := 57) 48 dX16_concat_9 rfl rfl (b_itq ok k (fun hc ok k => ?_) (fun hc ok k => ?_))
  · refine x_aload_n 0 dX16_concat_57 rfl rfl rfl rfl rfl ?_
    refine x_iload_n 1 dX16_concat_58 rfl rfl rfl ?_
    refine y_Si 375 (M := mX16_isText) (As := [(0, fX16_word w 0)]) (st := [(2, 65)]) dX16_concat_59 q2286 q2287 q383 q2288 hmX16_isText rfl rfl rfl rfl rfl rfl rfl rfl (vX16_isText (fX16_word w 0) ?_)
    refine x_if_eq (t := 87) 25 dX16_concat_62 rfl rfl (b_itq ok k (fun hc ok k => ?_) (fun hc ok k => ?_))
    · refine x_iconst 0 (z := 0) dX16_concat_87 rfl (by decide) rfl ?_
      refine x_bipush 86 (z := 86) dX16_concat_88 rfl (by decide) rfl ?_
      refine x_iconst (-1) (z := (-1)) dX16_concat_90 rfl (by decide) rfl ?_
      refine x_iconst 0 (z := 0) dX16_concat_91 rfl (by decide) rfl ?_
      refine x_iconst 0 (z := 0) dX16_concat_92 rfl (by decide) rfl ?_
      obtain ⟨e8, ok⟩ := ok
      refine y_Vi 274 (M := mX16_done) (As := [(0, 0), (0, 86), (0, (-1)), (0, 0), (0, 0)]) (st := []) dX16_concat_93 i65 rfl q2147 q2149 qs50 q383 q2150 rfl hmX16_done rfl rfl rfl rfl rfl rfl rfl rfl (vX16_done (Nat.le_trans (Nat.le_of_ble_eq_true rfl) hn) 0 86 (-1) 0 0 e8 ?_)
      exact y_iret dX16_concat_96 rfl k
    · refine x_aload_n 0 dX16_concat_65 rfl rfl rfl rfl rfl ?_
      refine x_iconst 1 (z := 1) dX16_concat_66 rfl (by decide) rfl ?_
      obtain ⟨e11, ok⟩ := ok
      refine y_Vi 304 (M := mX16_word) (As := [(0, 1)]) (st := [(2, 65)]) dX16_concat_67 i65 rfl q2187 q2189 qs58 q383 q2190 rfl hmX16_word rfl rfl rfl rfl rfl rfl rfl rfl (vX16_word (Nat.le_trans (Nat.le_of_ble_eq_true rfl) hn) 1 e11 ?_)
      refine x_iload_n 1 dX16_concat_70 rfl rfl rfl ?_
      refine x_icmp_ne (t := 87) 16 dX16_concat_71 rfl rfl (b_itq ok k (fun hc ok k => ?_) (fun hc ok k => ?_))
      · refine x_iconst 0 (z := 0) dX16_concat_87 rfl (by decide) rfl ?_
        refine x_bipush 86 (z := 86) dX16_concat_88 rfl (by decide) rfl ?_
        refine x_iconst (-1) (z := (-1)) dX16_concat_90 rfl (by decide) rfl ?_
        refine x_iconst 0 (z := 0) dX16_concat_91 rfl (by decide) rfl ?_
        refine x_iconst 0 (z := 0) dX16_concat_92 rfl (by decide) rfl ?_
        obtain ⟨e14, ok⟩ := ok
        refine y_Vi 274 (M := mX16_done) (As := [(0, 0), (0, 86), (0, (-1)), (0, 0), (0, 0)]) (st := []) dX16_concat_93 i65 rfl q2147 q2149 qs50 q383 q2150 rfl hmX16_done rfl rfl rfl rfl rfl rfl rfl rfl (vX16_done (Nat.le_trans (Nat.le_of_ble_eq_true rfl) hn) 0 86 (-1) 0 0 e14 ?_)
        exact y_iret dX16_concat_96 rfl k
      · refine x_aload_n 0 dX16_concat_74 rfl rfl rfl rfl rfl ?_
        refine x_iconst 2 (z := 2) dX16_concat_75 rfl (by decide) rfl ?_
        refine x_iload_n 1 dX16_concat_76 rfl rfl rfl ?_
        obtain ⟨e17, ok⟩ := ok
        refine y_Vi 278 (M := mX16_become) (As := [(0, 2), (0, fX16_word w 0)]) (st := [(2, 65)]) dX16_concat_77 i65 rfl q2143 q2145 qs49 q383 q2146 rfl hmX16_become rfl rfl rfl rfl rfl rfl rfl rfl (vX16_become (Nat.le_trans (Nat.le_of_ble_eq_true rfl) hn) 2 (fX16_word w 0) e17 ?_)
        refine x_if_eq (t := 87) 7 dX16_concat_80 rfl rfl (b_itq ok k (fun hc ok k => ?_) (fun hc ok k => ?_))
        · refine x_iconst 0 (z := 0) dX16_concat_87 rfl (by decide) rfl ?_
          refine x_bipush 86 (z := 86) dX16_concat_88 rfl (by decide) rfl ?_
          refine x_iconst (-1) (z := (-1)) dX16_concat_90 rfl (by decide) rfl ?_
          refine x_iconst 0 (z := 0) dX16_concat_91 rfl (by decide) rfl ?_
          refine x_iconst 0 (z := 0) dX16_concat_92 rfl (by decide) rfl ?_
          obtain ⟨e20, ok⟩ := ok
          refine y_Vi 274 (M := mX16_done) (As := [(0, 0), (0, 86), (0, (-1)), (0, 0), (0, 0)]) (st := []) dX16_concat_93 i65 rfl q2147 q2149 qs50 q383 q2150 rfl hmX16_done rfl rfl rfl rfl rfl rfl rfl rfl (vX16_done (Nat.le_trans (Nat.le_of_ble_eq_true rfl) hn) 0 86 (-1) 0 0 e20 ?_)
          exact y_iret dX16_concat_96 rfl k
        · refine x_iconst 1 (z := 1) dX16_concat_83 rfl (by decide) rfl ?_
          refine x_goto 4 (q := 88) dX16_concat_84 rfl ?_
          refine x_bipush 86 (z := 86) dX16_concat_88 rfl (by decide) rfl ?_
          refine x_iconst (-1) (z := (-1)) dX16_concat_90 rfl (by decide) rfl ?_
          refine x_iconst 0 (z := 0) dX16_concat_91 rfl (by decide) rfl ?_
          refine x_iconst 0 (z := 0) dX16_concat_92 rfl (by decide) rfl ?_
          obtain ⟨e23, ok⟩ := ok
          refine y_Vi 274 (M := mX16_done) (As := [(0, 1), (0, 86), (0, (-1)), (0, 0), (0, 0)]) (st := []) dX16_concat_93 i65 rfl q2147 q2149 qs50 q383 q2150 rfl hmX16_done rfl rfl rfl rfl rfl rfl rfl rfl (vX16_done (Nat.le_trans (Nat.le_of_ble_eq_true rfl) hn) 1 86 (-1) 0 0 e23 ?_)
          exact y_iret dX16_concat_96 rfl k
  · refine x_aload_n 0 dX16_concat_12 rfl rfl rfl rfl rfl ?_
    refine x_iconst 0 (z := 0) dX16_concat_13 rfl (by decide) rfl ?_
    obtain ⟨e26, ok⟩ := ok
    refine y_Vi 307 (M := mX16_left) (As := [(0, 0)]) (st := []) dX16_concat_14 i65 rfl q2191 q2193 qs59 q383 q2194 rfl hmX16_left rfl rfl rfl rfl rfl rfl rfl rfl (vX16_left (Nat.le_trans (Nat.le_of_ble_eq_true rfl) hn) 0 e26 ?_)
    refine x_istore_n 2 (ls' := [(2, 65), (0, fX16_word w 0), (0, fX16_left w 0)]) dX16_concat_17 rfl rfl rfl rfl ?_
    refine x_aload_n 0 dX16_concat_18 rfl rfl rfl rfl rfl ?_
    refine x_aload_n 0 dX16_concat_19 rfl rfl rfl rfl rfl ?_
    refine y_getF 32 1 (c := 15) (z := 19) dX16_concat_20 i65 rfl in_X16 q1100 rfl rfl rfl fn_65_1 (Nat.le_trans (Nat.le_of_ble_eq_true rfl) hn) rfl ?_
    refine y_getF 163 0 (c := 6) (z := 20) dX16_concat_23 i19 rfl in_X7 q755 rfl rfl rfl fn_19_0 (Nat.le_trans (Nat.le_of_ble_eq_true rfl) hn) rfl ?_
    refine x_iload_n 2 dX16_concat_26 rfl rfl rfl ?_
    obtain ⟨e27, ok⟩ := ok
    refine y_bald (z := w 20 (fX16_left w 0)) dX16_concat_27 ⟨60000, i20, e27⟩ rfl rfl ?_
    refine y_Si 375 (M := mX16_isText) (As := [(0, w 20 (fX16_left w 0))]) (st := [(2, 65)]) dX16_concat_28 q2286 q2287 q383 q2288 hmX16_isText rfl rfl rfl rfl rfl rfl rfl rfl (vX16_isText (w 20 (fX16_left w 0)) ?_)
    refine x_if_eq (t := 47) 16 dX16_concat_31 rfl rfl (b_itq ok k (fun hc ok k => ?_) (fun hc ok k => ?_))
    · refine x_iconst 0 (z := 0) dX16_concat_47 rfl (by decide) rfl ?_
      refine x_bipush 86 (z := 86) dX16_concat_48 rfl (by decide) rfl ?_
      refine x_iconst 0 (z := 0) dX16_concat_50 rfl (by decide) rfl ?_
      refine x_iconst 0 (z := 0) dX16_concat_51 rfl (by decide) rfl ?_
      refine x_iconst 0 (z := 0) dX16_concat_52 rfl (by decide) rfl ?_
      obtain ⟨e32, ok⟩ := ok
      refine y_Vi 274 (M := mX16_done) (As := [(0, 0), (0, 86), (0, 0), (0, 0), (0, 0)]) (st := []) dX16_concat_53 i65 rfl q2147 q2149 qs50 q383 q2150 rfl hmX16_done rfl rfl rfl rfl rfl rfl rfl rfl (vX16_done (Nat.le_trans (Nat.le_of_ble_eq_true rfl) hn) 0 86 0 0 0 e32 ?_)
      exact y_iret dX16_concat_56 rfl k
    · refine x_aload_n 0 dX16_concat_34 rfl rfl rfl rfl rfl ?_
      refine x_iconst 1 (z := 1) dX16_concat_35 rfl (by decide) rfl ?_
      refine x_iload_n 2 dX16_concat_36 rfl rfl rfl ?_
      obtain ⟨e35, ok⟩ := ok
      refine y_Vi 278 (M := mX16_become) (As := [(0, 1), (0, fX16_left w 0)]) (st := [(2, 65)]) dX16_concat_37 i65 rfl q2143 q2145 qs49 q383 q2146 rfl hmX16_become rfl rfl rfl rfl rfl rfl rfl rfl (vX16_become (Nat.le_trans (Nat.le_of_ble_eq_true rfl) hn) 1 (fX16_left w 0) e35 ?_)
      refine x_if_eq (t := 47) 7 dX16_concat_40 rfl rfl (b_itq ok k (fun hc ok k => ?_) (fun hc ok k => ?_))
      · refine x_iconst 0 (z := 0) dX16_concat_47 rfl (by decide) rfl ?_
        refine x_bipush 86 (z := 86) dX16_concat_48 rfl (by decide) rfl ?_
        refine x_iconst 0 (z := 0) dX16_concat_50 rfl (by decide) rfl ?_
        refine x_iconst 0 (z := 0) dX16_concat_51 rfl (by decide) rfl ?_
        refine x_iconst 0 (z := 0) dX16_concat_52 rfl (by decide) rfl ?_
        obtain ⟨e38, ok⟩ := ok
        refine y_Vi 274 (M := mX16_done) (As := [(0, 0), (0, 86), (0, 0), (0, 0), (0, 0)]) (st := []) dX16_concat_53 i65 rfl q2147 q2149 qs50 q383 q2150 rfl hmX16_done rfl rfl rfl rfl rfl rfl rfl rfl (vX16_done (Nat.le_trans (Nat.le_of_ble_eq_true rfl) hn) 0 86 0 0 0 e38 ?_)
        exact y_iret dX16_concat_56 rfl k
      · refine x_iconst 1 (z := 1) dX16_concat_43 rfl (by decide) rfl ?_
        refine x_goto 4 (q := 48) dX16_concat_44 rfl ?_
        refine x_bipush 86 (z := 86) dX16_concat_48 rfl (by decide) rfl ?_
        refine x_iconst 0 (z := 0) dX16_concat_50 rfl (by decide) rfl ?_
        refine x_iconst 0 (z := 0) dX16_concat_51 rfl (by decide) rfl ?_
        refine x_iconst 0 (z := 0) dX16_concat_52 rfl (by decide) rfl ?_
        obtain ⟨e41, ok⟩ := ok
        refine y_Vi 274 (M := mX16_done) (As := [(0, 1), (0, 86), (0, 0), (0, 0), (0, 0)]) (st := []) dX16_concat_53 i65 rfl q2147 q2149 qs50 q383 q2150 rfl hmX16_done rfl rfl rfl rfl rfl rfl rfl rfl (vX16_done (Nat.le_trans (Nat.le_of_ble_eq_true rfl) hn) 1 86 0 0 0 e41 ?_)
        exact y_iret dX16_concat_56 rfl k
def gX19_loop (w : bW) (a1 : Int) : bW := (if fX19_pop (b_up w 83 22 (fX19_cell w a1 4)) ≠ 6 then (gX19_pop (b_up w 83 22 (fX19_cell w a1 4))) else (b_up (gX19_frame (gX19_pop (b_up w 83 22 (fX19_cell w a1 4))) 2 a1 0 0) 83 22 (fX19_cell (gX19_frame (gX19_pop (b_up w 83 22 (fX19_cell w a1 4))) 2 a1 0 0) a1 1)))
def oX19_loop (n : Nat) (w : bW) (a1 : Int) : Prop := (oX19_cell n w a1 4) ∧ ((oX19_pop n (b_up w 83 22 (fX19_cell w a1 4))) ∧ (if fX19_pop (b_up w 83 22 (fX19_cell w a1 4)) ≠ 6 then True else ((oX19_frame n (gX19_pop (b_up w 83 22 (fX19_cell w a1 4))) 2 a1 0 0) ∧ ((oX19_cell n (gX19_frame (gX19_pop (b_up w 83 22 (fX19_cell w a1 4))) 2 a1 0 0) a1 1) ∧ (True)))))
theorem vX19_loop {d n : Nat} {w : bW} {Q : Int → bW → Prop} {X : String → bW → Prop} (hn : 143 ≤ n) (a1 : Int) (ok : oX19_loop n w a1) (k : Q 0 (gX19_loop w a1)) : b_K (d + 2) mX19_loop [(2, 83), (0, a1)] n w Q X := by
  have i83 := iz83 (Nat.le_trans (Nat.le_of_ble_eq_true rfl) hn)
  unfold gX19_loop at k
  unfold oX19_loop at ok
  refine k_of (by decide) rfl rfl rfl (ls := [(2, 83), (0, a1)]) rfl ?_
  refine x_aload_n 0 dX19_loop_0 rfl rfl rfl rfl rfl ?_
  refine x_aload_n 0 dX19_loop_1 rfl rfl rfl rfl rfl ?_
  refine x_iload_n 1 dX19_loop_2 rfl rfl rfl ?_
  refine x_iconst 4 (z := 4) dX19_loop_3 rfl (by decide) rfl ?_
  obtain ⟨e3, ok⟩ := ok
  refine y_Vi 131 (M := mX19_cell) (As := [(0, a1), (0, 4)]) (st := [(2, 83)]) dX19_loop_4 i83 rfl q2579 q2581 qs111 q386 q2582 rfl hmX19_cell rfl rfl rfl rfl rfl rfl rfl rfl (vX19_cell (Nat.le_trans (Nat.le_of_ble_eq_true rfl) hn) a1 4 e3 ?_)
  refine x_put 125 22 (c := 18) dX19_loop_7 i83 rfl in_X19 tyX19_ok nmX19 q1314 rfl rfl rfl (Or.inl rfl) (Or.inl ⟨rfl, rfl⟩) rfl ?_
  refine x_aload_n 0 dX19_loop_10 rfl rfl rfl rfl rfl ?_
  obtain ⟨e6, ok⟩ := ok
  refine y_Vi 139 (M := mX19_pop) (As := []) (st := []) dX19_loop_11 i83 rfl q2583 q2585 qs112 q386 q2586 rfl hmX19_pop rfl rfl rfl rfl rfl rfl rfl rfl (vX19_pop (Nat.le_trans (Nat.le_of_ble_eq_true rfl) hn) e6 ?_)
  refine x_bipush 6 (z := 6) dX19_loop_14 rfl (by decide) rfl ?_
  refine x_icmp_ne (t := 37) 21 dX19_loop_16 rfl rfl (b_itqw ok k (fun hc ok k => ?_) (fun hc ok k => ?_))
  · exact y_vret dX19_loop_37 rfl k
  · refine x_aload_n 0 dX19_loop_19 rfl rfl rfl rfl rfl ?_
    refine x_iconst 2 (z := 2) dX19_loop_20 rfl (by decide) rfl ?_
    refine x_iload_n 1 dX19_loop_21 rfl rfl rfl ?_
    refine x_iconst 0 (z := 0) dX19_loop_22 rfl (by decide) rfl ?_
    refine x_iconst 0 (z := 0) dX19_loop_23 rfl (by decide) rfl ?_
    obtain ⟨e9, ok⟩ := ok
    refine y_Vv 159 (M := mX19_frame) (As := [(0, 2), (0, a1), (0, 0), (0, 0)]) (st := []) dX19_loop_24 i83 rfl q2587 q2589 qs113 q386 q2590 rfl hmX19_frame rfl rfl rfl rfl rfl rfl rfl (vX19_frame (Nat.le_trans (Nat.le_of_ble_eq_true rfl) hn) 2 a1 0 0 e9 ?_)
    refine x_aload_n 0 dX19_loop_27 rfl rfl rfl rfl rfl ?_
    refine x_aload_n 0 dX19_loop_28 rfl rfl rfl rfl rfl ?_
    refine x_iload_n 1 dX19_loop_29 rfl rfl rfl ?_
    refine x_iconst 1 (z := 1) dX19_loop_30 rfl (by decide) rfl ?_
    obtain ⟨e12, ok⟩ := ok
    refine y_Vi 131 (M := mX19_cell) (As := [(0, a1), (0, 1)]) (st := [(2, 83)]) dX19_loop_31 i83 rfl q2579 q2581 qs111 q386 q2582 rfl hmX19_cell rfl rfl rfl rfl rfl rfl rfl rfl (vX19_cell (Nat.le_trans (Nat.le_of_ble_eq_true rfl) hn) a1 1 e12 ?_)
    refine x_put 125 22 (c := 18) dX19_loop_34 i83 rfl in_X19 tyX19_ok nmX19 q1314 rfl rfl rfl (Or.inl rfl) (Or.inl ⟨rfl, rfl⟩) rfl ?_
    exact y_vret dX19_loop_37 rfl k
def gX19_loopLeft (w : bW) (a1 : Int) : bW := (if fX8_kind (gX19_push (gX19_pop (b_up w 83 22 (fX19_cell w a1 4))) (fX8_cell (gX19_pop (b_up w 83 22 (fX19_cell w a1 4))) (fX19_pop (b_up w 83 22 (fX19_cell w a1 4))) 2)) (fX19_pop (b_up w 83 22 (fX19_cell w a1 4))) ≠ 5 then (gX19_push (gX19_pop (b_up w 83 22 (fX19_cell w a1 4))) (fX8_cell (gX19_pop (b_up w 83 22 (fX19_cell w a1 4))) (fX19_pop (b_up w 83 22 (fX19_cell w a1 4))) 2)) else (b_up (gX19_frame (gX19_push (gX19_pop (b_up w 83 22 (fX19_cell w a1 4))) (fX8_cell (gX19_pop (b_up w 83 22 (fX19_cell w a1 4))) (fX19_pop (b_up w 83 22 (fX19_cell w a1 4))) 2)) 3 a1 0 0) 83 22 (fX19_cell (gX19_frame (gX19_push (gX19_pop (b_up w 83 22 (fX19_cell w a1 4))) (fX8_cell (gX19_pop (b_up w 83 22 (fX19_cell w a1 4))) (fX19_pop (b_up w 83 22 (fX19_cell w a1 4))) 2)) 3 a1 0 0) a1 1)))
def oX19_loopLeft (n : Nat) (w : bW) (a1 : Int) : Prop := (oX19_cell n w a1 4) ∧ ((oX19_pop n (b_up w 83 22 (fX19_cell w a1 4))) ∧ ((oX8_cell n (gX19_pop (b_up w 83 22 (fX19_cell w a1 4))) (fX19_pop (b_up w 83 22 (fX19_cell w a1 4))) 2) ∧ ((oX19_push n (gX19_pop (b_up w 83 22 (fX19_cell w a1 4))) (fX8_cell (gX19_pop (b_up w 83 22 (fX19_cell w a1 4))) (fX19_pop (b_up w 83 22 (fX19_cell w a1 4))) 2)) ∧ ((oX8_kind n (gX19_push (gX19_pop (b_up w 83 22 (fX19_cell w a1 4))) (fX8_cell (gX19_pop (b_up w 83 22 (fX19_cell w a1 4))) (fX19_pop (b_up w 83 22 (fX19_cell w a1 4))) 2)) (fX19_pop (b_up w 83 22 (fX19_cell w a1 4)))) ∧ (if fX8_kind (gX19_push (gX19_pop (b_up w 83 22 (fX19_cell w a1 4))) (fX8_cell (gX19_pop (b_up w 83 22 (fX19_cell w a1 4))) (fX19_pop (b_up w 83 22 (fX19_cell w a1 4))) 2)) (fX19_pop (b_up w 83 22 (fX19_cell w a1 4))) ≠ 5 then True else ((oX19_frame n (gX19_push (gX19_pop (b_up w 83 22 (fX19_cell w a1 4))) (fX8_cell (gX19_pop (b_up w 83 22 (fX19_cell w a1 4))) (fX19_pop (b_up w 83 22 (fX19_cell w a1 4))) 2)) 3 a1 0 0) ∧ ((oX19_cell n (gX19_frame (gX19_push (gX19_pop (b_up w 83 22 (fX19_cell w a1 4))) (fX8_cell (gX19_pop (b_up w 83 22 (fX19_cell w a1 4))) (fX19_pop (b_up w 83 22 (fX19_cell w a1 4))) 2)) 3 a1 0 0) a1 1) ∧ (True))))))))
theorem vX19_loopLeft {d n : Nat} {w : bW} {Q : Int → bW → Prop} {X : String → bW → Prop} (hn : 143 ≤ n) (a1 : Int) (ok : oX19_loopLeft n w a1) (k : Q 0 (gX19_loopLeft w a1)) : b_K (d + 3) mX19_loopLeft [(2, 83), (0, a1)] n w Q X := by
  have i27 := iz27 (Nat.le_trans (Nat.le_of_ble_eq_true rfl) hn)
  have i83 := iz83 (Nat.le_trans (Nat.le_of_ble_eq_true rfl) hn)
  unfold gX19_loopLeft at k
  unfold oX19_loopLeft at ok
  refine k_of (by decide) rfl rfl rfl (ls := [(2, 83), (0, a1), (9, 0)]) rfl ?_
  refine x_aload_n 0 dX19_loopLeft_0 rfl rfl rfl rfl rfl ?_
  refine x_aload_n 0 dX19_loopLeft_1 rfl rfl rfl rfl rfl ?_
  refine x_iload_n 1 dX19_loopLeft_2 rfl rfl rfl ?_
  refine x_iconst 4 (z := 4) dX19_loopLeft_3 rfl (by decide) rfl ?_
  obtain ⟨e3, ok⟩ := ok
  refine y_Vi 131 (M := mX19_cell) (As := [(0, a1), (0, 4)]) (st := [(2, 83)]) dX19_loopLeft_4 i83 rfl q2579 q2581 qs111 q386 q2582 rfl hmX19_cell rfl rfl rfl rfl rfl rfl rfl rfl (vX19_cell (Nat.le_trans (Nat.le_of_ble_eq_true rfl) hn) a1 4 e3 ?_)
  refine x_put 125 22 (c := 18) dX19_loopLeft_7 i83 rfl in_X19 tyX19_ok nmX19 q1314 rfl rfl rfl (Or.inl rfl) (Or.inl ⟨rfl, rfl⟩) rfl ?_
  refine x_aload_n 0 dX19_loopLeft_10 rfl rfl rfl rfl rfl ?_
  obtain ⟨e6, ok⟩ := ok
  refine y_Vi 139 (M := mX19_pop) (As := []) (st := []) dX19_loopLeft_11 i83 rfl q2583 q2585 qs112 q386 q2586 rfl hmX19_pop rfl rfl rfl rfl rfl rfl rfl rfl (vX19_pop (Nat.le_trans (Nat.le_of_ble_eq_true rfl) hn) e6 ?_)
  refine x_istore_n 2 (ls' := [(2, 83), (0, a1), (0, fX19_pop (b_up w 83 22 (fX19_cell w a1 4)))]) dX19_loopLeft_14 rfl rfl rfl rfl ?_
  refine x_aload_n 0 dX19_loopLeft_15 rfl rfl rfl rfl rfl ?_
  refine x_aload_n 0 dX19_loopLeft_16 rfl rfl rfl rfl rfl ?_
  refine y_getF 54 0 (c := 18) (z := 27) dX19_loopLeft_17 i83 rfl in_X19 q1292 rfl rfl rfl fn_83_0 (Nat.le_trans (Nat.le_of_ble_eq_true rfl) hn) rfl ?_
  refine x_iload_n 2 dX19_loopLeft_20 rfl rfl rfl ?_
  refine x_iconst 2 (z := 2) dX19_loopLeft_21 rfl (by decide) rfl ?_
  obtain ⟨e9, ok⟩ := ok
  refine y_Vi 199 (M := mX8_cell) (As := [(0, fX19_pop (b_up w 83 22 (fX19_cell w a1 4))), (0, 2)]) (st := [(2, 83)]) dX19_loopLeft_22 i27 rfl q2595 q2010 q2011 q375 q2012 rfl hmX8_cell rfl rfl rfl rfl rfl rfl rfl rfl (vX8_cell (Nat.le_trans (Nat.le_of_ble_eq_true rfl) hn) (fX19_pop (b_up w 83 22 (fX19_cell w a1 4))) 2 e9 ?_)
  obtain ⟨e12, ok⟩ := ok
  refine y_Vv 122 (M := mX19_push) (As := [(0, fX8_cell (gX19_pop (b_up w 83 22 (fX19_cell w a1 4))) (fX19_pop (b_up w 83 22 (fX19_cell w a1 4))) 2)]) (st := []) dX19_loopLeft_25 i83 rfl q2567 q2569 qs108 q386 q2570 rfl hmX19_push rfl rfl rfl rfl rfl rfl rfl (vX19_push (Nat.le_trans (Nat.le_of_ble_eq_true rfl) hn) (fX8_cell (gX19_pop (b_up w 83 22 (fX19_cell w a1 4))) (fX19_pop (b_up w 83 22 (fX19_cell w a1 4))) 2) e12 ?_)
  refine x_aload_n 0 dX19_loopLeft_28 rfl rfl rfl rfl rfl ?_
  refine y_getF 54 0 (c := 18) (z := 27) dX19_loopLeft_29 i83 rfl in_X19 q1292 rfl rfl rfl fn_83_0 (Nat.le_trans (Nat.le_of_ble_eq_true rfl) hn) rfl ?_
  refine x_iload_n 2 dX19_loopLeft_32 rfl rfl rfl ?_
  obtain ⟨e15, ok⟩ := ok
  refine y_Vi 236 (M := mX8_kind) (As := [(0, fX19_pop (b_up w 83 22 (fX19_cell w a1 4)))]) (st := []) dX19_loopLeft_33 i27 rfl q2596 q2042 q2043 q375 q2044 rfl hmX8_kind rfl rfl rfl rfl rfl rfl rfl rfl (vX8_kind (Nat.le_trans (Nat.le_of_ble_eq_true rfl) hn) (fX19_pop (b_up w 83 22 (fX19_cell w a1 4))) e15 ?_)
  refine x_iconst 5 (z := 5) dX19_loopLeft_36 rfl (by decide) rfl ?_
  refine x_icmp_ne (t := 58) 21 dX19_loopLeft_37 rfl rfl (b_itqw ok k (fun hc ok k => ?_) (fun hc ok k => ?_))
  · exact y_vret dX19_loopLeft_58 rfl k
  · refine x_aload_n 0 dX19_loopLeft_40 rfl rfl rfl rfl rfl ?_
    refine x_iconst 3 (z := 3) dX19_loopLeft_41 rfl (by decide) rfl ?_
    refine x_iload_n 1 dX19_loopLeft_42 rfl rfl rfl ?_
    refine x_iconst 0 (z := 0) dX19_loopLeft_43 rfl (by decide) rfl ?_
    refine x_iconst 0 (z := 0) dX19_loopLeft_44 rfl (by decide) rfl ?_
    obtain ⟨e18, ok⟩ := ok
    refine y_Vv 159 (M := mX19_frame) (As := [(0, 3), (0, a1), (0, 0), (0, 0)]) (st := []) dX19_loopLeft_45 i83 rfl q2587 q2589 qs113 q386 q2590 rfl hmX19_frame rfl rfl rfl rfl rfl rfl rfl (vX19_frame (Nat.le_trans (Nat.le_of_ble_eq_true rfl) hn) 3 a1 0 0 e18 ?_)
    refine x_aload_n 0 dX19_loopLeft_48 rfl rfl rfl rfl rfl ?_
    refine x_aload_n 0 dX19_loopLeft_49 rfl rfl rfl rfl rfl ?_
    refine x_iload_n 1 dX19_loopLeft_50 rfl rfl rfl ?_
    refine x_iconst 1 (z := 1) dX19_loopLeft_51 rfl (by decide) rfl ?_
    obtain ⟨e21, ok⟩ := ok
    refine y_Vi 131 (M := mX19_cell) (As := [(0, a1), (0, 1)]) (st := [(2, 83)]) dX19_loopLeft_52 i83 rfl q2579 q2581 qs111 q386 q2582 rfl hmX19_cell rfl rfl rfl rfl rfl rfl rfl rfl (vX19_cell (Nat.le_trans (Nat.le_of_ble_eq_true rfl) hn) a1 1 e21 ?_)
    refine x_put 125 22 (c := 18) dX19_loopLeft_55 i83 rfl in_X19 tyX19_ok nmX19 q1314 rfl rfl rfl (Or.inl rfl) (Or.inl ⟨rfl, rfl⟩) rfl ?_
    exact y_vret dX19_loopLeft_58 rfl k
def fX19_isThrough (w : bW) (a1 : Int) (a2 : Int) (a3 : Int) : Int := (if a1 ≠ 0 then (if a3 ≠ fX8_many w a2 then 0 else 1) else (if a2 ≠ 10 then 0 else 1))
def oX19_isThrough (n : Nat) (w : bW) (a1 : Int) (a2 : Int) (a3 : Int) : Prop := if a1 ≠ 0 then ((oX8_many n w a2) ∧ (True)) else True
theorem vX19_isThrough {d n : Nat} {w : bW} {Q : Int → bW → Prop} {X : String → bW → Prop} (hn : 143 ≤ n) (a1 : Int) (a2 : Int) (a3 : Int) (ok : oX19_isThrough n w a1 a2 a3) (k : Q (fX19_isThrough w a1 a2 a3) w) : b_K (d + 3) mX19_isThrough [(2, 83), (0, a1), (0, a2), (0, a3)] n w Q X := by
  have i27 := iz27 (Nat.le_trans (Nat.le_of_ble_eq_true rfl) hn)
  have i83 := iz83 (Nat.le_trans (Nat.le_of_ble_eq_true rfl) hn)
  unfold fX19_isThrough at k
  unfold oX19_isThrough at ok
  refine k_of (by decide) rfl rfl rfl (ls := [(2, 83), (0, a1), (0, a2), (0, a3)]) rfl ?_
  refine x_iload_n 1 dX19_isThrough_0 rfl rfl rfl ?_
  refine x_if_ne (t := 18) 17 dX19_isThrough_1 rfl rfl (b_itqv ok k (fun hc ok k => ?_) (fun hc ok k => ?_))
  · refine x_iload_n 3 dX19_isThrough_18 rfl rfl rfl ?_
    refine x_aload_n 0 dX19_isThrough_19 rfl rfl rfl rfl rfl ?_
    refine y_getF 54 0 (c := 18) (z := 27) dX19_isThrough_20 i83 rfl in_X19 q1292 rfl rfl rfl fn_83_0 (Nat.le_trans (Nat.le_of_ble_eq_true rfl) hn) rfl ?_
    refine x_iload_n 2 dX19_isThrough_23 rfl rfl rfl ?_
    obtain ⟨e3, ok⟩ := ok
    refine y_Vi 245 (M := mX8_many) (As := [(0, a2)]) (st := [(0, a3)]) dX19_isThrough_24 i27 rfl q2605 q2135 q2136 q375 q2137 rfl hmX8_many rfl rfl rfl rfl rfl rfl rfl rfl (vX8_many (Nat.le_trans (Nat.le_of_ble_eq_true rfl) hn) a2 e3 ?_)
    refine x_icmp_ne (t := 34) 7 dX19_isThrough_27 rfl rfl (b_itqv (b_tt _) k (fun hc ok k => ?_) (fun hc ok k => ?_))
    · refine x_iconst 0 (z := 0) dX19_isThrough_34 rfl (by decide) rfl ?_
      exact y_zret dX19_isThrough_35 rfl (by decide) k
    · refine x_iconst 1 (z := 1) dX19_isThrough_30 rfl (by decide) rfl ?_
      refine x_goto 4 (q := 35) dX19_isThrough_31 rfl ?_
      exact y_zret dX19_isThrough_35 rfl (by decide) k
  · refine x_iload_n 2 dX19_isThrough_4 rfl rfl rfl ?_
    refine x_bipush 10 (z := 10) dX19_isThrough_5 rfl (by decide) rfl ?_
    refine x_icmp_ne (t := 14) 7 dX19_isThrough_7 rfl rfl (b_itqv (b_tt _) k (fun hc ok k => ?_) (fun hc ok k => ?_))
    · refine x_iconst 0 (z := 0) dX19_isThrough_14 rfl (by decide) rfl ?_
      refine x_goto 20 (q := 35) dX19_isThrough_15 rfl ?_
      exact y_zret dX19_isThrough_35 rfl (by decide) k
    · refine x_iconst 1 (z := 1) dX19_isThrough_10 rfl (by decide) rfl ?_
      refine x_goto 24 (q := 35) dX19_isThrough_11 rfl ?_
      exact y_zret dX19_isThrough_35 rfl (by decide) k
def fX19_sign (w : bW) (a1 : Int) (a2 : Int) : Int := (if a2 ≠ fX8_small w 0 then (if a1 = 80 then 0 else (if a1 = 81 then 1 else (if a1 = 82 then fX8_isNegative w a2 else (if a1 = 83 then (if fX8_isNegative w a2 ≠ 0 then 0 else 1) else (if a1 = 84 then (if fX8_isNegative w a2 ≠ 0 then 1 else 0) else (if fX8_isNegative w a2 ≠ 0 then 0 else 1)))))) else (if a1 = 80 then 1 else (if a1 = 81 then 0 else (if a1 = 82 then fX8_isNegative w a2 else (if a1 = 83 then 0 else (if a1 = 84 then 1 else (if fX8_isNegative w a2 ≠ 0 then 0 else 1)))))))
def oX19_sign (n : Nat) (w : bW) (a1 : Int) (a2 : Int) : Prop := (oX8_isNegative n w a2) ∧ (if a2 ≠ fX8_small w 0 then (if a1 = 80 then True else (if a1 = 81 then True else (if a1 = 82 then (fX8_isNegative w a2 = 0 ∨ fX8_isNegative w a2 = 1) else True))) else (if a1 = 80 then True else (if a1 = 81 then True else (if a1 = 82 then (fX8_isNegative w a2 = 0 ∨ fX8_isNegative w a2 = 1) else True))))
theorem vX19_sign {d n : Nat} {w : bW} {Q : Int → bW → Prop} {X : String → bW → Prop} (hn : 143 ≤ n) (a1 : Int) (a2 : Int) (ok : oX19_sign n w a1 a2) (k : Q (fX19_sign w a1 a2) w) : b_K (d + 3) mX19_sign [(2, 83), (0, a1), (0, a2)] n w Q X := by
  have i27 := iz27 (Nat.le_trans (Nat.le_of_ble_eq_true rfl) hn)
  have i83 := iz83 (Nat.le_trans (Nat.le_of_ble_eq_true rfl) hn)
  unfold fX19_sign at k
  unfold oX19_sign at ok
  refine k_of (by decide) rfl rfl rfl (ls := [(2, 83), (0, a1), (0, a2), (9, 0), (9, 0)]) rfl ?_
  refine x_aload_n 0 dX19_sign_0 rfl rfl rfl rfl rfl ?_
  refine y_getF 54 0 (c := 18) (z := 27) dX19_sign_1 i83 rfl in_X19 q1292 rfl rfl rfl fn_83_0 (Nat.le_trans (Nat.le_of_ble_eq_true rfl) hn) rfl ?_
  refine x_iload_n 2 dX19_sign_4 rfl rfl rfl ?_
  obtain ⟨e3, ok⟩ := ok
  refine y_Vi 297 (M := mX8_isNegative) (As := [(0, a2)]) (st := []) dX19_sign_5 i27 rfl q2711 q2712 q2713 q375 q2714 rfl hmX8_isNegative rfl rfl rfl rfl rfl rfl rfl rfl (vX8_isNegative (Nat.le_trans (Nat.le_of_ble_eq_true rfl) hn) a2 e3 ?_)
  refine x_istore_n 3 (ls' := [(2, 83), (0, a1), (0, a2), (0, fX8_isNegative w a2), (9, 0)]) dX19_sign_8 rfl rfl rfl rfl ?_
  refine x_iload_n 2 dX19_sign_9 rfl rfl rfl ?_
  refine x_iconst 0 (z := 0) dX19_sign_10 rfl (by decide) rfl ?_
  refine y_Si 279 (M := mX8_small) (As := [(0, 0)]) (st := [(0, a2)]) dX19_sign_11 q2706 q1966 q375 q1967 hmX8_small rfl rfl rfl rfl rfl rfl rfl rfl (vX8_small 0 ?_)
  refine x_icmp_ne (t := 21) 7 dX19_sign_14 rfl rfl (b_itqv ok k (fun hc ok k => ?_) (fun hc ok k => ?_))
  · refine x_iconst 0 (z := 0) dX19_sign_21 rfl (by decide) rfl ?_
    refine x_istore 4 (ls' := [(2, 83), (0, a1), (0, a2), (0, fX8_isNegative w a2), (0, 0)]) dX19_sign_22 rfl rfl rfl ?_
    refine x_iload_n 1 dX19_sign_24 rfl rfl rfl ?_
    refine b_icqv (c := a1 = 80) ok k (fun hc ok k => ?_) (fun hn ok k => ?_)
    · have key : b_Y (d + 3) mX19_sign n Q X 60 [(2, 83), (0, a1), (0, a2), (0, fX8_isNegative w a2), (0, 0)] [] w := by
          refine x_iload 4 dX19_sign_60 rfl rfl ?_
          exact y_zret dX19_sign_62 rfl (by decide) k
      have e := hc
      exact x_tsI (off := 35) (t := 60) dX19_sign_25 (by rw [e]; decide) (by rw [e]; decide) (by rw [e]; rfl) rfl key
    have hx35 := hn
    refine b_icqv (c := a1 = 81) ok k (fun hc ok k => ?_) (fun hn ok k => ?_)
    · have key : b_Y (d + 3) mX19_sign n Q X 63 [(2, 83), (0, a1), (0, a2), (0, fX8_isNegative w a2), (0, 0)] [] w := by
          refine x_iload 4 dX19_sign_63 rfl rfl ?_
          refine x_if_ne (t := 72) 7 dX19_sign_65 rfl rfl (b_ifF (by decide) ?_)
          refine x_iconst 1 (z := 1) dX19_sign_68 rfl (by decide) rfl ?_
          refine x_goto 4 (q := 73) dX19_sign_69 rfl ?_
          exact y_zret dX19_sign_73 rfl (by decide) k
      have e := hc
      exact x_tsI (off := 38) (t := 63) dX19_sign_25 (by rw [e]; decide) (by rw [e]; decide) (by rw [e]; rfl) rfl key
    have hx38 := hn
    refine b_icqv (c := a1 = 82) ok k (fun hc ok k => ?_) (fun hn ok k => ?_)
    · have key : b_Y (d + 3) mX19_sign n Q X 74 [(2, 83), (0, a1), (0, a2), (0, fX8_isNegative w a2), (0, 0)] [] w := by
          refine x_iload_n 3 dX19_sign_74 rfl rfl rfl ?_
          exact y_zret dX19_sign_75 rfl ok k
      have e := hc
      exact x_tsI (off := 49) (t := 74) dX19_sign_25 (by rw [e]; decide) (by rw [e]; decide) (by rw [e]; rfl) rfl key
    have hx49 := hn
    refine b_icqv (c := a1 = 83) (b_tt _) k (fun hc ok k => ?_) (fun hn ok k => ?_)
    · have key : b_Y (d + 3) mX19_sign n Q X 76 [(2, 83), (0, a1), (0, a2), (0, fX8_isNegative w a2), (0, 0)] [] w := by
          refine x_iload_n 3 dX19_sign_76 rfl rfl rfl ?_
          refine x_if_ne (t := 89) 12 dX19_sign_77 rfl rfl (b_itqv (b_tt _) k (fun hc ok k => ?_) (fun hc ok k => ?_))
          · refine x_iconst 0 (z := 0) dX19_sign_89 rfl (by decide) rfl ?_
            exact y_zret dX19_sign_90 rfl (by decide) k
          · refine x_iload 4 dX19_sign_80 rfl rfl ?_
            refine x_if_ne (t := 89) 7 dX19_sign_82 rfl rfl (b_ifF (by decide) ?_)
            refine x_iconst 1 (z := 1) dX19_sign_85 rfl (by decide) rfl ?_
            refine x_goto 4 (q := 90) dX19_sign_86 rfl ?_
            exact y_zret dX19_sign_90 rfl (by decide) k
      have e := hc
      exact x_tsI (off := 51) (t := 76) dX19_sign_25 (by rw [e]; decide) (by rw [e]; decide) (by rw [e]; rfl) rfl key
    have hx51 := hn
    refine b_icqv (c := a1 = 84) (b_tt _) k (fun hc ok k => ?_) (fun hn ok k => ?_)
    · have key : b_Y (d + 3) mX19_sign n Q X 91 [(2, 83), (0, a1), (0, a2), (0, fX8_isNegative w a2), (0, 0)] [] w := by
          refine x_iload_n 3 dX19_sign_91 rfl rfl rfl ?_
          refine x_if_ne (t := 100) 8 dX19_sign_92 rfl rfl (b_itqv (b_tt _) k (fun hc ok k => ?_) (fun hc ok k => ?_))
          · refine x_iconst 1 (z := 1) dX19_sign_100 rfl (by decide) rfl ?_
            refine x_goto 4 (q := 105) dX19_sign_101 rfl ?_
            exact y_zret dX19_sign_105 rfl (by decide) k
          · refine x_iload 4 dX19_sign_95 rfl rfl ?_
            refine x_if_eq (t := 104) 7 dX19_sign_97 rfl rfl (b_ifT (by decide) ?_)
            refine x_iconst 0 (z := 0) dX19_sign_104 rfl (by decide) rfl ?_
            exact y_zret dX19_sign_105 rfl (by decide) k
      have e := hc
      exact x_tsI (off := 66) (t := 91) dX19_sign_25 (by rw [e]; decide) (by rw [e]; decide) (by rw [e]; rfl) rfl key
    have hx66 := hn
    have key : b_Y (d + 3) mX19_sign n Q X 106 [(2, 83), (0, a1), (0, a2), (0, fX8_isNegative w a2), (0, 0)] [] w := by
        refine x_iload_n 3 dX19_sign_106 rfl rfl rfl ?_
        refine x_if_ne (t := 114) 7 dX19_sign_107 rfl rfl (b_itqv (b_tt _) k (fun hc ok k => ?_) (fun hc ok k => ?_))
        · refine x_iconst 0 (z := 0) dX19_sign_114 rfl (by decide) rfl ?_
          exact y_zret dX19_sign_115 rfl (by decide) k
        · refine x_iconst 1 (z := 1) dX19_sign_110 rfl (by decide) rfl ?_
          refine x_goto 4 (q := 115) dX19_sign_111 rfl ?_
          exact y_zret dX19_sign_115 rfl (by decide) k
    exact x_tsO (t := 106) dX19_sign_25 (by omega) rfl key
  · refine x_iconst 1 (z := 1) dX19_sign_17 rfl (by decide) rfl ?_
    refine x_goto 4 (q := 22) dX19_sign_18 rfl ?_
    refine x_istore 4 (ls' := [(2, 83), (0, a1), (0, a2), (0, fX8_isNegative w a2), (0, 1)]) dX19_sign_22 rfl rfl rfl ?_
    refine x_iload_n 1 dX19_sign_24 rfl rfl rfl ?_
    refine b_icqv (c := a1 = 80) ok k (fun hc ok k => ?_) (fun hn ok k => ?_)
    · have key : b_Y (d + 3) mX19_sign n Q X 60 [(2, 83), (0, a1), (0, a2), (0, fX8_isNegative w a2), (0, 1)] [] w := by
          refine x_iload 4 dX19_sign_60 rfl rfl ?_
          exact y_zret dX19_sign_62 rfl (by decide) k
      have e := hc
      exact x_tsI (off := 35) (t := 60) dX19_sign_25 (by rw [e]; decide) (by rw [e]; decide) (by rw [e]; rfl) rfl key
    have hx35 := hn
    refine b_icqv (c := a1 = 81) ok k (fun hc ok k => ?_) (fun hn ok k => ?_)
    · have key : b_Y (d + 3) mX19_sign n Q X 63 [(2, 83), (0, a1), (0, a2), (0, fX8_isNegative w a2), (0, 1)] [] w := by
          refine x_iload 4 dX19_sign_63 rfl rfl ?_
          refine x_if_ne (t := 72) 7 dX19_sign_65 rfl rfl (b_ifT (by decide) ?_)
          refine x_iconst 0 (z := 0) dX19_sign_72 rfl (by decide) rfl ?_
          exact y_zret dX19_sign_73 rfl (by decide) k
      have e := hc
      exact x_tsI (off := 38) (t := 63) dX19_sign_25 (by rw [e]; decide) (by rw [e]; decide) (by rw [e]; rfl) rfl key
    have hx38 := hn
    refine b_icqv (c := a1 = 82) ok k (fun hc ok k => ?_) (fun hn ok k => ?_)
    · have key : b_Y (d + 3) mX19_sign n Q X 74 [(2, 83), (0, a1), (0, a2), (0, fX8_isNegative w a2), (0, 1)] [] w := by
          refine x_iload_n 3 dX19_sign_74 rfl rfl rfl ?_
          exact y_zret dX19_sign_75 rfl ok k
      have e := hc
      exact x_tsI (off := 49) (t := 74) dX19_sign_25 (by rw [e]; decide) (by rw [e]; decide) (by rw [e]; rfl) rfl key
    have hx49 := hn
    refine b_icqv (c := a1 = 83) (b_tt _) k (fun hc ok k => ?_) (fun hn ok k => ?_)
    · have key : b_Y (d + 3) mX19_sign n Q X 76 [(2, 83), (0, a1), (0, a2), (0, fX8_isNegative w a2), (0, 1)] [] w := by
          refine x_iload_n 3 dX19_sign_76 rfl rfl rfl ?_
          refine x_if_ne (t := 89) 12 dX19_sign_77 rfl rfl (b_itq0 (b_tt _) k (fun hc ok k => ?_) (fun hc ok k => ?_))
          · refine x_iconst 0 (z := 0) dX19_sign_89 rfl (by decide) rfl ?_
            exact y_zret dX19_sign_90 rfl (by decide) k
          · refine x_iload 4 dX19_sign_80 rfl rfl ?_
            refine x_if_ne (t := 89) 7 dX19_sign_82 rfl rfl (b_ifT (by decide) ?_)
            refine x_iconst 0 (z := 0) dX19_sign_89 rfl (by decide) rfl ?_
            exact y_zret dX19_sign_90 rfl (by decide) k
      have e := hc
      exact x_tsI (off := 51) (t := 76) dX19_sign_25 (by rw [e]; decide) (by rw [e]; decide) (by rw [e]; rfl) rfl key
    have hx51 := hn
    refine b_icqv (c := a1 = 84) (b_tt _) k (fun hc ok k => ?_) (fun hn ok k => ?_)
    · have key : b_Y (d + 3) mX19_sign n Q X 91 [(2, 83), (0, a1), (0, a2), (0, fX8_isNegative w a2), (0, 1)] [] w := by
          refine x_iload_n 3 dX19_sign_91 rfl rfl rfl ?_
          refine x_if_ne (t := 100) 8 dX19_sign_92 rfl rfl (b_itq0 (b_tt _) k (fun hc ok k => ?_) (fun hc ok k => ?_))
          · refine x_iconst 1 (z := 1) dX19_sign_100 rfl (by decide) rfl ?_
            refine x_goto 4 (q := 105) dX19_sign_101 rfl ?_
            exact y_zret dX19_sign_105 rfl (by decide) k
          · refine x_iload 4 dX19_sign_95 rfl rfl ?_
            refine x_if_eq (t := 104) 7 dX19_sign_97 rfl rfl (b_ifF (by decide) ?_)
            refine x_iconst 1 (z := 1) dX19_sign_100 rfl (by decide) rfl ?_
            refine x_goto 4 (q := 105) dX19_sign_101 rfl ?_
            exact y_zret dX19_sign_105 rfl (by decide) k
      have e := hc
      exact x_tsI (off := 66) (t := 91) dX19_sign_25 (by rw [e]; decide) (by rw [e]; decide) (by rw [e]; rfl) rfl key
    have hx66 := hn
    have key : b_Y (d + 3) mX19_sign n Q X 106 [(2, 83), (0, a1), (0, a2), (0, fX8_isNegative w a2), (0, 1)] [] w := by
        refine x_iload_n 3 dX19_sign_106 rfl rfl rfl ?_
        refine x_if_ne (t := 114) 7 dX19_sign_107 rfl rfl (b_itqv (b_tt _) k (fun hc ok k => ?_) (fun hc ok k => ?_))
        · refine x_iconst 0 (z := 0) dX19_sign_114 rfl (by decide) rfl ?_
          exact y_zret dX19_sign_115 rfl (by decide) k
        · refine x_iconst 1 (z := 1) dX19_sign_110 rfl (by decide) rfl ?_
          refine x_goto 4 (q := 115) dX19_sign_111 rfl ?_
          exact y_zret dX19_sign_115 rfl (by decide) k
    exact x_tsO (t := 106) dX19_sign_25 (by omega) rfl key
def fX19_areSmall (w : bW) : Int := (if fX8_isSmall w (fX19_at w 0) = 0 then 0 else (if fX8_isSmall w (fX19_at w 1) = 0 then 0 else 1))
def oX19_areSmall (n : Nat) (w : bW) : Prop := (oX19_at n w 0) ∧ (if fX8_isSmall w (fX19_at w 0) = 0 then True else ((oX19_at n w 1) ∧ (True)))
theorem vX19_areSmall {d n : Nat} {w : bW} {Q : Int → bW → Prop} {X : String → bW → Prop} (hn : 143 ≤ n) (ok : oX19_areSmall n w) (k : Q (fX19_areSmall w) w) : b_K (d + 2) mX19_areSmall [(2, 83)] n w Q X := by
  have i83 := iz83 (Nat.le_trans (Nat.le_of_ble_eq_true rfl) hn)
  unfold fX19_areSmall at k
  unfold oX19_areSmall at ok
  refine k_of (by decide) rfl rfl rfl (ls := [(2, 83)]) rfl ?_
  refine x_aload_n 0 dX19_areSmall_0 rfl rfl rfl rfl rfl ?_
  refine x_iconst 0 (z := 0) dX19_areSmall_1 rfl (by decide) rfl ?_
  obtain ⟨e3, ok⟩ := ok
  refine y_Vi 102 (M := mX19_at) (As := [(0, 0)]) (st := []) dX19_areSmall_2 i83 rfl q2651 q2653 qs125 q386 q2654 rfl hmX19_at rfl rfl rfl rfl rfl rfl rfl rfl (vX19_at (Nat.le_trans (Nat.le_of_ble_eq_true rfl) hn) 0 e3 ?_)
  refine y_Si 265 (M := mX8_isSmall) (As := [(0, fX19_at w 0)]) (st := []) dX19_areSmall_5 q2751 q2032 q375 q2033 hmX8_isSmall rfl rfl rfl rfl rfl rfl rfl rfl (vX8_isSmall (fX19_at w 0) ?_)
  refine x_if_eq (t := 26) 18 dX19_areSmall_8 rfl rfl (b_itqv ok k (fun hc ok k => ?_) (fun hc ok k => ?_))
  · refine x_iconst 0 (z := 0) dX19_areSmall_26 rfl (by decide) rfl ?_
    exact y_zret dX19_areSmall_27 rfl (by decide) k
  · refine x_aload_n 0 dX19_areSmall_11 rfl rfl rfl rfl rfl ?_
    refine x_iconst 1 (z := 1) dX19_areSmall_12 rfl (by decide) rfl ?_
    obtain ⟨e8, ok⟩ := ok
    refine y_Vi 102 (M := mX19_at) (As := [(0, 1)]) (st := []) dX19_areSmall_13 i83 rfl q2651 q2653 qs125 q386 q2654 rfl hmX19_at rfl rfl rfl rfl rfl rfl rfl rfl (vX19_at (Nat.le_trans (Nat.le_of_ble_eq_true rfl) hn) 1 e8 ?_)
    refine y_Si 265 (M := mX8_isSmall) (As := [(0, fX19_at w 1)]) (st := []) dX19_areSmall_16 q2751 q2032 q375 q2033 hmX8_isSmall rfl rfl rfl rfl rfl rfl rfl rfl (vX8_isSmall (fX19_at w 1) ?_)
    refine x_if_eq (t := 26) 7 dX19_areSmall_19 rfl rfl (b_itqv (b_tt _) k (fun hc ok k => ?_) (fun hc ok k => ?_))
    · refine x_iconst 0 (z := 0) dX19_areSmall_26 rfl (by decide) rfl ?_
      exact y_zret dX19_areSmall_27 rfl (by decide) k
    · refine x_iconst 1 (z := 1) dX19_areSmall_22 rfl (by decide) rfl ?_
      refine x_goto 4 (q := 27) dX19_areSmall_23 rfl ?_
      exact y_zret dX19_areSmall_27 rfl (by decide) k
def fX19_size (w : bW) (a1 : Int) (a2 : Int) : Int := (if a2 ≠ 11 then (if a2 = 12 then fX8_many w a1 else (if a2 ≠ 15 then fX8_count w a1 else fX8_many w a1)) else fX8_listCount w a1)
def oX19_size (n : Nat) (w : bW) (a1 : Int) (a2 : Int) : Prop := if a2 ≠ 11 then (if a2 = 12 then ((oX8_many n w a1) ∧ (True)) else (if a2 ≠ 15 then ((oX8_count n w a1) ∧ (True)) else ((oX8_many n w a1) ∧ (True)))) else ((oX8_listCount n w a1) ∧ (True))
theorem vX19_size {d n : Nat} {w : bW} {Q : Int → bW → Prop} {X : String → bW → Prop} (hn : 143 ≤ n) (a1 : Int) (a2 : Int) (ok : oX19_size n w a1 a2) (k : Q (fX19_size w a1 a2) w) : b_K (d + 3) mX19_size [(2, 83), (0, a1), (0, a2)] n w Q X := by
  have i27 := iz27 (Nat.le_trans (Nat.le_of_ble_eq_true rfl) hn)
  have i83 := iz83 (Nat.le_trans (Nat.le_of_ble_eq_true rfl) hn)
  unfold fX19_size at k
  unfold oX19_size at ok
  refine k_of (by decide) rfl rfl rfl (ls := [(2, 83), (0, a1), (0, a2)]) rfl ?_
  refine x_iload_n 2 dX19_size_0 rfl rfl rfl ?_
  refine x_bipush 11 (z := 11) dX19_size_1 rfl (by decide) rfl ?_
  refine x_icmp_ne (t := 17) 14 dX19_size_3 rfl rfl (b_itqv ok k (fun hc ok k => ?_) (fun hc ok k => ?_))
  · refine x_iload_n 2 dX19_size_17 rfl rfl rfl ?_
    refine x_bipush 12 (z := 12) dX19_size_18 rfl (by decide) rfl ?_
    refine x_icmp_eq (t := 29) 9 dX19_size_20 rfl rfl (b_itqv ok k (fun hc ok k => ?_) (fun hc ok k => ?_))
    · refine x_aload_n 0 dX19_size_29 rfl rfl rfl rfl rfl ?_
      refine y_getF 54 0 (c := 18) (z := 27) dX19_size_30 i83 rfl in_X19 q1292 rfl rfl rfl fn_83_0 (Nat.le_trans (Nat.le_of_ble_eq_true rfl) hn) rfl ?_
      refine x_iload_n 1 dX19_size_33 rfl rfl rfl ?_
      obtain ⟨e3, ok⟩ := ok
      refine y_Vi 245 (M := mX8_many) (As := [(0, a1)]) (st := []) dX19_size_34 i27 rfl q2605 q2135 q2136 q375 q2137 rfl hmX8_many rfl rfl rfl rfl rfl rfl rfl rfl (vX8_many (Nat.le_trans (Nat.le_of_ble_eq_true rfl) hn) a1 e3 ?_)
      refine x_goto 11 (q := 48) dX19_size_37 rfl ?_
      exact y_iret dX19_size_48 rfl k
    · refine x_iload_n 2 dX19_size_23 rfl rfl rfl ?_
      refine x_bipush 15 (z := 15) dX19_size_24 rfl (by decide) rfl ?_
      refine x_icmp_ne (t := 40) 14 dX19_size_26 rfl rfl (b_itqv ok k (fun hc ok k => ?_) (fun hc ok k => ?_))
      · refine x_aload_n 0 dX19_size_40 rfl rfl rfl rfl rfl ?_
        refine y_getF 54 0 (c := 18) (z := 27) dX19_size_41 i83 rfl in_X19 q1292 rfl rfl rfl fn_83_0 (Nat.le_trans (Nat.le_of_ble_eq_true rfl) hn) rfl ?_
        refine x_iload_n 1 dX19_size_44 rfl rfl rfl ?_
        obtain ⟨e6, ok⟩ := ok
        refine y_Vi 388 (M := mX8_count) (As := [(0, a1)]) (st := []) dX19_size_45 i27 rfl q2839 q2087 q2088 q375 q2089 rfl hmX8_count rfl rfl rfl rfl rfl rfl rfl rfl (vX8_count (Nat.le_trans (Nat.le_of_ble_eq_true rfl) hn) a1 e6 ?_)
        exact y_iret dX19_size_48 rfl k
      · refine x_aload_n 0 dX19_size_29 rfl rfl rfl rfl rfl ?_
        refine y_getF 54 0 (c := 18) (z := 27) dX19_size_30 i83 rfl in_X19 q1292 rfl rfl rfl fn_83_0 (Nat.le_trans (Nat.le_of_ble_eq_true rfl) hn) rfl ?_
        refine x_iload_n 1 dX19_size_33 rfl rfl rfl ?_
        obtain ⟨e9, ok⟩ := ok
        refine y_Vi 245 (M := mX8_many) (As := [(0, a1)]) (st := []) dX19_size_34 i27 rfl q2605 q2135 q2136 q375 q2137 rfl hmX8_many rfl rfl rfl rfl rfl rfl rfl rfl (vX8_many (Nat.le_trans (Nat.le_of_ble_eq_true rfl) hn) a1 e9 ?_)
        refine x_goto 11 (q := 48) dX19_size_37 rfl ?_
        exact y_iret dX19_size_48 rfl k
  · refine x_aload_n 0 dX19_size_6 rfl rfl rfl rfl rfl ?_
    refine y_getF 54 0 (c := 18) (z := 27) dX19_size_7 i83 rfl in_X19 q1292 rfl rfl rfl fn_83_0 (Nat.le_trans (Nat.le_of_ble_eq_true rfl) hn) rfl ?_
    refine x_iload_n 1 dX19_size_10 rfl rfl rfl ?_
    obtain ⟨e12, ok⟩ := ok
    refine y_Vi 391 (M := mX8_listCount) (As := [(0, a1)]) (st := []) dX19_size_11 i27 rfl q2840 q2067 q2068 q375 q2069 rfl hmX8_listCount rfl rfl rfl rfl rfl rfl rfl rfl (vX8_listCount (Nat.le_trans (Nat.le_of_ble_eq_true rfl) hn) a1 e12 ?_)
    refine x_goto 34 (q := 48) dX19_size_14 rfl ?_
    exact y_iret dX19_size_48 rfl k
def gX22_mark (w : bW) : bW := (b_up (b_up (b_up (b_up (b_up (b_up w 102 22 (w 19 7)) 102 23 (w 50 2)) 102 24 (w 53 6)) 102 25 (w 53 11)) 102 26 (w 53 13)) 102 27 (fX8_fixedTop (b_up (b_up (b_up (b_up (b_up w 102 22 (w 19 7)) 102 23 (w 50 2)) 102 24 (w 53 6)) 102 25 (w 53 11)) 102 26 (w 53 13))))
theorem vX22_mark {d n : Nat} {w : bW} {Q : Int → bW → Prop} {X : String → bW → Prop} (hn : 143 ≤ n) (k : Q 0 (gX22_mark w)) : b_K (d + 2) mX22_mark [(2, 102)] n w Q X := by
  have i19 := iz19 (Nat.le_trans (Nat.le_of_ble_eq_true rfl) hn)
  have i27 := iz27 (Nat.le_trans (Nat.le_of_ble_eq_true rfl) hn)
  have i50 := iz50 (Nat.le_trans (Nat.le_of_ble_eq_true rfl) hn)
  have i53 := iz53 (Nat.le_trans (Nat.le_of_ble_eq_true rfl) hn)
  have i102 := iz102 (Nat.le_trans (Nat.le_of_ble_eq_true rfl) hn)
  unfold gX22_mark at k
  refine k_of (by decide) rfl rfl rfl (ls := [(2, 102)]) rfl ?_
  refine x_aload_n 0 dX22_mark_0 rfl rfl rfl rfl rfl ?_
  refine x_aload_n 0 dX22_mark_1 rfl rfl rfl rfl rfl ?_
  refine y_getF 36 1 (c := 20) (z := 19) dX22_mark_2 i102 rfl in_X22 q1406 rfl rfl rfl fn_102_1 (Nat.le_trans (Nat.le_of_ble_eq_true rfl) hn) rfl ?_
  refine y_get 86 7 (c := 6) (z := w 19 7) dX22_mark_5 i19 rfl in_X7 q774 rfl rfl rfl rfl rfl ?_
  refine x_put 91 22 (c := 20) dX22_mark_8 i102 rfl in_X22 tyX22_ok nmX22 q1430 rfl rfl rfl (Or.inl rfl) (Or.inl ⟨rfl, rfl⟩) rfl ?_
  refine x_aload_n 0 dX22_mark_11 rfl rfl rfl rfl rfl ?_
  refine x_aload_n 0 dX22_mark_12 rfl rfl rfl rfl rfl ?_
  refine y_getF 40 2 (c := 20) (z := 50) dX22_mark_13 i102 rfl in_X22 q1407 rfl rfl rfl fn_102_2 (Nat.le_trans (Nat.le_of_ble_eq_true rfl) hn) rfl ?_
  refine y_get 94 2 (c := 13) (z := w 50 2) dX22_mark_16 i50 rfl in_X14 q1005 rfl rfl rfl rfl rfl ?_
  refine x_put 97 23 (c := 20) dX22_mark_19 i102 rfl in_X22 tyX22_ok nmX22 q1431 rfl rfl rfl (Or.inl rfl) (Or.inl ⟨rfl, rfl⟩) rfl ?_
  refine x_aload_n 0 dX22_mark_22 rfl rfl rfl rfl rfl ?_
  refine x_aload_n 0 dX22_mark_23 rfl rfl rfl rfl rfl ?_
  refine y_getF 44 3 (c := 20) (z := 53) dX22_mark_24 i102 rfl in_X22 q1408 rfl rfl rfl fn_102_3 (Nat.le_trans (Nat.le_of_ble_eq_true rfl) hn) rfl ?_
  refine y_get 100 6 (c := 14) (z := w 53 6) dX22_mark_27 i53 rfl in_X15 q1038 rfl rfl rfl rfl rfl ?_
  refine x_put 103 24 (c := 20) dX22_mark_30 i102 rfl in_X22 tyX22_ok nmX22 q1432 rfl rfl rfl (Or.inl rfl) (Or.inl ⟨rfl, rfl⟩) rfl ?_
  refine x_aload_n 0 dX22_mark_33 rfl rfl rfl rfl rfl ?_
  refine x_aload_n 0 dX22_mark_34 rfl rfl rfl rfl rfl ?_
  refine y_getF 44 3 (c := 20) (z := 53) dX22_mark_35 i102 rfl in_X22 q1408 rfl rfl rfl fn_102_3 (Nat.le_trans (Nat.le_of_ble_eq_true rfl) hn) rfl ?_
  refine y_get 106 11 (c := 14) (z := w 53 11) dX22_mark_38 i53 rfl in_X15 q1053 rfl rfl rfl rfl rfl ?_
  refine x_put 109 25 (c := 20) dX22_mark_41 i102 rfl in_X22 tyX22_ok nmX22 q1433 rfl rfl rfl (Or.inl rfl) (Or.inl ⟨rfl, rfl⟩) rfl ?_
  refine x_aload_n 0 dX22_mark_44 rfl rfl rfl rfl rfl ?_
  refine x_aload_n 0 dX22_mark_45 rfl rfl rfl rfl rfl ?_
  refine y_getF 44 3 (c := 20) (z := 53) dX22_mark_46 i102 rfl in_X22 q1408 rfl rfl rfl fn_102_3 (Nat.le_trans (Nat.le_of_ble_eq_true rfl) hn) rfl ?_
  refine y_get 112 13 (c := 14) (z := w 53 13) dX22_mark_49 i53 rfl in_X15 q1059 rfl rfl rfl rfl rfl ?_
  refine x_put 115 26 (c := 20) dX22_mark_52 i102 rfl in_X22 tyX22_ok nmX22 q1434 rfl rfl rfl (Or.inl rfl) (Or.inl ⟨rfl, rfl⟩) rfl ?_
  refine x_aload_n 0 dX22_mark_55 rfl rfl rfl rfl rfl ?_
  refine x_aload_n 0 dX22_mark_56 rfl rfl rfl rfl rfl ?_
  refine y_getF 56 6 (c := 20) (z := 27) dX22_mark_57 i102 rfl in_X22 q1411 rfl rfl rfl fn_102_6 (Nat.le_trans (Nat.le_of_ble_eq_true rfl) hn) rfl ?_
  refine y_Vi 118 (M := mX8_fixedTop) (As := []) (st := [(2, 102)]) dX22_mark_60 i27 rfl q1813 q1814 q1815 q375 q1816 rfl hmX8_fixedTop rfl rfl rfl rfl rfl rfl rfl rfl (vX8_fixedTop (Nat.le_trans (Nat.le_of_ble_eq_true rfl) hn) ?_)
  refine x_put 124 27 (c := 20) dX22_mark_63 i102 rfl in_X22 tyX22_ok nmX22 q1435 rfl rfl rfl (Or.inl rfl) (Or.inl ⟨rfl, rfl⟩) rfl ?_
  exact y_vret dX22_mark_66 rfl k
def fX25_word (w : bW) (a0 : Int) (a1 : Int) : Int := (if w (a0 + 4) a1 ≠ 5 then (-1) else (if fX28_hasMark w a0 a1 ≠ 0 then (-1) else w (a0 + 13) a1))
def oX25_word (n : Nat) (w : bW) (a0 : Int) (a1 : Int) : Prop := (0 ≤ a1 ∧ a1 < 4096) ∧ (if w (a0 + 4) a1 ≠ 5 then True else ((oX28_hasMark n w a0 a1) ∧ (if fX28_hasMark w a0 a1 ≠ 0 then True else ((0 ≤ a1 ∧ a1 < 4096) ∧ (True)))))
theorem vX25_word {d n : Nat} {w : bW} {Q : Int → bW → Prop} {X : String → bW → Prop} (hn : 254 ≤ n) (a0 : Int) (a1 : Int) (ha0 : b_is n a0 0 26 20) (ok : oX25_word n w a0 a1) (k : Q (fX25_word w a0 a1) w) : b_K (d + 2) mX25_word [(2, a0), (0, a1)] n w Q X := by
  unfold fX25_word at k
  unfold oX25_word at ok
  refine k_of (by decide) rfl rfl rfl (ls := [(2, a0), (0, a1)]) rfl ?_
  refine x_aload_n 0 dX25_word_0 rfl rfl rfl rfl rfl ?_
  refine y_getO 264 2 (c := 26) dX25_word_1 ha0 rfl in_X28 q4160 rfl rfl rfl (fun h5 hf => of_X28_2 (Nat.le_trans (Nat.le_of_ble_eq_true rfl) hn) h5 ha0 hf) rfl (fun e1 => ?_)
  refine x_iload_n 1 dX25_word_4 rfl rfl rfl ?_
  obtain ⟨e2, ok⟩ := ok
  refine y_bald (z := w (a0 + 4) a1) dX25_word_5 ⟨4096, e1, e2⟩ rfl rfl ?_
  refine x_iconst 5 (z := 5) dX25_word_6 rfl (by decide) rfl ?_
  refine x_icmp_ne (t := 27) 20 dX25_word_7 rfl rfl (b_itqv ok k (fun hc ok k => ?_) (fun hc ok k => ?_))
  · refine x_iconst (-1) (z := (-1)) dX25_word_27 rfl (by decide) rfl ?_
    exact y_iret dX25_word_28 rfl k
  · refine x_aload_n 0 dX25_word_10 rfl rfl rfl rfl rfl ?_
    refine x_iload_n 1 dX25_word_11 rfl rfl rfl ?_
    obtain ⟨e5, ok⟩ := ok
    refine y_Vi 267 (M := mX28_hasMark) (As := [(0, a1)]) (st := []) dX25_word_12 ha0 rfl q3326 q3327 q3328 q395 q3329 rfl hmX28_hasMark rfl rfl rfl rfl rfl rfl rfl rfl (vX28_hasMark (Nat.le_trans (Nat.le_of_ble_eq_true rfl) hn) a0 a1 ha0 e5 ?_)
    refine x_if_ne (t := 27) 12 dX25_word_15 rfl rfl (b_itqv ok k (fun hc ok k => ?_) (fun hc ok k => ?_))
    · refine x_iconst (-1) (z := (-1)) dX25_word_27 rfl (by decide) rfl ?_
      exact y_iret dX25_word_28 rfl k
    · refine x_aload_n 0 dX25_word_18 rfl rfl rfl rfl rfl ?_
      refine y_getO 270 11 (c := 26) dX25_word_19 ha0 rfl in_X28 q4181 rfl rfl rfl (fun h5 hf => of_X28_11 (Nat.le_trans (Nat.le_of_ble_eq_true rfl) hn) h5 ha0 hf) rfl (fun e6 => ?_)
      refine x_iload_n 1 dX25_word_22 rfl rfl rfl ?_
      obtain ⟨e7, ok⟩ := ok
      refine y_iald (z := w (a0 + 13) a1) dX25_word_23 ⟨4096, e6, e7⟩ rfl rfl ?_
      refine x_goto 4 (q := 28) dX25_word_24 rfl ?_
      exact y_iret dX25_word_28 rfl k
def fX25_isTop (w : bW) (a1 : Int) (a2 : Int) : Int := fX27_isKind w (fX25_topType w a1) a2
def oX25_isTop (n : Nat) (w : bW) (a1 : Int) (a2 : Int) : Prop := (oX25_topType n w a1) ∧ ((oX27_isKind n w (fX25_topType w a1) a2) ∧ ((fX27_isKind w (fX25_topType w a1) a2 = 0 ∨ fX27_isKind w (fX25_topType w a1) a2 = 1)))
theorem vX25_isTop {d n : Nat} {w : bW} {Q : Int → bW → Prop} {X : String → bW → Prop} (hn : 254 ≤ n) (a1 : Int) (a2 : Int) (ok : oX25_isTop n w a1 a2) (k : Q (fX25_isTop w a1 a2) w) : b_K (d + 2) mX25_isTop [(2, 143), (0, a1), (0, a2)] n w Q X := by
  have i143 := iz143 (Nat.le_trans (Nat.le_of_ble_eq_true rfl) hn)
  have i163 := iz163 (Nat.le_trans (Nat.le_of_ble_eq_true rfl) hn)
  unfold fX25_isTop at k
  unfold oX25_isTop at ok
  refine k_of (by decide) rfl rfl rfl (ls := [(2, 143), (0, a1), (0, a2)]) rfl ?_
  refine x_aload_n 0 dX25_isTop_0 rfl rfl rfl rfl rfl ?_
  refine y_getF 277 29 (c := 23) (z := 163) dX25_isTop_1 i143 rfl in_X25 q4264 rfl rfl rfl fn_143_29 (Nat.le_trans (Nat.le_of_ble_eq_true rfl) hn) rfl ?_
  refine x_aload_n 0 dX25_isTop_4 rfl rfl rfl rfl rfl ?_
  refine x_iload_n 1 dX25_isTop_5 rfl rfl rfl ?_
  obtain ⟨e3, ok⟩ := ok
  refine y_Vi 499 (M := mX25_topType) (As := [(0, a1)]) (st := [(2, 163)]) dX25_isTop_6 i143 rfl q3406 q3408 qs215 q392 q3409 rfl hmX25_topType rfl rfl rfl rfl rfl rfl rfl rfl (vX25_topType (Nat.le_trans (Nat.le_of_ble_eq_true rfl) hn) a1 e3 ?_)
  refine x_iload_n 2 dX25_isTop_9 rfl rfl rfl ?_
  obtain ⟨e6, ok⟩ := ok
  refine y_Vi 502 (M := mX27_isKind) (As := [(0, fX25_topType w a1), (0, a2)]) (st := []) dX25_isTop_10 i163 rfl q3410 q3411 q3412 q394 q3413 rfl hmX27_isKind rfl rfl rfl rfl rfl rfl rfl rfl (vX27_isKind (Nat.le_trans (Nat.le_of_ble_eq_true rfl) hn) (fX25_topType w a1) a2 e6 ?_)
  exact y_zret dX25_isTop_13 rfl ok k
def fX25_pair (w : bW) (a1 : Int) (a2 : Int) : Int := fX25_two w 9 a1 a2 (b_l ((b_l (2 + (fX25_lengthOf w a1))) + (fX25_lengthOf w a2)))
def gX25_pair (w : bW) (a1 : Int) (a2 : Int) : bW := (gX25_two w 9 a1 a2 (b_l ((b_l (2 + (fX25_lengthOf w a1))) + (fX25_lengthOf w a2))))
def oX25_pair (n : Nat) (w : bW) (a1 : Int) (a2 : Int) : Prop := (oX25_lengthOf n w a1) ∧ ((oX25_lengthOf n w a2) ∧ ((oX25_two n w 9 a1 a2 (b_l ((b_l (2 + (fX25_lengthOf w a1))) + (fX25_lengthOf w a2)))) ∧ (True)))
theorem vX25_pair {d n : Nat} {w : bW} {Q : Int → bW → Prop} {X : String → bW → Prop} (hn : 144 ≤ n) (a1 : Int) (a2 : Int) (ok : oX25_pair n w a1 a2) (k : Q (fX25_pair w a1 a2) (gX25_pair w a1 a2)) : b_K (d + 3) mX25_pair [(2, 143), (0, a1), (0, a2)] n w Q X := by
  have i143 := iz143 (Nat.le_trans (Nat.le_of_ble_eq_true rfl) hn)
  unfold fX25_pair gX25_pair at k
  unfold oX25_pair at ok
  refine k_of (by decide) rfl rfl rfl (ls := [(2, 143), (0, a1), (0, a2)]) rfl ?_
  refine x_aload_n 0 dX25_pair_0 rfl rfl rfl rfl rfl ?_
  refine x_bipush 9 (z := 9) dX25_pair_1 rfl (by decide) rfl ?_
  refine x_iload_n 1 dX25_pair_3 rfl rfl rfl ?_
  refine x_iload_n 2 dX25_pair_4 rfl rfl rfl ?_
  refine x_ldc2 75 (x := 2) dX25_pair_5 q3256 rfl (by decide) rfl ?_
  refine x_aload_n 0 dX25_pair_8 rfl rfl rfl rfl rfl ?_
  refine x_iload_n 1 dX25_pair_9 rfl rfl rfl ?_
  obtain ⟨e3, ok⟩ := ok
  refine y_Vi 77 (M := mX25_lengthOf) (As := [(0, a1)]) (st := [(1, 2), (0, a2), (0, a1), (0, 9), (2, 143)]) dX25_pair_10 i143 rfl q3508 q3510 qs238 q392 q3511 rfl hmX25_lengthOf rfl rfl rfl rfl rfl rfl rfl rfl (vX25_lengthOf (Nat.le_trans (Nat.le_of_ble_eq_true rfl) hn) a1 e3 ?_)
  refine x_i2l dX25_pair_13 rfl ?_
  refine x_ladd dX25_pair_14 rfl ?_
  refine x_aload_n 0 dX25_pair_15 rfl rfl rfl rfl rfl ?_
  refine x_iload_n 2 dX25_pair_16 rfl rfl rfl ?_
  obtain ⟨e6, ok⟩ := ok
  refine y_Vi 77 (M := mX25_lengthOf) (As := [(0, a2)]) (st := [(1, b_l (2 + (fX25_lengthOf w a1))), (0, a2), (0, a1), (0, 9), (2, 143)]) dX25_pair_17 i143 rfl q3508 q3510 qs238 q392 q3511 rfl hmX25_lengthOf rfl rfl rfl rfl rfl rfl rfl rfl (vX25_lengthOf (Nat.le_trans (Nat.le_of_ble_eq_true rfl) hn) a2 e6 ?_)
  refine x_i2l dX25_pair_20 rfl ?_
  refine x_ladd dX25_pair_21 rfl ?_
  obtain ⟨e9, ok⟩ := ok
  refine y_Vi 84 (M := mX25_two) (As := [(0, 9), (0, a1), (0, a2), (1, b_l ((b_l (2 + (fX25_lengthOf w a1))) + (fX25_lengthOf w a2)))]) (st := []) dX25_pair_22 i143 rfl q3512 q3514 qs239 q392 q3515 rfl hmX25_two rfl rfl rfl rfl rfl rfl rfl rfl (vX25_two (Nat.le_trans (Nat.le_of_ble_eq_true rfl) hn) 9 a1 a2 (b_l ((b_l (2 + (fX25_lengthOf w a1))) + (fX25_lengthOf w a2))) e9 ?_)
  exact y_iret dX25_pair_25 rfl k
def fX25_wrap (w : bW) (a1 : Int) (a2 : Int) : Int := (if 0 ≤ a2 then fX25_one w a1 a2 else (-1))
def gX25_wrap (w : bW) (a1 : Int) (a2 : Int) : bW := (if 0 ≤ a2 then (gX25_one w a1 a2) else w)
def oX25_wrap (n : Nat) (w : bW) (a1 : Int) (a2 : Int) : Prop := if 0 ≤ a2 then ((oX25_one n w a1 a2) ∧ (True)) else True
theorem vX25_wrap {d n : Nat} {w : bW} {Q : Int → bW → Prop} {X : String → bW → Prop} (hn : 144 ≤ n) (a1 : Int) (a2 : Int) (ok : oX25_wrap n w a1 a2) (k : Q (fX25_wrap w a1 a2) (gX25_wrap w a1 a2)) : b_K (d + 3) mX25_wrap [(2, 143), (0, a1), (0, a2)] n w Q X := by
  have i143 := iz143 (Nat.le_trans (Nat.le_of_ble_eq_true rfl) hn)
  unfold fX25_wrap gX25_wrap at k
  unfold oX25_wrap at ok
  refine k_of (by decide) rfl rfl rfl (ls := [(2, 143), (0, a1), (0, a2)]) rfl ?_
  refine x_iload_n 2 dX25_wrap_0 rfl rfl rfl ?_
  refine x_if_ge (t := 8) 7 dX25_wrap_1 rfl rfl (b_itq ok k (fun hc ok k => ?_) (fun hc ok k => ?_))
  · refine x_aload_n 0 dX25_wrap_8 rfl rfl rfl rfl rfl ?_
    refine x_iload_n 1 dX25_wrap_9 rfl rfl rfl ?_
    refine x_iload_n 2 dX25_wrap_10 rfl rfl rfl ?_
    obtain ⟨e3, ok⟩ := ok
    refine y_Vi 328 (M := mX25_one) (As := [(0, a1), (0, a2)]) (st := []) dX25_wrap_11 i143 rfl q3542 q3544 qs244 q392 q3545 rfl hmX25_one rfl rfl rfl rfl rfl rfl rfl rfl (vX25_one (Nat.le_trans (Nat.le_of_ble_eq_true rfl) hn) a1 a2 e3 ?_)
    exact y_iret dX25_wrap_14 rfl k
  · refine x_iconst (-1) (z := (-1)) dX25_wrap_4 rfl (by decide) rfl ?_
    refine x_goto 9 (q := 14) dX25_wrap_5 rfl ?_
    exact y_iret dX25_wrap_14 rfl k
def fX25_balance (w : bW) (a1 : Int) (a2 : Int) : Int := (if a1 = 0 then (if a2 < 0 then (-1) else (if (gX25_isContract w a2) 143 65 ≤ a2 then (-1) else (gX25_isContract w a2) 231 a2)) else (if fX25_isContract w a2 = 0 then (-1) else (gX25_isContract w a2) 234 a2))
def gX25_balance (w : bW) (a1 : Int) (a2 : Int) : bW := (gX25_isContract w a2)
def oX25_balance (n : Nat) (w : bW) (a1 : Int) (a2 : Int) : Prop := (oX25_isContract n w a2) ∧ (if a1 = 0 then (if a2 < 0 then True else (if (gX25_isContract w a2) 143 65 ≤ a2 then True else ((0 ≤ a2 ∧ a2 < 100) ∧ (True)))) else (if fX25_isContract w a2 = 0 then True else ((0 ≤ a2 ∧ a2 < 100) ∧ (True))))
theorem vX25_balance {d n : Nat} {w : bW} {Q : Int → bW → Prop} {X : String → bW → Prop} (hn : 254 ≤ n) (a1 : Int) (a2 : Int) (ok : oX25_balance n w a1 a2) (k : Q (fX25_balance w a1 a2) (gX25_balance w a1 a2)) : b_K (d + 2) mX25_balance [(2, 143), (0, a1), (0, a2)] n w Q X := by
  have i143 := iz143 (Nat.le_trans (Nat.le_of_ble_eq_true rfl) hn)
  have i231 := iz231 (Nat.le_trans (Nat.le_of_ble_eq_true rfl) hn)
  have i234 := iz234 (Nat.le_trans (Nat.le_of_ble_eq_true rfl) hn)
  unfold fX25_balance gX25_balance at k
  unfold oX25_balance at ok
  refine k_of (by decide) rfl rfl rfl (ls := [(2, 143), (0, a1), (0, a2), (9, 0)]) rfl ?_
  refine x_aload_n 0 dX25_balance_0 rfl rfl rfl rfl rfl ?_
  refine x_iload_n 2 dX25_balance_1 rfl rfl rfl ?_
  obtain ⟨e3, ok⟩ := ok
  refine y_Vi 1176 (M := mX25_isContract) (As := [(0, a2)]) (st := []) dX25_balance_2 i143 rfl q4659 q4661 qs356 q392 q4662 rfl hmX25_isContract rfl rfl rfl rfl rfl rfl rfl rfl (vX25_isContract (Nat.le_trans (Nat.le_of_ble_eq_true rfl) hn) a2 e3 ?_)
  refine x_istore_n 3 (ls' := [(2, 143), (0, a1), (0, a2), (0, fX25_isContract w a2)]) dX25_balance_5 rfl rfl rfl rfl ?_
  refine x_iload_n 1 dX25_balance_6 rfl rfl rfl ?_
  refine x_if_eq (t := 27) 20 dX25_balance_7 rfl rfl (b_itqv ok k (fun hc ok k => ?_) (fun hc ok k => ?_))
  · refine x_iload_n 2 dX25_balance_27 rfl rfl rfl ?_
    refine x_if_lt (t := 48) 20 dX25_balance_28 rfl rfl (b_itqv ok k (fun hc ok k => ?_) (fun hc ok k => ?_))
    · refine x_ldc2 759 (x := (-1)) dX25_balance_48 q3826 rfl (by decide) rfl ?_
      exact y_lret dX25_balance_51 rfl k
    · refine x_iload_n 2 dX25_balance_31 rfl rfl rfl ?_
      refine x_aload_n 0 dX25_balance_32 rfl rfl rfl rfl rfl ?_
      refine y_get 888 65 (c := 23) (z := (gX25_isContract w a2) 143 65) dX25_balance_33 i143 rfl in_X25 q4300 rfl rfl rfl rfl rfl ?_
      refine x_icmp_ge (t := 48) 12 dX25_balance_36 rfl rfl (b_itqv ok k (fun hc ok k => ?_) (fun hc ok k => ?_))
      · refine x_ldc2 759 (x := (-1)) dX25_balance_48 q3826 rfl (by decide) rfl ?_
        exact y_lret dX25_balance_51 rfl k
      · refine x_aload_n 0 dX25_balance_39 rfl rfl rfl rfl rfl ?_
        refine y_getF 946 66 (c := 23) (z := 231) dX25_balance_40 i143 rfl in_X25 q4301 rfl rfl rfl fn_143_66 (Nat.le_trans (Nat.le_of_ble_eq_true rfl) hn) rfl ?_
        refine x_iload_n 2 dX25_balance_43 rfl rfl rfl ?_
        obtain ⟨e4, ok⟩ := ok
        refine y_lald (z := (gX25_isContract w a2) 231 a2) dX25_balance_44 ⟨100, i231, e4⟩ rfl rfl ?_
        refine x_goto 6 (q := 51) dX25_balance_45 rfl ?_
        exact y_lret dX25_balance_51 rfl k
  · refine x_iload_n 3 dX25_balance_10 rfl rfl rfl ?_
    refine x_if_eq (t := 23) 12 dX25_balance_11 rfl rfl (b_itqv ok k (fun hc ok k => ?_) (fun hc ok k => ?_))
    · refine x_ldc2 759 (x := (-1)) dX25_balance_23 q3826 rfl (by decide) rfl ?_
      exact y_lret dX25_balance_26 rfl k
    · refine x_aload_n 0 dX25_balance_14 rfl rfl rfl rfl rfl ?_
      refine y_getF 942 70 (c := 23) (z := 234) dX25_balance_15 i143 rfl in_X25 q4305 rfl rfl rfl fn_143_70 (Nat.le_trans (Nat.le_of_ble_eq_true rfl) hn) rfl ?_
      refine x_iload_n 2 dX25_balance_18 rfl rfl rfl ?_
      obtain ⟨e5, ok⟩ := ok
      refine y_lald (z := (gX25_isContract w a2) 234 a2) dX25_balance_19 ⟨100, i234, e5⟩ rfl rfl ?_
      refine x_goto 6 (q := 26) dX25_balance_20 rfl ?_
      exact y_lret dX25_balance_26 rfl k
def fX28_hex (w : bW) (a0 : Int) : Int := (if fX28_isDigit w a0 = 0 then (if a0 < 97 then (if a0 < 65 then (-1) else (if 70 < a0 then (-1) else b_i ((b_i (a0 - 65)) + 10))) else (if 102 < a0 then (if a0 < 65 then (-1) else (if 70 < a0 then (-1) else b_i ((b_i (a0 - 65)) + 10))) else b_i ((b_i (a0 - 97)) + 10))) else b_i (a0 - 48))
theorem vX28_hex {d n : Nat} {w : bW} {Q : Int → bW → Prop} {X : String → bW → Prop} (a0 : Int) (k : Q (fX28_hex w a0) w) : b_K (d + 2) mX28_hex [(0, a0)] n w Q X := by
  unfold fX28_hex at k
  refine k_of (by decide) rfl rfl rfl (ls := [(0, a0)]) rfl ?_
  refine x_iload_n 0 dX28_hex_0 rfl rfl rfl ?_
  refine y_Si 61 (M := mX28_isDigit) (As := [(0, a0)]) (st := []) dX28_hex_1 q3183 q3184 q395 q3185 hmX28_isDigit rfl rfl rfl rfl rfl rfl rfl rfl (vX28_isDigit a0 ?_)
  refine x_if_eq (t := 14) 10 dX28_hex_4 rfl rfl (b_itqv (b_tt _) k (fun hc ok k => ?_) (fun hc ok k => ?_))
  · refine x_iload_n 0 dX28_hex_14 rfl rfl rfl ?_
    refine x_bipush 97 (z := 97) dX28_hex_15 rfl (by decide) rfl ?_
    refine x_icmp_lt (t := 36) 19 dX28_hex_17 rfl rfl (b_itqv (b_tt _) k (fun hc ok k => ?_) (fun hc ok k => ?_))
    · refine x_iload_n 0 dX28_hex_36 rfl rfl rfl ?_
      refine x_bipush 65 (z := 65) dX28_hex_37 rfl (by decide) rfl ?_
      refine x_icmp_lt (t := 58) 19 dX28_hex_39 rfl rfl (b_itqv (b_tt _) k (fun hc ok k => ?_) (fun hc ok k => ?_))
      · refine x_iconst (-1) (z := (-1)) dX28_hex_58 rfl (by decide) rfl ?_
        exact y_iret dX28_hex_59 rfl k
      · refine x_iload_n 0 dX28_hex_42 rfl rfl rfl ?_
        refine x_bipush 70 (z := 70) dX28_hex_43 rfl (by decide) rfl ?_
        refine x_icmp_gt (t := 58) 13 dX28_hex_45 rfl rfl (b_itqv (b_tt _) k (fun hc ok k => ?_) (fun hc ok k => ?_))
        · refine x_iconst (-1) (z := (-1)) dX28_hex_58 rfl (by decide) rfl ?_
          exact y_iret dX28_hex_59 rfl k
        · refine x_iload_n 0 dX28_hex_48 rfl rfl rfl ?_
          refine x_bipush 65 (z := 65) dX28_hex_49 rfl (by decide) rfl ?_
          refine x_isub dX28_hex_51 rfl ?_
          refine x_bipush 10 (z := 10) dX28_hex_52 rfl (by decide) rfl ?_
          refine x_iadd dX28_hex_54 rfl ?_
          refine x_goto 4 (q := 59) dX28_hex_55 rfl ?_
          exact y_iret dX28_hex_59 rfl k
    · refine x_iload_n 0 dX28_hex_20 rfl rfl rfl ?_
      refine x_bipush 102 (z := 102) dX28_hex_21 rfl (by decide) rfl ?_
      refine x_icmp_gt (t := 36) 13 dX28_hex_23 rfl rfl (b_itqv (b_tt _) k (fun hc ok k => ?_) (fun hc ok k => ?_))
      · refine x_iload_n 0 dX28_hex_36 rfl rfl rfl ?_
        refine x_bipush 65 (z := 65) dX28_hex_37 rfl (by decide) rfl ?_
        refine x_icmp_lt (t := 58) 19 dX28_hex_39 rfl rfl (b_itqv (b_tt _) k (fun hc ok k => ?_) (fun hc ok k => ?_))
        · refine x_iconst (-1) (z := (-1)) dX28_hex_58 rfl (by decide) rfl ?_
          exact y_iret dX28_hex_59 rfl k
        · refine x_iload_n 0 dX28_hex_42 rfl rfl rfl ?_
          refine x_bipush 70 (z := 70) dX28_hex_43 rfl (by decide) rfl ?_
          refine x_icmp_gt (t := 58) 13 dX28_hex_45 rfl rfl (b_itqv (b_tt _) k (fun hc ok k => ?_) (fun hc ok k => ?_))
          · refine x_iconst (-1) (z := (-1)) dX28_hex_58 rfl (by decide) rfl ?_
            exact y_iret dX28_hex_59 rfl k
          · refine x_iload_n 0 dX28_hex_48 rfl rfl rfl ?_
            refine x_bipush 65 (z := 65) dX28_hex_49 rfl (by decide) rfl ?_
            refine x_isub dX28_hex_51 rfl ?_
            refine x_bipush 10 (z := 10) dX28_hex_52 rfl (by decide) rfl ?_
            refine x_iadd dX28_hex_54 rfl ?_
            refine x_goto 4 (q := 59) dX28_hex_55 rfl ?_
            exact y_iret dX28_hex_59 rfl k
      · refine x_iload_n 0 dX28_hex_26 rfl rfl rfl ?_
        refine x_bipush 97 (z := 97) dX28_hex_27 rfl (by decide) rfl ?_
        refine x_isub dX28_hex_29 rfl ?_
        refine x_bipush 10 (z := 10) dX28_hex_30 rfl (by decide) rfl ?_
        refine x_iadd dX28_hex_32 rfl ?_
        refine x_goto 26 (q := 59) dX28_hex_33 rfl ?_
        exact y_iret dX28_hex_59 rfl k
  · refine x_iload_n 0 dX28_hex_7 rfl rfl rfl ?_
    refine x_bipush 48 (z := 48) dX28_hex_8 rfl (by decide) rfl ?_
    refine x_isub dX28_hex_10 rfl ?_
    refine x_goto 48 (q := 59) dX28_hex_11 rfl ?_
    exact y_iret dX28_hex_59 rfl k
def fX30_hex (w : bW) (a0 : Int) : Int := (if fX30_isDigit w a0 = 0 then (if a0 < 97 then (if a0 < 65 then (-1) else (if 70 < a0 then (-1) else b_i ((b_i (a0 - 65)) + 10))) else (if 102 < a0 then (if a0 < 65 then (-1) else (if 70 < a0 then (-1) else b_i ((b_i (a0 - 65)) + 10))) else b_i ((b_i (a0 - 97)) + 10))) else b_i (a0 - 48))
theorem vX30_hex {d n : Nat} {w : bW} {Q : Int → bW → Prop} {X : String → bW → Prop} (a0 : Int) (k : Q (fX30_hex w a0) w) : b_K (d + 2) mX30_hex [(0, a0)] n w Q X := by
  unfold fX30_hex at k
  refine k_of (by decide) rfl rfl rfl (ls := [(0, a0)]) rfl ?_
  refine x_iload_n 0 dX30_hex_0 rfl rfl rfl ?_
  refine y_Si 15 (M := mX30_isDigit) (As := [(0, a0)]) (st := []) dX30_hex_1 q1705 q1706 q398 q1707 hmX30_isDigit rfl rfl rfl rfl rfl rfl rfl rfl (vX30_isDigit a0 ?_)
  refine x_if_eq (t := 14) 10 dX30_hex_4 rfl rfl (b_itqv (b_tt _) k (fun hc ok k => ?_) (fun hc ok k => ?_))
  · refine x_iload_n 0 dX30_hex_14 rfl rfl rfl ?_
    refine x_bipush 97 (z := 97) dX30_hex_15 rfl (by decide) rfl ?_
    refine x_icmp_lt (t := 36) 19 dX30_hex_17 rfl rfl (b_itqv (b_tt _) k (fun hc ok k => ?_) (fun hc ok k => ?_))
    · refine x_iload_n 0 dX30_hex_36 rfl rfl rfl ?_
      refine x_bipush 65 (z := 65) dX30_hex_37 rfl (by decide) rfl ?_
      refine x_icmp_lt (t := 58) 19 dX30_hex_39 rfl rfl (b_itqv (b_tt _) k (fun hc ok k => ?_) (fun hc ok k => ?_))
      · refine x_iconst (-1) (z := (-1)) dX30_hex_58 rfl (by decide) rfl ?_
        exact y_iret dX30_hex_59 rfl k
      · refine x_iload_n 0 dX30_hex_42 rfl rfl rfl ?_
        refine x_bipush 70 (z := 70) dX30_hex_43 rfl (by decide) rfl ?_
        refine x_icmp_gt (t := 58) 13 dX30_hex_45 rfl rfl (b_itqv (b_tt _) k (fun hc ok k => ?_) (fun hc ok k => ?_))
        · refine x_iconst (-1) (z := (-1)) dX30_hex_58 rfl (by decide) rfl ?_
          exact y_iret dX30_hex_59 rfl k
        · refine x_iload_n 0 dX30_hex_48 rfl rfl rfl ?_
          refine x_bipush 65 (z := 65) dX30_hex_49 rfl (by decide) rfl ?_
          refine x_isub dX30_hex_51 rfl ?_
          refine x_bipush 10 (z := 10) dX30_hex_52 rfl (by decide) rfl ?_
          refine x_iadd dX30_hex_54 rfl ?_
          refine x_goto 4 (q := 59) dX30_hex_55 rfl ?_
          exact y_iret dX30_hex_59 rfl k
    · refine x_iload_n 0 dX30_hex_20 rfl rfl rfl ?_
      refine x_bipush 102 (z := 102) dX30_hex_21 rfl (by decide) rfl ?_
      refine x_icmp_gt (t := 36) 13 dX30_hex_23 rfl rfl (b_itqv (b_tt _) k (fun hc ok k => ?_) (fun hc ok k => ?_))
      · refine x_iload_n 0 dX30_hex_36 rfl rfl rfl ?_
        refine x_bipush 65 (z := 65) dX30_hex_37 rfl (by decide) rfl ?_
        refine x_icmp_lt (t := 58) 19 dX30_hex_39 rfl rfl (b_itqv (b_tt _) k (fun hc ok k => ?_) (fun hc ok k => ?_))
        · refine x_iconst (-1) (z := (-1)) dX30_hex_58 rfl (by decide) rfl ?_
          exact y_iret dX30_hex_59 rfl k
        · refine x_iload_n 0 dX30_hex_42 rfl rfl rfl ?_
          refine x_bipush 70 (z := 70) dX30_hex_43 rfl (by decide) rfl ?_
          refine x_icmp_gt (t := 58) 13 dX30_hex_45 rfl rfl (b_itqv (b_tt _) k (fun hc ok k => ?_) (fun hc ok k => ?_))
          · refine x_iconst (-1) (z := (-1)) dX30_hex_58 rfl (by decide) rfl ?_
            exact y_iret dX30_hex_59 rfl k
          · refine x_iload_n 0 dX30_hex_48 rfl rfl rfl ?_
            refine x_bipush 65 (z := 65) dX30_hex_49 rfl (by decide) rfl ?_
            refine x_isub dX30_hex_51 rfl ?_
            refine x_bipush 10 (z := 10) dX30_hex_52 rfl (by decide) rfl ?_
            refine x_iadd dX30_hex_54 rfl ?_
            refine x_goto 4 (q := 59) dX30_hex_55 rfl ?_
            exact y_iret dX30_hex_59 rfl k
      · refine x_iload_n 0 dX30_hex_26 rfl rfl rfl ?_
        refine x_bipush 97 (z := 97) dX30_hex_27 rfl (by decide) rfl ?_
        refine x_isub dX30_hex_29 rfl ?_
        refine x_bipush 10 (z := 10) dX30_hex_30 rfl (by decide) rfl ?_
        refine x_iadd dX30_hex_32 rfl ?_
        refine x_goto 26 (q := 59) dX30_hex_33 rfl ?_
        exact y_iret dX30_hex_59 rfl k
  · refine x_iload_n 0 dX30_hex_7 rfl rfl rfl ?_
    refine x_bipush 48 (z := 48) dX30_hex_8 rfl (by decide) rfl ?_
    refine x_isub dX30_hex_10 rfl ?_
    refine x_goto 48 (q := 59) dX30_hex_11 rfl ?_
    exact y_iret dX30_hex_59 rfl k
def fX4_isBare (w : bW) (a1 : Int) (a2 : Int) (a3 : Int) : Int := (if fX4_is w a1 a2 a3 = 0 then 0 else (if w 14 a1 ≠ 0 then 0 else 1))
def oX4_isBare (n : Nat) (w : bW) (a1 : Int) (a2 : Int) (a3 : Int) : Prop := (oX4_is n w a1 a2 a3) ∧ (if fX4_is w a1 a2 a3 = 0 then True else ((0 ≤ a1 ∧ a1 < 4096) ∧ (True)))
theorem vX4_isBare {d n : Nat} {w : bW} {Q : Int → bW → Prop} {X : String → bW → Prop} (hn : 143 ≤ n) (a1 : Int) (a2 : Int) (a3 : Int) (ok : oX4_isBare n w a1 a2 a3) (k : Q (fX4_isBare w a1 a2 a3) w) : b_K (d + 2) mX4_isBare [(2, 6), (0, a1), (0, a2), (0, a3)] n w Q X := by
  have i6 := iz6 (Nat.le_trans (Nat.le_of_ble_eq_true rfl) hn)
  have i14 := iz14 (Nat.le_trans (Nat.le_of_ble_eq_true rfl) hn)
  unfold fX4_isBare at k
  unfold oX4_isBare at ok
  refine k_of (by decide) rfl rfl rfl (ls := [(2, 6), (0, a1), (0, a2), (0, a3)]) rfl ?_
  refine x_aload_n 0 dX4_isBare_0 rfl rfl rfl rfl rfl ?_
  refine x_iload_n 1 dX4_isBare_1 rfl rfl rfl ?_
  refine x_iload_n 2 dX4_isBare_2 rfl rfl rfl ?_
  refine x_iload_n 3 dX4_isBare_3 rfl rfl rfl ?_
  obtain ⟨e3, ok⟩ := ok
  refine y_Vi 152 (M := mX4_is) (As := [(0, a1), (0, a2), (0, a3)]) (st := []) dX4_isBare_4 i6 rfl q1841 q1842 q1843 q371 q1844 rfl hmX4_is rfl rfl rfl rfl rfl rfl rfl rfl (vX4_is (Nat.le_trans (Nat.le_of_ble_eq_true rfl) hn) a1 a2 a3 e3 ?_)
  refine x_if_eq (t := 23) 16 dX4_isBare_7 rfl rfl (b_itqv ok k (fun hc ok k => ?_) (fun hc ok k => ?_))
  · refine x_iconst 0 (z := 0) dX4_isBare_23 rfl (by decide) rfl ?_
    exact y_zret dX4_isBare_24 rfl (by decide) k
  · refine x_aload_n 0 dX4_isBare_10 rfl rfl rfl rfl rfl ?_
    refine y_getF 41 7 (c := 3) (z := 14) dX4_isBare_11 i6 rfl in_X4 q667 rfl rfl rfl fn_6_7 (Nat.le_trans (Nat.le_of_ble_eq_true rfl) hn) rfl ?_
    refine x_iload_n 1 dX4_isBare_14 rfl rfl rfl ?_
    obtain ⟨e4, ok⟩ := ok
    refine y_iald (z := w 14 a1) dX4_isBare_15 ⟨4096, i14, e4⟩ rfl rfl ?_
    refine x_if_ne (t := 23) 7 dX4_isBare_16 rfl rfl (b_itqv (b_tt _) k (fun hc ok k => ?_) (fun hc ok k => ?_))
    · refine x_iconst 0 (z := 0) dX4_isBare_23 rfl (by decide) rfl ?_
      exact y_zret dX4_isBare_24 rfl (by decide) k
    · refine x_iconst 1 (z := 1) dX4_isBare_19 rfl (by decide) rfl ?_
      refine x_goto 4 (q := 24) dX4_isBare_20 rfl ?_
      exact y_zret dX4_isBare_24 rfl (by decide) k
def fX7_marksOf (w : bW) (a1 : Int) (a2 : Int) (a3 : Int) : Int := (if 0 ≤ a2 then (if a1 = 13 then 0 else (if a1 ≠ 17 then (if a1 ≠ 16 then (if fX7_both w a2 a3 2 = 0 then (if a1 ≠ 18 then (if a1 = 10 then (if fX7_both w a2 a3 1 = 0 then 0 else b_or 0 1) else (if a1 = 14 then (if fX7_both w a2 a3 1 = 0 then 0 else b_or 0 1) else (if a1 ≠ 18 then 0 else (if fX7_both w a2 a3 1 = 0 then 0 else b_or 0 1)))) else (if fX7_both w a2 a3 4 = 0 then (if a1 = 10 then (if fX7_both w a2 a3 1 = 0 then 0 else b_or 0 1) else (if a1 = 14 then (if fX7_both w a2 a3 1 = 0 then 0 else b_or 0 1) else (if a1 ≠ 18 then 0 else (if fX7_both w a2 a3 1 = 0 then 0 else b_or 0 1)))) else (if a1 = 10 then (if fX7_both w a2 a3 1 = 0 then 4 else b_or 4 1) else (if a1 = 14 then (if fX7_both w a2 a3 1 = 0 then 4 else b_or 4 1) else (if a1 ≠ 18 then 4 else (if fX7_both w a2 a3 1 = 0 then 4 else b_or 4 1)))))) else (if a1 = 10 then (if fX7_both w a2 a3 1 = 0 then 6 else b_or 6 1) else (if a1 = 14 then (if fX7_both w a2 a3 1 = 0 then 6 else b_or 6 1) else (if a1 ≠ 18 then 6 else (if fX7_both w a2 a3 1 = 0 then 6 else b_or 6 1))))) else (if fX7_is w a3 2 = 0 then 0 else 4)) else 0)) else (if a1 ≠ 9 then 7 else 0))
def oX7_marksOf (n : Nat) (w : bW) (a1 : Int) (a2 : Int) (a3 : Int) : Prop := if 0 ≤ a2 then (if a1 = 13 then True else (if a1 ≠ 17 then (if a1 ≠ 16 then ((oX7_both n w a2 a3 2) ∧ (if fX7_both w a2 a3 2 = 0 then (if a1 ≠ 18 then (if a1 = 10 then ((oX7_both n w a2 a3 1) ∧ (True)) else (if a1 = 14 then ((oX7_both n w a2 a3 1) ∧ (True)) else (if a1 ≠ 18 then True else ((oX7_both n w a2 a3 1) ∧ (True))))) else ((oX7_both n w a2 a3 4) ∧ (if fX7_both w a2 a3 4 = 0 then (if a1 = 10 then ((oX7_both n w a2 a3 1) ∧ (True)) else (if a1 = 14 then ((oX7_both n w a2 a3 1) ∧ (True)) else (if a1 ≠ 18 then True else ((oX7_both n w a2 a3 1) ∧ (True))))) else (if a1 = 10 then ((oX7_both n w a2 a3 1) ∧ (True)) else (if a1 = 14 then ((oX7_both n w a2 a3 1) ∧ (True)) else (if a1 ≠ 18 then True else ((oX7_both n w a2 a3 1) ∧ (True)))))))) else (if a1 = 10 then ((oX7_both n w a2 a3 1) ∧ (True)) else (if a1 = 14 then ((oX7_both n w a2 a3 1) ∧ (True)) else (if a1 ≠ 18 then True else ((oX7_both n w a2 a3 1) ∧ (True))))))) else ((oX7_is n w a3 2) ∧ (True))) else True)) else True
theorem vX7_marksOf {d n : Nat} {w : bW} {Q : Int → bW → Prop} {X : String → bW → Prop} (hn : 25 ≤ n) (a1 : Int) (a2 : Int) (a3 : Int) (ok : oX7_marksOf n w a1 a2 a3) (k : Q (fX7_marksOf w a1 a2 a3) w) : b_K (d + 3) mX7_marksOf [(2, 19), (0, a1), (0, a2), (0, a3)] n w Q X := by
  have i19 := iz19 (Nat.le_trans (Nat.le_of_ble_eq_true rfl) hn)
  unfold fX7_marksOf at k
  unfold oX7_marksOf at ok
  refine k_of (by decide) rfl rfl rfl (ls := [(2, 19), (0, a1), (0, a2), (0, a3), (9, 0), (9, 0)]) rfl ?_
  refine x_iload_n 2 dX7_marksOf_0 rfl rfl rfl ?_
  refine x_if_ge (t := 17) 16 dX7_marksOf_1 rfl rfl (b_itqv ok k (fun hc ok k => ?_) (fun hc ok k => ?_))
  · refine x_iload_n 1 dX7_marksOf_17 rfl rfl rfl ?_
    refine x_bipush 13 (z := 13) dX7_marksOf_18 rfl (by decide) rfl ?_
    refine x_icmp_eq (t := 29) 9 dX7_marksOf_20 rfl rfl (b_itqv ok k (fun hc ok k => ?_) (fun hc ok k => ?_))
    · refine x_iconst 0 (z := 0) dX7_marksOf_29 rfl (by decide) rfl ?_
      exact y_iret dX7_marksOf_30 rfl k
    · refine x_iload_n 1 dX7_marksOf_23 rfl rfl rfl ?_
      refine x_bipush 17 (z := 17) dX7_marksOf_24 rfl (by decide) rfl ?_
      refine x_icmp_ne (t := 31) 5 dX7_marksOf_26 rfl rfl (b_itqv ok k (fun hc ok k => ?_) (fun hc ok k => ?_))
      · refine x_iload_n 1 dX7_marksOf_31 rfl rfl rfl ?_
        refine x_bipush 16 (z := 16) dX7_marksOf_32 rfl (by decide) rfl ?_
        refine x_icmp_ne (t := 52) 18 dX7_marksOf_34 rfl rfl (b_itqv ok k (fun hc ok k => ?_) (fun hc ok k => ?_))
        · refine x_aload_n 0 dX7_marksOf_52 rfl rfl rfl rfl rfl ?_
          refine x_iload_n 2 dX7_marksOf_53 rfl rfl rfl ?_
          refine x_iload_n 3 dX7_marksOf_54 rfl rfl rfl ?_
          refine x_iconst 2 (z := 2) dX7_marksOf_55 rfl (by decide) rfl ?_
          obtain ⟨e3, ok⟩ := ok
          refine y_Vi 54 (M := mX7_both) (As := [(0, a2), (0, a3), (0, 2)]) (st := []) dX7_marksOf_56 i19 rfl q747 q749 qs3 q374 q750 rfl hmX7_both rfl rfl rfl rfl rfl rfl rfl rfl (vX7_both (Nat.le_trans (Nat.le_of_ble_eq_true rfl) hn) a2 a3 2 e3 ?_)
          refine x_if_eq (t := 67) 8 dX7_marksOf_59 rfl rfl (b_itqv ok k (fun hc ok k => ?_) (fun hc ok k => ?_))
          · refine x_iload_n 1 dX7_marksOf_67 rfl rfl rfl ?_
            refine x_bipush 18 (z := 18) dX7_marksOf_68 rfl (by decide) rfl ?_
            refine x_icmp_ne (t := 87) 17 dX7_marksOf_70 rfl rfl (b_itqv ok k (fun hc ok k => ?_) (fun hc ok k => ?_))
            · refine x_iconst 0 (z := 0) dX7_marksOf_87 rfl (by decide) rfl ?_
              refine x_istore 4 (ls' := [(2, 19), (0, a1), (0, a2), (0, a3), (0, 0), (9, 0)]) dX7_marksOf_88 rfl rfl rfl ?_
              refine x_iload_n 1 dX7_marksOf_90 rfl rfl rfl ?_
              refine x_bipush 10 (z := 10) dX7_marksOf_91 rfl (by decide) rfl ?_
              refine x_icmp_eq (t := 108) 15 dX7_marksOf_93 rfl rfl (b_itqv ok k (fun hc ok k => ?_) (fun hc ok k => ?_))
              · refine x_iconst 1 (z := 1) dX7_marksOf_108 rfl (by decide) rfl ?_
                refine x_goto 4 (q := 113) dX7_marksOf_109 rfl ?_
                refine x_istore 5 (ls' := [(2, 19), (0, a1), (0, a2), (0, a3), (0, 0), (0, 1)]) dX7_marksOf_113 rfl rfl rfl ?_
                refine x_iload 5 dX7_marksOf_115 rfl rfl ?_
                refine x_if_eq (t := 137) 20 dX7_marksOf_117 rfl rfl (b_ifF (by decide) ?_)
                refine x_aload_n 0 dX7_marksOf_120 rfl rfl rfl rfl rfl ?_
                refine x_iload_n 2 dX7_marksOf_121 rfl rfl rfl ?_
                refine x_iload_n 3 dX7_marksOf_122 rfl rfl rfl ?_
                refine x_iconst 1 (z := 1) dX7_marksOf_123 rfl (by decide) rfl ?_
                obtain ⟨e6, ok⟩ := ok
                refine y_Vi 54 (M := mX7_both) (As := [(0, a2), (0, a3), (0, 1)]) (st := []) dX7_marksOf_124 i19 rfl q747 q749 qs3 q374 q750 rfl hmX7_both rfl rfl rfl rfl rfl rfl rfl rfl (vX7_both (Nat.le_trans (Nat.le_of_ble_eq_true rfl) hn) a2 a3 1 e6 ?_)
                refine x_if_eq (t := 137) 10 dX7_marksOf_127 rfl rfl (b_itqv (b_tt _) k (fun hc ok k => ?_) (fun hc ok k => ?_))
                · refine x_iload 4 dX7_marksOf_137 rfl rfl ?_
                  exact y_iret dX7_marksOf_139 rfl k
                · refine x_iload 4 dX7_marksOf_130 rfl rfl ?_
                  refine x_iconst 1 (z := 1) dX7_marksOf_132 rfl (by decide) rfl ?_
                  refine x_ior dX7_marksOf_133 rfl ?_
                  refine x_goto 5 (q := 139) dX7_marksOf_134 rfl ?_
                  exact y_iret dX7_marksOf_139 rfl k
              · refine x_iload_n 1 dX7_marksOf_96 rfl rfl rfl ?_
                refine x_bipush 14 (z := 14) dX7_marksOf_97 rfl (by decide) rfl ?_
                refine x_icmp_eq (t := 108) 9 dX7_marksOf_99 rfl rfl (b_itqv ok k (fun hc ok k => ?_) (fun hc ok k => ?_))
                · refine x_iconst 1 (z := 1) dX7_marksOf_108 rfl (by decide) rfl ?_
                  refine x_goto 4 (q := 113) dX7_marksOf_109 rfl ?_
                  refine x_istore 5 (ls' := [(2, 19), (0, a1), (0, a2), (0, a3), (0, 0), (0, 1)]) dX7_marksOf_113 rfl rfl rfl ?_
                  refine x_iload 5 dX7_marksOf_115 rfl rfl ?_
                  refine x_if_eq (t := 137) 20 dX7_marksOf_117 rfl rfl (b_ifF (by decide) ?_)
                  refine x_aload_n 0 dX7_marksOf_120 rfl rfl rfl rfl rfl ?_
                  refine x_iload_n 2 dX7_marksOf_121 rfl rfl rfl ?_
                  refine x_iload_n 3 dX7_marksOf_122 rfl rfl rfl ?_
                  refine x_iconst 1 (z := 1) dX7_marksOf_123 rfl (by decide) rfl ?_
                  obtain ⟨e9, ok⟩ := ok
                  refine y_Vi 54 (M := mX7_both) (As := [(0, a2), (0, a3), (0, 1)]) (st := []) dX7_marksOf_124 i19 rfl q747 q749 qs3 q374 q750 rfl hmX7_both rfl rfl rfl rfl rfl rfl rfl rfl (vX7_both (Nat.le_trans (Nat.le_of_ble_eq_true rfl) hn) a2 a3 1 e9 ?_)
                  refine x_if_eq (t := 137) 10 dX7_marksOf_127 rfl rfl (b_itqv (b_tt _) k (fun hc ok k => ?_) (fun hc ok k => ?_))
                  · refine x_iload 4 dX7_marksOf_137 rfl rfl ?_
                    exact y_iret dX7_marksOf_139 rfl k
                  · refine x_iload 4 dX7_marksOf_130 rfl rfl ?_
                    refine x_iconst 1 (z := 1) dX7_marksOf_132 rfl (by decide) rfl ?_
                    refine x_ior dX7_marksOf_133 rfl ?_
                    refine x_goto 5 (q := 139) dX7_marksOf_134 rfl ?_
                    exact y_iret dX7_marksOf_139 rfl k
                · refine x_iload_n 1 dX7_marksOf_102 rfl rfl rfl ?_
                  refine x_bipush 18 (z := 18) dX7_marksOf_103 rfl (by decide) rfl ?_
                  refine x_icmp_ne (t := 112) 7 dX7_marksOf_105 rfl rfl (b_itqv ok k (fun hc ok k => ?_) (fun hc ok k => ?_))
                  · refine x_iconst 0 (z := 0) dX7_marksOf_112 rfl (by decide) rfl ?_
                    refine x_istore 5 (ls' := [(2, 19), (0, a1), (0, a2), (0, a3), (0, 0), (0, 0)]) dX7_marksOf_113 rfl rfl rfl ?_
                    refine x_iload 5 dX7_marksOf_115 rfl rfl ?_
                    refine x_if_eq (t := 137) 20 dX7_marksOf_117 rfl rfl (b_ifT (by decide) ?_)
                    refine x_iload 4 dX7_marksOf_137 rfl rfl ?_
                    exact y_iret dX7_marksOf_139 rfl k
                  · refine x_iconst 1 (z := 1) dX7_marksOf_108 rfl (by decide) rfl ?_
                    refine x_goto 4 (q := 113) dX7_marksOf_109 rfl ?_
                    refine x_istore 5 (ls' := [(2, 19), (0, a1), (0, a2), (0, a3), (0, 0), (0, 1)]) dX7_marksOf_113 rfl rfl rfl ?_
                    refine x_iload 5 dX7_marksOf_115 rfl rfl ?_
                    refine x_if_eq (t := 137) 20 dX7_marksOf_117 rfl rfl (b_ifF (by decide) ?_)
                    refine x_aload_n 0 dX7_marksOf_120 rfl rfl rfl rfl rfl ?_
                    refine x_iload_n 2 dX7_marksOf_121 rfl rfl rfl ?_
                    refine x_iload_n 3 dX7_marksOf_122 rfl rfl rfl ?_
                    refine x_iconst 1 (z := 1) dX7_marksOf_123 rfl (by decide) rfl ?_
                    obtain ⟨e12, ok⟩ := ok
                    refine y_Vi 54 (M := mX7_both) (As := [(0, a2), (0, a3), (0, 1)]) (st := []) dX7_marksOf_124 i19 rfl q747 q749 qs3 q374 q750 rfl hmX7_both rfl rfl rfl rfl rfl rfl rfl rfl (vX7_both (Nat.le_trans (Nat.le_of_ble_eq_true rfl) hn) a2 a3 1 e12 ?_)
                    refine x_if_eq (t := 137) 10 dX7_marksOf_127 rfl rfl (b_itqv (b_tt _) k (fun hc ok k => ?_) (fun hc ok k => ?_))
                    · refine x_iload 4 dX7_marksOf_137 rfl rfl ?_
                      exact y_iret dX7_marksOf_139 rfl k
                    · refine x_iload 4 dX7_marksOf_130 rfl rfl ?_
                      refine x_iconst 1 (z := 1) dX7_marksOf_132 rfl (by decide) rfl ?_
                      refine x_ior dX7_marksOf_133 rfl ?_
                      refine x_goto 5 (q := 139) dX7_marksOf_134 rfl ?_
                      exact y_iret dX7_marksOf_139 rfl k
            · refine x_aload_n 0 dX7_marksOf_73 rfl rfl rfl rfl rfl ?_
              refine x_iload_n 2 dX7_marksOf_74 rfl rfl rfl ?_
              refine x_iload_n 3 dX7_marksOf_75 rfl rfl rfl ?_
              refine x_iconst 4 (z := 4) dX7_marksOf_76 rfl (by decide) rfl ?_
              obtain ⟨e15, ok⟩ := ok
              refine y_Vi 54 (M := mX7_both) (As := [(0, a2), (0, a3), (0, 4)]) (st := []) dX7_marksOf_77 i19 rfl q747 q749 qs3 q374 q750 rfl hmX7_both rfl rfl rfl rfl rfl rfl rfl rfl (vX7_both (Nat.le_trans (Nat.le_of_ble_eq_true rfl) hn) a2 a3 4 e15 ?_)
              refine x_if_eq (t := 87) 7 dX7_marksOf_80 rfl rfl (b_itqv ok k (fun hc ok k => ?_) (fun hc ok k => ?_))
              · refine x_iconst 0 (z := 0) dX7_marksOf_87 rfl (by decide) rfl ?_
                refine x_istore 4 (ls' := [(2, 19), (0, a1), (0, a2), (0, a3), (0, 0), (9, 0)]) dX7_marksOf_88 rfl rfl rfl ?_
                refine x_iload_n 1 dX7_marksOf_90 rfl rfl rfl ?_
                refine x_bipush 10 (z := 10) dX7_marksOf_91 rfl (by decide) rfl ?_
                refine x_icmp_eq (t := 108) 15 dX7_marksOf_93 rfl rfl (b_itqv ok k (fun hc ok k => ?_) (fun hc ok k => ?_))
                · refine x_iconst 1 (z := 1) dX7_marksOf_108 rfl (by decide) rfl ?_
                  refine x_goto 4 (q := 113) dX7_marksOf_109 rfl ?_
                  refine x_istore 5 (ls' := [(2, 19), (0, a1), (0, a2), (0, a3), (0, 0), (0, 1)]) dX7_marksOf_113 rfl rfl rfl ?_
                  refine x_iload 5 dX7_marksOf_115 rfl rfl ?_
                  refine x_if_eq (t := 137) 20 dX7_marksOf_117 rfl rfl (b_ifF (by decide) ?_)
                  refine x_aload_n 0 dX7_marksOf_120 rfl rfl rfl rfl rfl ?_
                  refine x_iload_n 2 dX7_marksOf_121 rfl rfl rfl ?_
                  refine x_iload_n 3 dX7_marksOf_122 rfl rfl rfl ?_
                  refine x_iconst 1 (z := 1) dX7_marksOf_123 rfl (by decide) rfl ?_
                  obtain ⟨e18, ok⟩ := ok
                  refine y_Vi 54 (M := mX7_both) (As := [(0, a2), (0, a3), (0, 1)]) (st := []) dX7_marksOf_124 i19 rfl q747 q749 qs3 q374 q750 rfl hmX7_both rfl rfl rfl rfl rfl rfl rfl rfl (vX7_both (Nat.le_trans (Nat.le_of_ble_eq_true rfl) hn) a2 a3 1 e18 ?_)
                  refine x_if_eq (t := 137) 10 dX7_marksOf_127 rfl rfl (b_itqv (b_tt _) k (fun hc ok k => ?_) (fun hc ok k => ?_))
                  · refine x_iload 4 dX7_marksOf_137 rfl rfl ?_
                    exact y_iret dX7_marksOf_139 rfl k
                  · refine x_iload 4 dX7_marksOf_130 rfl rfl ?_
                    refine x_iconst 1 (z := 1) dX7_marksOf_132 rfl (by decide) rfl ?_
                    refine x_ior dX7_marksOf_133 rfl ?_
                    refine x_goto 5 (q := 139) dX7_marksOf_134 rfl ?_
                    exact y_iret dX7_marksOf_139 rfl k
                · refine x_iload_n 1 dX7_marksOf_96 rfl rfl rfl ?_
                  refine x_bipush 14 (z := 14) dX7_marksOf_97 rfl (by decide) rfl ?_
                  refine x_icmp_eq (t := 108) 9 dX7_marksOf_99 rfl rfl (b_itqv ok k (fun hc ok k => ?_) (fun hc ok k => ?_))
                  · refine x_iconst 1 (z := 1) dX7_marksOf_108 rfl (by decide) rfl ?_
                    refine x_goto 4 (q := 113) dX7_marksOf_109 rfl ?_
                    refine x_istore 5 (ls' := [(2, 19), (0, a1), (0, a2), (0, a3), (0, 0), (0, 1)]) dX7_marksOf_113 rfl rfl rfl ?_
                    refine x_iload 5 dX7_marksOf_115 rfl rfl ?_
                    refine x_if_eq (t := 137) 20 dX7_marksOf_117 rfl rfl (b_ifF (by decide) ?_)
                    refine x_aload_n 0 dX7_marksOf_120 rfl rfl rfl rfl rfl ?_
                    refine x_iload_n 2 dX7_marksOf_121 rfl rfl rfl ?_
                    refine x_iload_n 3 dX7_marksOf_122 rfl rfl rfl ?_
                    refine x_iconst 1 (z := 1) dX7_marksOf_123 rfl (by decide) rfl ?_
                    obtain ⟨e21, ok⟩ := ok
                    refine y_Vi 54 (M := mX7_both) (As := [(0, a2), (0, a3), (0, 1)]) (st := []) dX7_marksOf_124 i19 rfl q747 q749 qs3 q374 q750 rfl hmX7_both rfl rfl rfl rfl rfl rfl rfl rfl (vX7_both (Nat.le_trans (Nat.le_of_ble_eq_true rfl) hn) a2 a3 1 e21 ?_)
                    refine x_if_eq (t := 137) 10 dX7_marksOf_127 rfl rfl (b_itqv (b_tt _) k (fun hc ok k => ?_) (fun hc ok k => ?_))
                    · refine x_iload 4 dX7_marksOf_137 rfl rfl ?_
                      exact y_iret dX7_marksOf_139 rfl k
                    · refine x_iload 4 dX7_marksOf_130 rfl rfl ?_
                      refine x_iconst 1 (z := 1) dX7_marksOf_132 rfl (by decide) rfl ?_
                      refine x_ior dX7_marksOf_133 rfl ?_
                      refine x_goto 5 (q := 139) dX7_marksOf_134 rfl ?_
                      exact y_iret dX7_marksOf_139 rfl k
                  · refine x_iload_n 1 dX7_marksOf_102 rfl rfl rfl ?_
                    refine x_bipush 18 (z := 18) dX7_marksOf_103 rfl (by decide) rfl ?_
                    refine x_icmp_ne (t := 112) 7 dX7_marksOf_105 rfl rfl (b_itqv ok k (fun hc ok k => ?_) (fun hc ok k => ?_))
                    · refine x_iconst 0 (z := 0) dX7_marksOf_112 rfl (by decide) rfl ?_
                      refine x_istore 5 (ls' := [(2, 19), (0, a1), (0, a2), (0, a3), (0, 0), (0, 0)]) dX7_marksOf_113 rfl rfl rfl ?_
                      refine x_iload 5 dX7_marksOf_115 rfl rfl ?_
                      refine x_if_eq (t := 137) 20 dX7_marksOf_117 rfl rfl (b_ifT (by decide) ?_)
                      refine x_iload 4 dX7_marksOf_137 rfl rfl ?_
                      exact y_iret dX7_marksOf_139 rfl k
                    · refine x_iconst 1 (z := 1) dX7_marksOf_108 rfl (by decide) rfl ?_
                      refine x_goto 4 (q := 113) dX7_marksOf_109 rfl ?_
                      refine x_istore 5 (ls' := [(2, 19), (0, a1), (0, a2), (0, a3), (0, 0), (0, 1)]) dX7_marksOf_113 rfl rfl rfl ?_
                      refine x_iload 5 dX7_marksOf_115 rfl rfl ?_
                      refine x_if_eq (t := 137) 20 dX7_marksOf_117 rfl rfl (b_ifF (by decide) ?_)
                      refine x_aload_n 0 dX7_marksOf_120 rfl rfl rfl rfl rfl ?_
                      refine x_iload_n 2 dX7_marksOf_121 rfl rfl rfl ?_
                      refine x_iload_n 3 dX7_marksOf_122 rfl rfl rfl ?_
                      refine x_iconst 1 (z := 1) dX7_marksOf_123 rfl (by decide) rfl ?_
                      obtain ⟨e24, ok⟩ := ok
                      refine y_Vi 54 (M := mX7_both) (As := [(0, a2), (0, a3), (0, 1)]) (st := []) dX7_marksOf_124 i19 rfl q747 q749 qs3 q374 q750 rfl hmX7_both rfl rfl rfl rfl rfl rfl rfl rfl (vX7_both (Nat.le_trans (Nat.le_of_ble_eq_true rfl) hn) a2 a3 1 e24 ?_)
                      refine x_if_eq (t := 137) 10 dX7_marksOf_127 rfl rfl (b_itqv (b_tt _) k (fun hc ok k => ?_) (fun hc ok k => ?_))
                      · refine x_iload 4 dX7_marksOf_137 rfl rfl ?_
                        exact y_iret dX7_marksOf_139 rfl k
                      · refine x_iload 4 dX7_marksOf_130 rfl rfl ?_
                        refine x_iconst 1 (z := 1) dX7_marksOf_132 rfl (by decide) rfl ?_
                        refine x_ior dX7_marksOf_133 rfl ?_
                        refine x_goto 5 (q := 139) dX7_marksOf_134 rfl ?_
                        exact y_iret dX7_marksOf_139 rfl k
              · refine x_iconst 4 (z := 4) dX7_marksOf_83 rfl (by decide) rfl ?_
                refine x_goto 4 (q := 88) dX7_marksOf_84 rfl ?_
                refine x_istore 4 (ls' := [(2, 19), (0, a1), (0, a2), (0, a3), (0, 4), (9, 0)]) dX7_marksOf_88 rfl rfl rfl ?_
                refine x_iload_n 1 dX7_marksOf_90 rfl rfl rfl ?_
                refine x_bipush 10 (z := 10) dX7_marksOf_91 rfl (by decide) rfl ?_
                refine x_icmp_eq (t := 108) 15 dX7_marksOf_93 rfl rfl (b_itqv ok k (fun hc ok k => ?_) (fun hc ok k => ?_))
                · refine x_iconst 1 (z := 1) dX7_marksOf_108 rfl (by decide) rfl ?_
                  refine x_goto 4 (q := 113) dX7_marksOf_109 rfl ?_
                  refine x_istore 5 (ls' := [(2, 19), (0, a1), (0, a2), (0, a3), (0, 4), (0, 1)]) dX7_marksOf_113 rfl rfl rfl ?_
                  refine x_iload 5 dX7_marksOf_115 rfl rfl ?_
                  refine x_if_eq (t := 137) 20 dX7_marksOf_117 rfl rfl (b_ifF (by decide) ?_)
                  refine x_aload_n 0 dX7_marksOf_120 rfl rfl rfl rfl rfl ?_
                  refine x_iload_n 2 dX7_marksOf_121 rfl rfl rfl ?_
                  refine x_iload_n 3 dX7_marksOf_122 rfl rfl rfl ?_
                  refine x_iconst 1 (z := 1) dX7_marksOf_123 rfl (by decide) rfl ?_
                  obtain ⟨e27, ok⟩ := ok
                  refine y_Vi 54 (M := mX7_both) (As := [(0, a2), (0, a3), (0, 1)]) (st := []) dX7_marksOf_124 i19 rfl q747 q749 qs3 q374 q750 rfl hmX7_both rfl rfl rfl rfl rfl rfl rfl rfl (vX7_both (Nat.le_trans (Nat.le_of_ble_eq_true rfl) hn) a2 a3 1 e27 ?_)
                  refine x_if_eq (t := 137) 10 dX7_marksOf_127 rfl rfl (b_itqv (b_tt _) k (fun hc ok k => ?_) (fun hc ok k => ?_))
                  · refine x_iload 4 dX7_marksOf_137 rfl rfl ?_
                    exact y_iret dX7_marksOf_139 rfl k
                  · refine x_iload 4 dX7_marksOf_130 rfl rfl ?_
                    refine x_iconst 1 (z := 1) dX7_marksOf_132 rfl (by decide) rfl ?_
                    refine x_ior dX7_marksOf_133 rfl ?_
                    refine x_goto 5 (q := 139) dX7_marksOf_134 rfl ?_
                    exact y_iret dX7_marksOf_139 rfl k
                · refine x_iload_n 1 dX7_marksOf_96 rfl rfl rfl ?_
                  refine x_bipush 14 (z := 14) dX7_marksOf_97 rfl (by decide) rfl ?_
                  refine x_icmp_eq (t := 108) 9 dX7_marksOf_99 rfl rfl (b_itqv ok k (fun hc ok k => ?_) (fun hc ok k => ?_))
                  · refine x_iconst 1 (z := 1) dX7_marksOf_108 rfl (by decide) rfl ?_
                    refine x_goto 4 (q := 113) dX7_marksOf_109 rfl ?_
                    refine x_istore 5 (ls' := [(2, 19), (0, a1), (0, a2), (0, a3), (0, 4), (0, 1)]) dX7_marksOf_113 rfl rfl rfl ?_
                    refine x_iload 5 dX7_marksOf_115 rfl rfl ?_
                    refine x_if_eq (t := 137) 20 dX7_marksOf_117 rfl rfl (b_ifF (by decide) ?_)
                    refine x_aload_n 0 dX7_marksOf_120 rfl rfl rfl rfl rfl ?_
                    refine x_iload_n 2 dX7_marksOf_121 rfl rfl rfl ?_
                    refine x_iload_n 3 dX7_marksOf_122 rfl rfl rfl ?_
                    refine x_iconst 1 (z := 1) dX7_marksOf_123 rfl (by decide) rfl ?_
                    obtain ⟨e30, ok⟩ := ok
                    refine y_Vi 54 (M := mX7_both) (As := [(0, a2), (0, a3), (0, 1)]) (st := []) dX7_marksOf_124 i19 rfl q747 q749 qs3 q374 q750 rfl hmX7_both rfl rfl rfl rfl rfl rfl rfl rfl (vX7_both (Nat.le_trans (Nat.le_of_ble_eq_true rfl) hn) a2 a3 1 e30 ?_)
                    refine x_if_eq (t := 137) 10 dX7_marksOf_127 rfl rfl (b_itqv (b_tt _) k (fun hc ok k => ?_) (fun hc ok k => ?_))
                    · refine x_iload 4 dX7_marksOf_137 rfl rfl ?_
                      exact y_iret dX7_marksOf_139 rfl k
                    · refine x_iload 4 dX7_marksOf_130 rfl rfl ?_
                      refine x_iconst 1 (z := 1) dX7_marksOf_132 rfl (by decide) rfl ?_
                      refine x_ior dX7_marksOf_133 rfl ?_
                      refine x_goto 5 (q := 139) dX7_marksOf_134 rfl ?_
                      exact y_iret dX7_marksOf_139 rfl k
                  · refine x_iload_n 1 dX7_marksOf_102 rfl rfl rfl ?_
                    refine x_bipush 18 (z := 18) dX7_marksOf_103 rfl (by decide) rfl ?_
                    refine x_icmp_ne (t := 112) 7 dX7_marksOf_105 rfl rfl (b_itqv ok k (fun hc ok k => ?_) (fun hc ok k => ?_))
                    · refine x_iconst 0 (z := 0) dX7_marksOf_112 rfl (by decide) rfl ?_
                      refine x_istore 5 (ls' := [(2, 19), (0, a1), (0, a2), (0, a3), (0, 4), (0, 0)]) dX7_marksOf_113 rfl rfl rfl ?_
                      refine x_iload 5 dX7_marksOf_115 rfl rfl ?_
                      refine x_if_eq (t := 137) 20 dX7_marksOf_117 rfl rfl (b_ifT (by decide) ?_)
                      refine x_iload 4 dX7_marksOf_137 rfl rfl ?_
                      exact y_iret dX7_marksOf_139 rfl k
                    · refine x_iconst 1 (z := 1) dX7_marksOf_108 rfl (by decide) rfl ?_
                      refine x_goto 4 (q := 113) dX7_marksOf_109 rfl ?_
                      refine x_istore 5 (ls' := [(2, 19), (0, a1), (0, a2), (0, a3), (0, 4), (0, 1)]) dX7_marksOf_113 rfl rfl rfl ?_
                      refine x_iload 5 dX7_marksOf_115 rfl rfl ?_
                      refine x_if_eq (t := 137) 20 dX7_marksOf_117 rfl rfl (b_ifF (by decide) ?_)
                      refine x_aload_n 0 dX7_marksOf_120 rfl rfl rfl rfl rfl ?_
                      refine x_iload_n 2 dX7_marksOf_121 rfl rfl rfl ?_
                      refine x_iload_n 3 dX7_marksOf_122 rfl rfl rfl ?_
                      refine x_iconst 1 (z := 1) dX7_marksOf_123 rfl (by decide) rfl ?_
                      obtain ⟨e33, ok⟩ := ok
                      refine y_Vi 54 (M := mX7_both) (As := [(0, a2), (0, a3), (0, 1)]) (st := []) dX7_marksOf_124 i19 rfl q747 q749 qs3 q374 q750 rfl hmX7_both rfl rfl rfl rfl rfl rfl rfl rfl (vX7_both (Nat.le_trans (Nat.le_of_ble_eq_true rfl) hn) a2 a3 1 e33 ?_)
                      refine x_if_eq (t := 137) 10 dX7_marksOf_127 rfl rfl (b_itqv (b_tt _) k (fun hc ok k => ?_) (fun hc ok k => ?_))
                      · refine x_iload 4 dX7_marksOf_137 rfl rfl ?_
                        exact y_iret dX7_marksOf_139 rfl k
                      · refine x_iload 4 dX7_marksOf_130 rfl rfl ?_
                        refine x_iconst 1 (z := 1) dX7_marksOf_132 rfl (by decide) rfl ?_
                        refine x_ior dX7_marksOf_133 rfl ?_
                        refine x_goto 5 (q := 139) dX7_marksOf_134 rfl ?_
                        exact y_iret dX7_marksOf_139 rfl k
          · refine x_bipush 6 (z := 6) dX7_marksOf_62 rfl (by decide) rfl ?_
            refine x_goto 24 (q := 88) dX7_marksOf_64 rfl ?_
            refine x_istore 4 (ls' := [(2, 19), (0, a1), (0, a2), (0, a3), (0, 6), (9, 0)]) dX7_marksOf_88 rfl rfl rfl ?_
            refine x_iload_n 1 dX7_marksOf_90 rfl rfl rfl ?_
            refine x_bipush 10 (z := 10) dX7_marksOf_91 rfl (by decide) rfl ?_
            refine x_icmp_eq (t := 108) 15 dX7_marksOf_93 rfl rfl (b_itqv ok k (fun hc ok k => ?_) (fun hc ok k => ?_))
            · refine x_iconst 1 (z := 1) dX7_marksOf_108 rfl (by decide) rfl ?_
              refine x_goto 4 (q := 113) dX7_marksOf_109 rfl ?_
              refine x_istore 5 (ls' := [(2, 19), (0, a1), (0, a2), (0, a3), (0, 6), (0, 1)]) dX7_marksOf_113 rfl rfl rfl ?_
              refine x_iload 5 dX7_marksOf_115 rfl rfl ?_
              refine x_if_eq (t := 137) 20 dX7_marksOf_117 rfl rfl (b_ifF (by decide) ?_)
              refine x_aload_n 0 dX7_marksOf_120 rfl rfl rfl rfl rfl ?_
              refine x_iload_n 2 dX7_marksOf_121 rfl rfl rfl ?_
              refine x_iload_n 3 dX7_marksOf_122 rfl rfl rfl ?_
              refine x_iconst 1 (z := 1) dX7_marksOf_123 rfl (by decide) rfl ?_
              obtain ⟨e36, ok⟩ := ok
              refine y_Vi 54 (M := mX7_both) (As := [(0, a2), (0, a3), (0, 1)]) (st := []) dX7_marksOf_124 i19 rfl q747 q749 qs3 q374 q750 rfl hmX7_both rfl rfl rfl rfl rfl rfl rfl rfl (vX7_both (Nat.le_trans (Nat.le_of_ble_eq_true rfl) hn) a2 a3 1 e36 ?_)
              refine x_if_eq (t := 137) 10 dX7_marksOf_127 rfl rfl (b_itqv (b_tt _) k (fun hc ok k => ?_) (fun hc ok k => ?_))
              · refine x_iload 4 dX7_marksOf_137 rfl rfl ?_
                exact y_iret dX7_marksOf_139 rfl k
              · refine x_iload 4 dX7_marksOf_130 rfl rfl ?_
                refine x_iconst 1 (z := 1) dX7_marksOf_132 rfl (by decide) rfl ?_
                refine x_ior dX7_marksOf_133 rfl ?_
                refine x_goto 5 (q := 139) dX7_marksOf_134 rfl ?_
                exact y_iret dX7_marksOf_139 rfl k
            · refine x_iload_n 1 dX7_marksOf_96 rfl rfl rfl ?_
              refine x_bipush 14 (z := 14) dX7_marksOf_97 rfl (by decide) rfl ?_
              refine x_icmp_eq (t := 108) 9 dX7_marksOf_99 rfl rfl (b_itqv ok k (fun hc ok k => ?_) (fun hc ok k => ?_))
              · refine x_iconst 1 (z := 1) dX7_marksOf_108 rfl (by decide) rfl ?_
                refine x_goto 4 (q := 113) dX7_marksOf_109 rfl ?_
                refine x_istore 5 (ls' := [(2, 19), (0, a1), (0, a2), (0, a3), (0, 6), (0, 1)]) dX7_marksOf_113 rfl rfl rfl ?_
                refine x_iload 5 dX7_marksOf_115 rfl rfl ?_
                refine x_if_eq (t := 137) 20 dX7_marksOf_117 rfl rfl (b_ifF (by decide) ?_)
                refine x_aload_n 0 dX7_marksOf_120 rfl rfl rfl rfl rfl ?_
                refine x_iload_n 2 dX7_marksOf_121 rfl rfl rfl ?_
                refine x_iload_n 3 dX7_marksOf_122 rfl rfl rfl ?_
                refine x_iconst 1 (z := 1) dX7_marksOf_123 rfl (by decide) rfl ?_
                obtain ⟨e39, ok⟩ := ok
                refine y_Vi 54 (M := mX7_both) (As := [(0, a2), (0, a3), (0, 1)]) (st := []) dX7_marksOf_124 i19 rfl q747 q749 qs3 q374 q750 rfl hmX7_both rfl rfl rfl rfl rfl rfl rfl rfl (vX7_both (Nat.le_trans (Nat.le_of_ble_eq_true rfl) hn) a2 a3 1 e39 ?_)
                refine x_if_eq (t := 137) 10 dX7_marksOf_127 rfl rfl (b_itqv (b_tt _) k (fun hc ok k => ?_) (fun hc ok k => ?_))
                · refine x_iload 4 dX7_marksOf_137 rfl rfl ?_
                  exact y_iret dX7_marksOf_139 rfl k
                · refine x_iload 4 dX7_marksOf_130 rfl rfl ?_
                  refine x_iconst 1 (z := 1) dX7_marksOf_132 rfl (by decide) rfl ?_
                  refine x_ior dX7_marksOf_133 rfl ?_
                  refine x_goto 5 (q := 139) dX7_marksOf_134 rfl ?_
                  exact y_iret dX7_marksOf_139 rfl k
              · refine x_iload_n 1 dX7_marksOf_102 rfl rfl rfl ?_
                refine x_bipush 18 (z := 18) dX7_marksOf_103 rfl (by decide) rfl ?_
                refine x_icmp_ne (t := 112) 7 dX7_marksOf_105 rfl rfl (b_itqv ok k (fun hc ok k => ?_) (fun hc ok k => ?_))
                · refine x_iconst 0 (z := 0) dX7_marksOf_112 rfl (by decide) rfl ?_
                  refine x_istore 5 (ls' := [(2, 19), (0, a1), (0, a2), (0, a3), (0, 6), (0, 0)]) dX7_marksOf_113 rfl rfl rfl ?_
                  refine x_iload 5 dX7_marksOf_115 rfl rfl ?_
                  refine x_if_eq (t := 137) 20 dX7_marksOf_117 rfl rfl (b_ifT (by decide) ?_)
                  refine x_iload 4 dX7_marksOf_137 rfl rfl ?_
                  exact y_iret dX7_marksOf_139 rfl k
                · refine x_iconst 1 (z := 1) dX7_marksOf_108 rfl (by decide) rfl ?_
                  refine x_goto 4 (q := 113) dX7_marksOf_109 rfl ?_
                  refine x_istore 5 (ls' := [(2, 19), (0, a1), (0, a2), (0, a3), (0, 6), (0, 1)]) dX7_marksOf_113 rfl rfl rfl ?_
                  refine x_iload 5 dX7_marksOf_115 rfl rfl ?_
                  refine x_if_eq (t := 137) 20 dX7_marksOf_117 rfl rfl (b_ifF (by decide) ?_)
                  refine x_aload_n 0 dX7_marksOf_120 rfl rfl rfl rfl rfl ?_
                  refine x_iload_n 2 dX7_marksOf_121 rfl rfl rfl ?_
                  refine x_iload_n 3 dX7_marksOf_122 rfl rfl rfl ?_
                  refine x_iconst 1 (z := 1) dX7_marksOf_123 rfl (by decide) rfl ?_
                  obtain ⟨e42, ok⟩ := ok
                  refine y_Vi 54 (M := mX7_both) (As := [(0, a2), (0, a3), (0, 1)]) (st := []) dX7_marksOf_124 i19 rfl q747 q749 qs3 q374 q750 rfl hmX7_both rfl rfl rfl rfl rfl rfl rfl rfl (vX7_both (Nat.le_trans (Nat.le_of_ble_eq_true rfl) hn) a2 a3 1 e42 ?_)
                  refine x_if_eq (t := 137) 10 dX7_marksOf_127 rfl rfl (b_itqv (b_tt _) k (fun hc ok k => ?_) (fun hc ok k => ?_))
                  · refine x_iload 4 dX7_marksOf_137 rfl rfl ?_
                    exact y_iret dX7_marksOf_139 rfl k
                  · refine x_iload 4 dX7_marksOf_130 rfl rfl ?_
                    refine x_iconst 1 (z := 1) dX7_marksOf_132 rfl (by decide) rfl ?_
                    refine x_ior dX7_marksOf_133 rfl ?_
                    refine x_goto 5 (q := 139) dX7_marksOf_134 rfl ?_
                    exact y_iret dX7_marksOf_139 rfl k
        · refine x_aload_n 0 dX7_marksOf_37 rfl rfl rfl rfl rfl ?_
          refine x_iload_n 3 dX7_marksOf_38 rfl rfl rfl ?_
          refine x_iconst 2 (z := 2) dX7_marksOf_39 rfl (by decide) rfl ?_
          obtain ⟨e45, ok⟩ := ok
          refine y_Vi 50 (M := mX7_is) (As := [(0, a3), (0, 2)]) (st := []) dX7_marksOf_40 i19 rfl q743 q744 q745 q374 q746 rfl hmX7_is rfl rfl rfl rfl rfl rfl rfl rfl (vX7_is (Nat.le_trans (Nat.le_of_ble_eq_true rfl) hn) a3 2 e45 ?_)
          refine x_if_eq (t := 50) 7 dX7_marksOf_43 rfl rfl (b_itqv (b_tt _) k (fun hc ok k => ?_) (fun hc ok k => ?_))
          · refine x_iconst 0 (z := 0) dX7_marksOf_50 rfl (by decide) rfl ?_
            exact y_iret dX7_marksOf_51 rfl k
          · refine x_iconst 4 (z := 4) dX7_marksOf_46 rfl (by decide) rfl ?_
            refine x_goto 4 (q := 51) dX7_marksOf_47 rfl ?_
            exact y_iret dX7_marksOf_51 rfl k
      · refine x_iconst 0 (z := 0) dX7_marksOf_29 rfl (by decide) rfl ?_
        exact y_iret dX7_marksOf_30 rfl k
  · refine x_iload_n 1 dX7_marksOf_4 rfl rfl rfl ?_
    refine x_bipush 9 (z := 9) dX7_marksOf_5 rfl (by decide) rfl ?_
    refine x_icmp_ne (t := 14) 7 dX7_marksOf_7 rfl rfl (b_itqv (b_tt _) k (fun hc ok k => ?_) (fun hc ok k => ?_))
    · refine x_bipush 7 (z := 7) dX7_marksOf_14 rfl (by decide) rfl ?_
      exact y_iret dX7_marksOf_16 rfl k
    · refine x_iconst 0 (z := 0) dX7_marksOf_10 rfl (by decide) rfl ?_
      refine x_goto 5 (q := 16) dX7_marksOf_11 rfl ?_
      exact y_iret dX7_marksOf_16 rfl k
def fX8_make (w : bW) (a1 : Int) (a2 : Int) (a3 : Int) : Int := (if w 27 5 = 0 then b_i (2 * (w 27 2)) else b_i (2 * (b_i (-(w 27 4)))))
def gX8_make (w : bW) (a1 : Int) (a2 : Int) (a3 : Int) : bW := (if w 27 5 = 0 then (gX8_set (gX8_set (b_up w 27 2 (b_i ((w 27 2) + a3))) (b_i (2 * (w 27 2))) 0 a1) (b_i (2 * (w 27 2))) 1 a2) else (gX8_set (gX8_set (b_up w 27 4 (b_i ((w 27 4) + a3))) (b_i (2 * (b_i (-(w 27 4))))) 0 a1) (b_i (2 * (b_i (-(w 27 4))))) 1 a2))
def oX8_make (n : Nat) (w : bW) (a1 : Int) (a2 : Int) (a3 : Int) : Prop := if w 27 5 = 0 then ((oX8_set n (b_up w 27 2 (b_i ((w 27 2) + a3))) (b_i (2 * (w 27 2))) 0 a1) ∧ ((oX8_set n (gX8_set (b_up w 27 2 (b_i ((w 27 2) + a3))) (b_i (2 * (w 27 2))) 0 a1) (b_i (2 * (w 27 2))) 1 a2) ∧ (True))) else ((oX8_set n (b_up w 27 4 (b_i ((w 27 4) + a3))) (b_i (2 * (b_i (-(w 27 4))))) 0 a1) ∧ ((oX8_set n (gX8_set (b_up w 27 4 (b_i ((w 27 4) + a3))) (b_i (2 * (b_i (-(w 27 4))))) 0 a1) (b_i (2 * (b_i (-(w 27 4))))) 1 a2) ∧ (True)))
theorem vX8_make {d n : Nat} {w : bW} {Q : Int → bW → Prop} {X : String → bW → Prop} (hn : 143 ≤ n) (a1 : Int) (a2 : Int) (a3 : Int) (ok : oX8_make n w a1 a2 a3) (k : Q (fX8_make w a1 a2 a3) (gX8_make w a1 a2 a3)) : b_K (d + 2) mX8_make [(2, 27), (0, a1), (0, a2), (0, a3)] n w Q X := by
  have i27 := iz27 (Nat.le_trans (Nat.le_of_ble_eq_true rfl) hn)
  unfold fX8_make gX8_make at k
  unfold oX8_make at ok
  refine k_of (by decide) rfl rfl rfl (ls := [(2, 27), (0, a1), (0, a2), (0, a3), (9, 0)]) rfl ?_
  refine x_aload_n 0 dX8_make_0 rfl rfl rfl rfl rfl ?_
  refine y_get 51 5 (c := 7) (z := w 27 5) dX8_make_1 i27 rfl in_X8 q809 rfl rfl rfl rfl rfl ?_
  refine x_if_eq (t := 27) 23 dX8_make_4 rfl rfl (b_itq ok k (fun hc ok k => ?_) (fun hc ok k => ?_))
  · refine x_aload_n 0 dX8_make_27 rfl rfl rfl rfl rfl ?_
    refine y_get 19 2 (c := 7) (z := w 27 2) dX8_make_28 i27 rfl in_X8 q805 rfl rfl rfl rfl rfl ?_
    refine x_istore 4 (ls' := [(2, 27), (0, a1), (0, a2), (0, a3), (0, w 27 2)]) dX8_make_31 rfl rfl rfl ?_
    refine x_aload_n 0 dX8_make_33 rfl rfl rfl rfl rfl ?_
    refine x_dup dX8_make_34 rfl rfl ?_
    refine y_get 19 2 (c := 7) (z := w 27 2) dX8_make_35 i27 rfl in_X8 q805 rfl rfl rfl rfl rfl ?_
    refine x_iload_n 3 dX8_make_38 rfl rfl rfl ?_
    refine x_iadd dX8_make_39 rfl ?_
    refine x_put 19 2 (c := 7) dX8_make_40 i27 rfl in_X8 tyX8_ok nmX8 q805 rfl rfl rfl (Or.inl rfl) (Or.inl ⟨rfl, rfl⟩) rfl ?_
    refine x_aload_n 0 dX8_make_43 rfl rfl rfl rfl rfl ?_
    refine x_iconst 2 (z := 2) dX8_make_44 rfl (by decide) rfl ?_
    refine x_iload 4 dX8_make_45 rfl rfl ?_
    refine x_imul dX8_make_47 rfl ?_
    refine x_iconst 0 (z := 0) dX8_make_48 rfl (by decide) rfl ?_
    refine x_iload_n 1 dX8_make_49 rfl rfl rfl ?_
    obtain ⟨e3, ok⟩ := ok
    refine y_Vv 55 (M := mX8_set) (As := [(0, b_i (2 * (w 27 2))), (0, 0), (0, a1)]) (st := []) dX8_make_50 i27 rfl q1975 q1977 qs38 q375 q1978 rfl hmX8_set rfl rfl rfl rfl rfl rfl rfl (vX8_set (Nat.le_trans (Nat.le_of_ble_eq_true rfl) hn) (b_i (2 * (w 27 2))) 0 a1 e3 ?_)
    refine x_aload_n 0 dX8_make_53 rfl rfl rfl rfl rfl ?_
    refine x_iconst 2 (z := 2) dX8_make_54 rfl (by decide) rfl ?_
    refine x_iload 4 dX8_make_55 rfl rfl ?_
    refine x_imul dX8_make_57 rfl ?_
    refine x_iconst 1 (z := 1) dX8_make_58 rfl (by decide) rfl ?_
    refine x_iload_n 2 dX8_make_59 rfl rfl rfl ?_
    obtain ⟨e6, ok⟩ := ok
    refine y_Vv 55 (M := mX8_set) (As := [(0, b_i (2 * (w 27 2))), (0, 1), (0, a2)]) (st := []) dX8_make_60 i27 rfl q1975 q1977 qs38 q375 q1978 rfl hmX8_set rfl rfl rfl rfl rfl rfl rfl (vX8_set (Nat.le_trans (Nat.le_of_ble_eq_true rfl) hn) (b_i (2 * (w 27 2))) 1 a2 e6 ?_)
    refine x_iconst 2 (z := 2) dX8_make_63 rfl (by decide) rfl ?_
    refine x_iload 4 dX8_make_64 rfl rfl ?_
    refine x_imul dX8_make_66 rfl ?_
    exact y_iret dX8_make_67 rfl k
  · refine x_aload_n 0 dX8_make_7 rfl rfl rfl rfl rfl ?_
    refine y_get 27 4 (c := 7) (z := w 27 4) dX8_make_8 i27 rfl in_X8 q807 rfl rfl rfl rfl rfl ?_
    refine x_ineg dX8_make_11 rfl ?_
    refine x_istore 4 (ls' := [(2, 27), (0, a1), (0, a2), (0, a3), (0, b_i (-(w 27 4)))]) dX8_make_12 rfl rfl rfl ?_
    refine x_aload_n 0 dX8_make_14 rfl rfl rfl rfl rfl ?_
    refine x_dup dX8_make_15 rfl rfl ?_
    refine y_get 27 4 (c := 7) (z := w 27 4) dX8_make_16 i27 rfl in_X8 q807 rfl rfl rfl rfl rfl ?_
    refine x_iload_n 3 dX8_make_19 rfl rfl rfl ?_
    refine x_iadd dX8_make_20 rfl ?_
    refine x_put 27 4 (c := 7) dX8_make_21 i27 rfl in_X8 tyX8_ok nmX8 q807 rfl rfl rfl (Or.inl rfl) (Or.inl ⟨rfl, rfl⟩) rfl ?_
    refine x_goto 19 (q := 43) dX8_make_24 rfl ?_
    refine x_aload_n 0 dX8_make_43 rfl rfl rfl rfl rfl ?_
    refine x_iconst 2 (z := 2) dX8_make_44 rfl (by decide) rfl ?_
    refine x_iload 4 dX8_make_45 rfl rfl ?_
    refine x_imul dX8_make_47 rfl ?_
    refine x_iconst 0 (z := 0) dX8_make_48 rfl (by decide) rfl ?_
    refine x_iload_n 1 dX8_make_49 rfl rfl rfl ?_
    obtain ⟨e9, ok⟩ := ok
    refine y_Vv 55 (M := mX8_set) (As := [(0, b_i (2 * (b_i (-(w 27 4))))), (0, 0), (0, a1)]) (st := []) dX8_make_50 i27 rfl q1975 q1977 qs38 q375 q1978 rfl hmX8_set rfl rfl rfl rfl rfl rfl rfl (vX8_set (Nat.le_trans (Nat.le_of_ble_eq_true rfl) hn) (b_i (2 * (b_i (-(w 27 4))))) 0 a1 e9 ?_)
    refine x_aload_n 0 dX8_make_53 rfl rfl rfl rfl rfl ?_
    refine x_iconst 2 (z := 2) dX8_make_54 rfl (by decide) rfl ?_
    refine x_iload 4 dX8_make_55 rfl rfl ?_
    refine x_imul dX8_make_57 rfl ?_
    refine x_iconst 1 (z := 1) dX8_make_58 rfl (by decide) rfl ?_
    refine x_iload_n 2 dX8_make_59 rfl rfl rfl ?_
    obtain ⟨e12, ok⟩ := ok
    refine y_Vv 55 (M := mX8_set) (As := [(0, b_i (2 * (b_i (-(w 27 4))))), (0, 1), (0, a2)]) (st := []) dX8_make_60 i27 rfl q1975 q1977 qs38 q375 q1978 rfl hmX8_set rfl rfl rfl rfl rfl rfl rfl (vX8_set (Nat.le_trans (Nat.le_of_ble_eq_true rfl) hn) (b_i (2 * (b_i (-(w 27 4))))) 1 a2 e12 ?_)
    refine x_iconst 2 (z := 2) dX8_make_63 rfl (by decide) rfl ?_
    refine x_iload 4 dX8_make_64 rfl rfl ?_
    refine x_imul dX8_make_66 rfl ?_
    exact y_iret dX8_make_67 rfl k
def gX8_setByte (w : bW) (a1 : Int) (a2 : Int) (a3 : Int) : bW := (gX8_set w a1 (b_i (3 + (b_shr a2 2))) (b_or (b_and (fX8_cell w a1 (b_i (3 + (b_shr a2 2)))) (b_xor (b_shl 255 (b_i (8 * (b_and a2 3)))) (-1))) (b_shl (b_and a3 255) (b_i (8 * (b_and a2 3))))))
def oX8_setByte (n : Nat) (w : bW) (a1 : Int) (a2 : Int) (a3 : Int) : Prop := (oX8_cell n w a1 (b_i (3 + (b_shr a2 2)))) ∧ ((oX8_set n w a1 (b_i (3 + (b_shr a2 2))) (b_or (b_and (fX8_cell w a1 (b_i (3 + (b_shr a2 2)))) (b_xor (b_shl 255 (b_i (8 * (b_and a2 3)))) (-1))) (b_shl (b_and a3 255) (b_i (8 * (b_and a2 3)))))) ∧ (True))
theorem vX8_setByte {d n : Nat} {w : bW} {Q : Int → bW → Prop} {X : String → bW → Prop} (hn : 143 ≤ n) (a1 : Int) (a2 : Int) (a3 : Int) (ok : oX8_setByte n w a1 a2 a3) (k : Q 0 (gX8_setByte w a1 a2 a3)) : b_K (d + 2) mX8_setByte [(2, 27), (0, a1), (0, a2), (0, a3)] n w Q X := by
  have i27 := iz27 (Nat.le_trans (Nat.le_of_ble_eq_true rfl) hn)
  unfold gX8_setByte at k
  unfold oX8_setByte at ok
  refine k_of (by decide) rfl rfl rfl (ls := [(2, 27), (0, a1), (0, a2), (0, a3), (9, 0), (9, 0)]) rfl ?_
  refine x_bipush 8 (z := 8) dX8_setByte_0 rfl (by decide) rfl ?_
  refine x_iload_n 2 dX8_setByte_2 rfl rfl rfl ?_
  refine x_iconst 3 (z := 3) dX8_setByte_3 rfl (by decide) rfl ?_
  refine x_iand dX8_setByte_4 rfl ?_
  refine x_imul dX8_setByte_5 rfl ?_
  refine x_istore 4 (ls' := [(2, 27), (0, a1), (0, a2), (0, a3), (0, b_i (8 * (b_and a2 3))), (9, 0)]) dX8_setByte_6 rfl rfl rfl ?_
  refine x_iconst 3 (z := 3) dX8_setByte_8 rfl (by decide) rfl ?_
  refine x_iload_n 2 dX8_setByte_9 rfl rfl rfl ?_
  refine x_iconst 2 (z := 2) dX8_setByte_10 rfl (by decide) rfl ?_
  refine x_ishr dX8_setByte_11 rfl ?_
  refine x_iadd dX8_setByte_12 rfl ?_
  refine x_istore 5 (ls' := [(2, 27), (0, a1), (0, a2), (0, a3), (0, b_i (8 * (b_and a2 3))), (0, b_i (3 + (b_shr a2 2)))]) dX8_setByte_13 rfl rfl rfl ?_
  refine x_aload_n 0 dX8_setByte_15 rfl rfl rfl rfl rfl ?_
  refine x_iload_n 1 dX8_setByte_16 rfl rfl rfl ?_
  refine x_iload 5 dX8_setByte_17 rfl rfl ?_
  refine x_aload_n 0 dX8_setByte_19 rfl rfl rfl rfl rfl ?_
  refine x_iload_n 1 dX8_setByte_20 rfl rfl rfl ?_
  refine x_iload 5 dX8_setByte_21 rfl rfl ?_
  obtain ⟨e3, ok⟩ := ok
  refine y_Vi 47 (M := mX8_cell) (As := [(0, a1), (0, b_i (3 + (b_shr a2 2)))]) (st := [(0, b_i (3 + (b_shr a2 2))), (0, a1), (2, 27)]) dX8_setByte_23 i27 rfl q2009 q2010 q2011 q375 q2012 rfl hmX8_cell rfl rfl rfl rfl rfl rfl rfl rfl (vX8_cell (Nat.le_trans (Nat.le_of_ble_eq_true rfl) hn) a1 (b_i (3 + (b_shr a2 2))) e3 ?_)
  refine x_sipush 255 (z := 255) dX8_setByte_26 rfl (by decide) rfl ?_
  refine x_iload 4 dX8_setByte_29 rfl rfl ?_
  refine x_ishl dX8_setByte_31 rfl ?_
  refine x_iconst (-1) (z := (-1)) dX8_setByte_32 rfl (by decide) rfl ?_
  refine x_ixor dX8_setByte_33 rfl ?_
  refine x_iand dX8_setByte_34 rfl ?_
  refine x_iload_n 3 dX8_setByte_35 rfl rfl rfl ?_
  refine x_sipush 255 (z := 255) dX8_setByte_36 rfl (by decide) rfl ?_
  refine x_iand dX8_setByte_39 rfl ?_
  refine x_iload 4 dX8_setByte_40 rfl rfl ?_
  refine x_ishl dX8_setByte_42 rfl ?_
  refine x_ior dX8_setByte_43 rfl ?_
  obtain ⟨e6, ok⟩ := ok
  refine y_Vv 55 (M := mX8_set) (As := [(0, a1), (0, b_i (3 + (b_shr a2 2))), (0, b_or (b_and (fX8_cell w a1 (b_i (3 + (b_shr a2 2)))) (b_xor (b_shl 255 (b_i (8 * (b_and a2 3)))) (-1))) (b_shl (b_and a3 255) (b_i (8 * (b_and a2 3)))))]) (st := []) dX8_setByte_44 i27 rfl q1975 q1977 qs38 q375 q1978 rfl hmX8_set rfl rfl rfl rfl rfl rfl rfl (vX8_set (Nat.le_trans (Nat.le_of_ble_eq_true rfl) hn) a1 (b_i (3 + (b_shr a2 2))) (b_or (b_and (fX8_cell w a1 (b_i (3 + (b_shr a2 2)))) (b_xor (b_shl 255 (b_i (8 * (b_and a2 3)))) (-1))) (b_shl (b_and a3 255) (b_i (8 * (b_and a2 3))))) e6 ?_)
  exact y_vret dX8_setByte_47 rfl k
def fX8_length (w : bW) (a1 : Int) : Int := (if fX8_isSmall w a1 = 0 then (if fX8_isPlace w a1 ≠ 0 then (if fX8_kind w a1 ≠ 8 then fX8_cell w a1 1 else fX8_sum w (fX8_cell w a1 1) 5) else (if a1 = 10 then 5 else (if a1 ≠ 12 then 2 else 5))) else fX8_numberLength w (b_i (32 - (fJ11_numberOfLeadingZeros w (if 0 ≤ (b_shr a1 1) then (b_shr a1 1) else b_i (-(b_shr a1 1)))))))
def oX8_length (n : Nat) (w : bW) (a1 : Int) : Prop := if fX8_isSmall w a1 = 0 then (if fX8_isPlace w a1 ≠ 0 then ((oX8_cell n w a1 1) ∧ ((oX8_kind n w a1) ∧ (True))) else True) else True
theorem vX8_length {d n : Nat} {w : bW} {Q : Int → bW → Prop} {X : String → bW → Prop} (hn : 143 ≤ n) (a1 : Int) (ok : oX8_length n w a1) (k : Q (fX8_length w a1) w) : b_K (d + 3) mX8_length [(2, 27), (0, a1)] n w Q X := by
  have i27 := iz27 (Nat.le_trans (Nat.le_of_ble_eq_true rfl) hn)
  unfold fX8_length at k
  unfold oX8_length at ok
  refine k_of (by decide) rfl rfl rfl (ls := [(2, 27), (0, a1), (9, 0)]) rfl ?_
  refine x_iload_n 1 dX8_length_0 rfl rfl rfl ?_
  refine y_Si 89 (M := mX8_isSmall) (As := [(0, a1)]) (st := []) dX8_length_1 q2031 q2032 q375 q2033 hmX8_isSmall rfl rfl rfl rfl rfl rfl rfl rfl (vX8_isSmall a1 ?_)
  refine x_if_eq (t := 23) 19 dX8_length_4 rfl rfl (b_itqv ok k (fun hc ok k => ?_) (fun hc ok k => ?_))
  · refine x_iload_n 1 dX8_length_23 rfl rfl rfl ?_
    refine y_Si 43 (M := mX8_isPlace) (As := [(0, a1)]) (st := []) dX8_length_24 q2038 q2039 q375 q2040 hmX8_isPlace rfl rfl rfl rfl rfl rfl rfl rfl (vX8_isPlace a1 ?_)
    refine x_if_ne (t := 48) 21 dX8_length_27 rfl rfl (b_itqv ok k (fun hc ok k => ?_) (fun hc ok k => ?_))
    · refine x_aload_n 0 dX8_length_48 rfl rfl rfl rfl rfl ?_
      refine x_iload_n 1 dX8_length_49 rfl rfl rfl ?_
      refine x_iconst 1 (z := 1) dX8_length_50 rfl (by decide) rfl ?_
      obtain ⟨e7, ok⟩ := ok
      refine y_Vi 47 (M := mX8_cell) (As := [(0, a1), (0, 1)]) (st := []) dX8_length_51 i27 rfl q2009 q2010 q2011 q375 q2012 rfl hmX8_cell rfl rfl rfl rfl rfl rfl rfl rfl (vX8_cell (Nat.le_trans (Nat.le_of_ble_eq_true rfl) hn) a1 1 e7 ?_)
      refine x_istore_n 2 (ls' := [(2, 27), (0, a1), (0, fX8_cell w a1 1)]) dX8_length_54 rfl rfl rfl rfl ?_
      refine x_aload_n 0 dX8_length_55 rfl rfl rfl rfl rfl ?_
      refine x_iload_n 1 dX8_length_56 rfl rfl rfl ?_
      obtain ⟨e10, ok⟩ := ok
      refine y_Vi 105 (M := mX8_kind) (As := [(0, a1)]) (st := []) dX8_length_57 i27 rfl q2041 q2042 q2043 q375 q2044 rfl hmX8_kind rfl rfl rfl rfl rfl rfl rfl rfl (vX8_kind (Nat.le_trans (Nat.le_of_ble_eq_true rfl) hn) a1 e10 ?_)
      refine x_bipush 8 (z := 8) dX8_length_60 rfl (by decide) rfl ?_
      refine x_icmp_ne (t := 73) 11 dX8_length_62 rfl rfl (b_itqv (b_tt _) k (fun hc ok k => ?_) (fun hc ok k => ?_))
      · refine x_iload_n 2 dX8_length_73 rfl rfl rfl ?_
        exact y_iret dX8_length_74 rfl k
      · refine x_iload_n 2 dX8_length_65 rfl rfl rfl ?_
        refine x_iconst 5 (z := 5) dX8_length_66 rfl (by decide) rfl ?_
        refine y_Si 108 (M := mX8_sum) (As := [(0, fX8_cell w a1 1), (0, 5)]) (st := []) dX8_length_67 q2045 q2046 q375 q2047 hmX8_sum rfl rfl rfl rfl rfl rfl rfl rfl (vX8_sum (fX8_cell w a1 1) 5 ?_)
        refine x_goto 4 (q := 74) dX8_length_70 rfl ?_
        exact y_iret dX8_length_74 rfl k
    · refine x_iload_n 1 dX8_length_30 rfl rfl rfl ?_
      refine x_bipush 10 (z := 10) dX8_length_31 rfl (by decide) rfl ?_
      refine x_icmp_eq (t := 42) 9 dX8_length_33 rfl rfl (b_itqv (b_tt _) k (fun hc ok k => ?_) (fun hc ok k => ?_))
      · refine x_iconst 5 (z := 5) dX8_length_42 rfl (by decide) rfl ?_
        refine x_goto 4 (q := 47) dX8_length_43 rfl ?_
        exact y_iret dX8_length_47 rfl k
      · refine x_iload_n 1 dX8_length_36 rfl rfl rfl ?_
        refine x_bipush 12 (z := 12) dX8_length_37 rfl (by decide) rfl ?_
        refine x_icmp_ne (t := 46) 7 dX8_length_39 rfl rfl (b_itqv (b_tt _) k (fun hc ok k => ?_) (fun hc ok k => ?_))
        · refine x_iconst 2 (z := 2) dX8_length_46 rfl (by decide) rfl ?_
          exact y_iret dX8_length_47 rfl k
        · refine x_iconst 5 (z := 5) dX8_length_42 rfl (by decide) rfl ?_
          refine x_goto 4 (q := 47) dX8_length_43 rfl ?_
          exact y_iret dX8_length_47 rfl k
  · refine x_bipush 32 (z := 32) dX8_length_7 rfl (by decide) rfl ?_
    refine x_iload_n 1 dX8_length_9 rfl rfl rfl ?_
    refine x_iconst 1 (z := 1) dX8_length_10 rfl (by decide) rfl ?_
    refine x_ishr dX8_length_11 rfl ?_
    refine y_mabs 92 dX8_length_12 q2034 q2035 q367 q2036 rfl rfl ?_
    refine y_Si 97 (M := mJ11_numberOfLeadingZeros) (As := [(0, (if 0 ≤ (b_shr a1 1) then (b_shr a1 1) else b_i (-(b_shr a1 1))))]) (st := [(0, 32)]) dX8_length_15 q2037 q1756 q399 q1757 hmJ11_numberOfLeadingZeros rfl rfl rfl rfl rfl rfl rfl rfl (vJ11_numberOfLeadingZeros (if 0 ≤ (b_shr a1 1) then (b_shr a1 1) else b_i (-(b_shr a1 1))) ?_)
    refine x_isub dX8_length_18 rfl ?_
    refine y_Si 102 (M := mX8_numberLength) (As := [(0, b_i (32 - (fJ11_numberOfLeadingZeros w (if 0 ≤ (b_shr a1 1) then (b_shr a1 1) else b_i (-(b_shr a1 1))))))]) (st := []) dX8_length_19 q1968 q1969 q375 q1970 hmX8_numberLength rfl rfl rfl rfl rfl rfl rfl rfl (vX8_numberLength (b_i (32 - (fJ11_numberOfLeadingZeros w (if 0 ≤ (b_shr a1 1) then (b_shr a1 1) else b_i (-(b_shr a1 1)))))) ?_)
    exact y_iret dX8_length_22 rfl k
def fX8_pair (w : bW) (a1 : Int) (a2 : Int) : Int := fX8_make w 3 (fX8_sum w 2 (fX8_sum w (fX8_length w a1) (fX8_length w a2))) 4
def gX8_pair (w : bW) (a1 : Int) (a2 : Int) : bW := (gX8_set (gX8_set (gX8_make w 3 (fX8_sum w 2 (fX8_sum w (fX8_length w a1) (fX8_length w a2))) 4) (fX8_make w 3 (fX8_sum w 2 (fX8_sum w (fX8_length w a1) (fX8_length w a2))) 4) 2 a1) (fX8_make w 3 (fX8_sum w 2 (fX8_sum w (fX8_length w a1) (fX8_length w a2))) 4) 3 a2)
def oX8_pair (n : Nat) (w : bW) (a1 : Int) (a2 : Int) : Prop := (oX8_length n w a1) ∧ ((oX8_length n w a2) ∧ ((oX8_make n w 3 (fX8_sum w 2 (fX8_sum w (fX8_length w a1) (fX8_length w a2))) 4) ∧ ((oX8_set n (gX8_make w 3 (fX8_sum w 2 (fX8_sum w (fX8_length w a1) (fX8_length w a2))) 4) (fX8_make w 3 (fX8_sum w 2 (fX8_sum w (fX8_length w a1) (fX8_length w a2))) 4) 2 a1) ∧ ((oX8_set n (gX8_set (gX8_make w 3 (fX8_sum w 2 (fX8_sum w (fX8_length w a1) (fX8_length w a2))) 4) (fX8_make w 3 (fX8_sum w 2 (fX8_sum w (fX8_length w a1) (fX8_length w a2))) 4) 2 a1) (fX8_make w 3 (fX8_sum w 2 (fX8_sum w (fX8_length w a1) (fX8_length w a2))) 4) 3 a2) ∧ (True)))))
theorem vX8_pair {d n : Nat} {w : bW} {Q : Int → bW → Prop} {X : String → bW → Prop} (hn : 143 ≤ n) (a1 : Int) (a2 : Int) (ok : oX8_pair n w a1 a2) (k : Q (fX8_pair w a1 a2) (gX8_pair w a1 a2)) : b_K (d + 4) mX8_pair [(2, 27), (0, a1), (0, a2)] n w Q X := by
  have i27 := iz27 (Nat.le_trans (Nat.le_of_ble_eq_true rfl) hn)
  unfold fX8_pair gX8_pair at k
  unfold oX8_pair at ok
  refine k_of (by decide) rfl rfl rfl (ls := [(2, 27), (0, a1), (0, a2), (9, 0)]) rfl ?_
  refine x_aload_n 0 dX8_pair_0 rfl rfl rfl rfl rfl ?_
  refine x_iconst 3 (z := 3) dX8_pair_1 rfl (by decide) rfl ?_
  refine x_iconst 2 (z := 2) dX8_pair_2 rfl (by decide) rfl ?_
  refine x_aload_n 0 dX8_pair_3 rfl rfl rfl rfl rfl ?_
  refine x_iload_n 1 dX8_pair_4 rfl rfl rfl ?_
  obtain ⟨e3, ok⟩ := ok
  refine y_Vi 165 (M := mX8_length) (As := [(0, a1)]) (st := [(0, 2), (0, 3), (2, 27)]) dX8_pair_5 i27 rfl q2027 q2028 q2029 q375 q2030 rfl hmX8_length rfl rfl rfl rfl rfl rfl rfl rfl (vX8_length (Nat.le_trans (Nat.le_of_ble_eq_true rfl) hn) a1 e3 ?_)
  refine x_aload_n 0 dX8_pair_8 rfl rfl rfl rfl rfl ?_
  refine x_iload_n 2 dX8_pair_9 rfl rfl rfl ?_
  obtain ⟨e6, ok⟩ := ok
  refine y_Vi 165 (M := mX8_length) (As := [(0, a2)]) (st := [(0, fX8_length w a1), (0, 2), (0, 3), (2, 27)]) dX8_pair_10 i27 rfl q2027 q2028 q2029 q375 q2030 rfl hmX8_length rfl rfl rfl rfl rfl rfl rfl rfl (vX8_length (Nat.le_trans (Nat.le_of_ble_eq_true rfl) hn) a2 e6 ?_)
  refine y_Si 108 (M := mX8_sum) (As := [(0, fX8_length w a1), (0, fX8_length w a2)]) (st := [(0, 2), (0, 3), (2, 27)]) dX8_pair_13 q2045 q2046 q375 q2047 hmX8_sum rfl rfl rfl rfl rfl rfl rfl rfl (vX8_sum (fX8_length w a1) (fX8_length w a2) ?_)
  refine y_Si 108 (M := mX8_sum) (As := [(0, 2), (0, fX8_sum w (fX8_length w a1) (fX8_length w a2))]) (st := [(0, 3), (2, 27)]) dX8_pair_16 q2045 q2046 q375 q2047 hmX8_sum rfl rfl rfl rfl rfl rfl rfl rfl (vX8_sum 2 (fX8_sum w (fX8_length w a1) (fX8_length w a2)) ?_)
  refine x_iconst 4 (z := 4) dX8_pair_19 rfl (by decide) rfl ?_
  obtain ⟨e13, ok⟩ := ok
  refine y_Vi 144 (M := mX8_make) (As := [(0, 3), (0, fX8_sum w 2 (fX8_sum w (fX8_length w a1) (fX8_length w a2))), (0, 4)]) (st := []) dX8_pair_20 i27 rfl q1971 q1973 qs37 q375 q1974 rfl hmX8_make rfl rfl rfl rfl rfl rfl rfl rfl (vX8_make (Nat.le_trans (Nat.le_of_ble_eq_true rfl) hn) 3 (fX8_sum w 2 (fX8_sum w (fX8_length w a1) (fX8_length w a2))) 4 e13 ?_)
  refine x_istore_n 3 (ls' := [(2, 27), (0, a1), (0, a2), (0, fX8_make w 3 (fX8_sum w 2 (fX8_sum w (fX8_length w a1) (fX8_length w a2))) 4)]) dX8_pair_23 rfl rfl rfl rfl ?_
  refine x_aload_n 0 dX8_pair_24 rfl rfl rfl rfl rfl ?_
  refine x_iload_n 3 dX8_pair_25 rfl rfl rfl ?_
  refine x_iconst 2 (z := 2) dX8_pair_26 rfl (by decide) rfl ?_
  refine x_iload_n 1 dX8_pair_27 rfl rfl rfl ?_
  obtain ⟨e16, ok⟩ := ok
  refine y_Vv 55 (M := mX8_set) (As := [(0, fX8_make w 3 (fX8_sum w 2 (fX8_sum w (fX8_length w a1) (fX8_length w a2))) 4), (0, 2), (0, a1)]) (st := []) dX8_pair_28 i27 rfl q1975 q1977 qs38 q375 q1978 rfl hmX8_set rfl rfl rfl rfl rfl rfl rfl (vX8_set (Nat.le_trans (Nat.le_of_ble_eq_true rfl) hn) (fX8_make w 3 (fX8_sum w 2 (fX8_sum w (fX8_length w a1) (fX8_length w a2))) 4) 2 a1 e16 ?_)
  refine x_aload_n 0 dX8_pair_31 rfl rfl rfl rfl rfl ?_
  refine x_iload_n 3 dX8_pair_32 rfl rfl rfl ?_
  refine x_iconst 3 (z := 3) dX8_pair_33 rfl (by decide) rfl ?_
  refine x_iload_n 2 dX8_pair_34 rfl rfl rfl ?_
  obtain ⟨e19, ok⟩ := ok
  refine y_Vv 55 (M := mX8_set) (As := [(0, fX8_make w 3 (fX8_sum w 2 (fX8_sum w (fX8_length w a1) (fX8_length w a2))) 4), (0, 3), (0, a2)]) (st := []) dX8_pair_35 i27 rfl q1975 q1977 qs38 q375 q1978 rfl hmX8_set rfl rfl rfl rfl rfl rfl rfl (vX8_set (Nat.le_trans (Nat.le_of_ble_eq_true rfl) hn) (fX8_make w 3 (fX8_sum w 2 (fX8_sum w (fX8_length w a1) (fX8_length w a2))) 4) 3 a2 e19 ?_)
  refine x_iload_n 3 dX8_pair_38 rfl rfl rfl ?_
  exact y_iret dX8_pair_39 rfl k
def fX8_cons (w : bW) (a1 : Int) (a2 : Int) : Int := fX8_make w 7 (fX8_sum w (fX8_length w a1) (fX8_length w a2)) 5
def gX8_cons (w : bW) (a1 : Int) (a2 : Int) : bW := (gX8_set (gX8_set (gX8_set (gX8_make w 7 (fX8_sum w (fX8_length w a1) (fX8_length w a2)) 5) (fX8_make w 7 (fX8_sum w (fX8_length w a1) (fX8_length w a2)) 5) 2 a1) (fX8_make w 7 (fX8_sum w (fX8_length w a1) (fX8_length w a2)) 5) 3 a2) (fX8_make w 7 (fX8_sum w (fX8_length w a1) (fX8_length w a2)) 5) 4 (b_i (1 + (fX8_listCount (gX8_set (gX8_set (gX8_make w 7 (fX8_sum w (fX8_length w a1) (fX8_length w a2)) 5) (fX8_make w 7 (fX8_sum w (fX8_length w a1) (fX8_length w a2)) 5) 2 a1) (fX8_make w 7 (fX8_sum w (fX8_length w a1) (fX8_length w a2)) 5) 3 a2) a2))))
def oX8_cons (n : Nat) (w : bW) (a1 : Int) (a2 : Int) : Prop := (oX8_length n w a1) ∧ ((oX8_length n w a2) ∧ ((oX8_make n w 7 (fX8_sum w (fX8_length w a1) (fX8_length w a2)) 5) ∧ ((oX8_set n (gX8_make w 7 (fX8_sum w (fX8_length w a1) (fX8_length w a2)) 5) (fX8_make w 7 (fX8_sum w (fX8_length w a1) (fX8_length w a2)) 5) 2 a1) ∧ ((oX8_set n (gX8_set (gX8_make w 7 (fX8_sum w (fX8_length w a1) (fX8_length w a2)) 5) (fX8_make w 7 (fX8_sum w (fX8_length w a1) (fX8_length w a2)) 5) 2 a1) (fX8_make w 7 (fX8_sum w (fX8_length w a1) (fX8_length w a2)) 5) 3 a2) ∧ ((oX8_listCount n (gX8_set (gX8_set (gX8_make w 7 (fX8_sum w (fX8_length w a1) (fX8_length w a2)) 5) (fX8_make w 7 (fX8_sum w (fX8_length w a1) (fX8_length w a2)) 5) 2 a1) (fX8_make w 7 (fX8_sum w (fX8_length w a1) (fX8_length w a2)) 5) 3 a2) a2) ∧ ((oX8_set n (gX8_set (gX8_set (gX8_make w 7 (fX8_sum w (fX8_length w a1) (fX8_length w a2)) 5) (fX8_make w 7 (fX8_sum w (fX8_length w a1) (fX8_length w a2)) 5) 2 a1) (fX8_make w 7 (fX8_sum w (fX8_length w a1) (fX8_length w a2)) 5) 3 a2) (fX8_make w 7 (fX8_sum w (fX8_length w a1) (fX8_length w a2)) 5) 4 (b_i (1 + (fX8_listCount (gX8_set (gX8_set (gX8_make w 7 (fX8_sum w (fX8_length w a1) (fX8_length w a2)) 5) (fX8_make w 7 (fX8_sum w (fX8_length w a1) (fX8_length w a2)) 5) 2 a1) (fX8_make w 7 (fX8_sum w (fX8_length w a1) (fX8_length w a2)) 5) 3 a2) a2)))) ∧ (True)))))))
theorem vX8_cons {d n : Nat} {w : bW} {Q : Int → bW → Prop} {X : String → bW → Prop} (hn : 143 ≤ n) (a1 : Int) (a2 : Int) (ok : oX8_cons n w a1 a2) (k : Q (fX8_cons w a1 a2) (gX8_cons w a1 a2)) : b_K (d + 4) mX8_cons [(2, 27), (0, a1), (0, a2)] n w Q X := by
  have i27 := iz27 (Nat.le_trans (Nat.le_of_ble_eq_true rfl) hn)
  unfold fX8_cons gX8_cons at k
  unfold oX8_cons at ok
  refine k_of (by decide) rfl rfl rfl (ls := [(2, 27), (0, a1), (0, a2), (9, 0)]) rfl ?_
  refine x_aload_n 0 dX8_cons_0 rfl rfl rfl rfl rfl ?_
  refine x_bipush 7 (z := 7) dX8_cons_1 rfl (by decide) rfl ?_
  refine x_aload_n 0 dX8_cons_3 rfl rfl rfl rfl rfl ?_
  refine x_iload_n 1 dX8_cons_4 rfl rfl rfl ?_
  obtain ⟨e3, ok⟩ := ok
  refine y_Vi 165 (M := mX8_length) (As := [(0, a1)]) (st := [(0, 7), (2, 27)]) dX8_cons_5 i27 rfl q2027 q2028 q2029 q375 q2030 rfl hmX8_length rfl rfl rfl rfl rfl rfl rfl rfl (vX8_length (Nat.le_trans (Nat.le_of_ble_eq_true rfl) hn) a1 e3 ?_)
  refine x_aload_n 0 dX8_cons_8 rfl rfl rfl rfl rfl ?_
  refine x_iload_n 2 dX8_cons_9 rfl rfl rfl ?_
  obtain ⟨e6, ok⟩ := ok
  refine y_Vi 165 (M := mX8_length) (As := [(0, a2)]) (st := [(0, fX8_length w a1), (0, 7), (2, 27)]) dX8_cons_10 i27 rfl q2027 q2028 q2029 q375 q2030 rfl hmX8_length rfl rfl rfl rfl rfl rfl rfl rfl (vX8_length (Nat.le_trans (Nat.le_of_ble_eq_true rfl) hn) a2 e6 ?_)
  refine y_Si 108 (M := mX8_sum) (As := [(0, fX8_length w a1), (0, fX8_length w a2)]) (st := [(0, 7), (2, 27)]) dX8_cons_13 q2045 q2046 q375 q2047 hmX8_sum rfl rfl rfl rfl rfl rfl rfl rfl (vX8_sum (fX8_length w a1) (fX8_length w a2) ?_)
  refine x_iconst 5 (z := 5) dX8_cons_16 rfl (by decide) rfl ?_
  obtain ⟨e11, ok⟩ := ok
  refine y_Vi 144 (M := mX8_make) (As := [(0, 7), (0, fX8_sum w (fX8_length w a1) (fX8_length w a2)), (0, 5)]) (st := []) dX8_cons_17 i27 rfl q1971 q1973 qs37 q375 q1974 rfl hmX8_make rfl rfl rfl rfl rfl rfl rfl rfl (vX8_make (Nat.le_trans (Nat.le_of_ble_eq_true rfl) hn) 7 (fX8_sum w (fX8_length w a1) (fX8_length w a2)) 5 e11 ?_)
  refine x_istore_n 3 (ls' := [(2, 27), (0, a1), (0, a2), (0, fX8_make w 7 (fX8_sum w (fX8_length w a1) (fX8_length w a2)) 5)]) dX8_cons_20 rfl rfl rfl rfl ?_
  refine x_aload_n 0 dX8_cons_21 rfl rfl rfl rfl rfl ?_
  refine x_iload_n 3 dX8_cons_22 rfl rfl rfl ?_
  refine x_iconst 2 (z := 2) dX8_cons_23 rfl (by decide) rfl ?_
  refine x_iload_n 1 dX8_cons_24 rfl rfl rfl ?_
  obtain ⟨e14, ok⟩ := ok
  refine y_Vv 55 (M := mX8_set) (As := [(0, fX8_make w 7 (fX8_sum w (fX8_length w a1) (fX8_length w a2)) 5), (0, 2), (0, a1)]) (st := []) dX8_cons_25 i27 rfl q1975 q1977 qs38 q375 q1978 rfl hmX8_set rfl rfl rfl rfl rfl rfl rfl (vX8_set (Nat.le_trans (Nat.le_of_ble_eq_true rfl) hn) (fX8_make w 7 (fX8_sum w (fX8_length w a1) (fX8_length w a2)) 5) 2 a1 e14 ?_)
  refine x_aload_n 0 dX8_cons_28 rfl rfl rfl rfl rfl ?_
  refine x_iload_n 3 dX8_cons_29 rfl rfl rfl ?_
  refine x_iconst 3 (z := 3) dX8_cons_30 rfl (by decide) rfl ?_
  refine x_iload_n 2 dX8_cons_31 rfl rfl rfl ?_
  obtain ⟨e17, ok⟩ := ok
  refine y_Vv 55 (M := mX8_set) (As := [(0, fX8_make w 7 (fX8_sum w (fX8_length w a1) (fX8_length w a2)) 5), (0, 3), (0, a2)]) (st := []) dX8_cons_32 i27 rfl q1975 q1977 qs38 q375 q1978 rfl hmX8_set rfl rfl rfl rfl rfl rfl rfl (vX8_set (Nat.le_trans (Nat.le_of_ble_eq_true rfl) hn) (fX8_make w 7 (fX8_sum w (fX8_length w a1) (fX8_length w a2)) 5) 3 a2 e17 ?_)
  refine x_aload_n 0 dX8_cons_35 rfl rfl rfl rfl rfl ?_
  refine x_iload_n 3 dX8_cons_36 rfl rfl rfl ?_
  refine x_iconst 4 (z := 4) dX8_cons_37 rfl (by decide) rfl ?_
  refine x_iconst 1 (z := 1) dX8_cons_38 rfl (by decide) rfl ?_
  refine x_aload_n 0 dX8_cons_39 rfl rfl rfl rfl rfl ?_
  refine x_iload_n 2 dX8_cons_40 rfl rfl rfl ?_
  obtain ⟨e20, ok⟩ := ok
  refine y_Vi 168 (M := mX8_listCount) (As := [(0, a2)]) (st := [(0, 1), (0, 4), (0, fX8_make w 7 (fX8_sum w (fX8_length w a1) (fX8_length w a2)) 5), (2, 27)]) dX8_cons_41 i27 rfl q2066 q2067 q2068 q375 q2069 rfl hmX8_listCount rfl rfl rfl rfl rfl rfl rfl rfl (vX8_listCount (Nat.le_trans (Nat.le_of_ble_eq_true rfl) hn) a2 e20 ?_)
  refine x_iadd dX8_cons_44 rfl ?_
  obtain ⟨e23, ok⟩ := ok
  refine y_Vv 55 (M := mX8_set) (As := [(0, fX8_make w 7 (fX8_sum w (fX8_length w a1) (fX8_length w a2)) 5), (0, 4), (0, b_i (1 + (fX8_listCount (gX8_set (gX8_set (gX8_make w 7 (fX8_sum w (fX8_length w a1) (fX8_length w a2)) 5) (fX8_make w 7 (fX8_sum w (fX8_length w a1) (fX8_length w a2)) 5) 2 a1) (fX8_make w 7 (fX8_sum w (fX8_length w a1) (fX8_length w a2)) 5) 3 a2) a2)))]) (st := []) dX8_cons_45 i27 rfl q1975 q1977 qs38 q375 q1978 rfl hmX8_set rfl rfl rfl rfl rfl rfl rfl (vX8_set (Nat.le_trans (Nat.le_of_ble_eq_true rfl) hn) (fX8_make w 7 (fX8_sum w (fX8_length w a1) (fX8_length w a2)) 5) 4 (b_i (1 + (fX8_listCount (gX8_set (gX8_set (gX8_make w 7 (fX8_sum w (fX8_length w a1) (fX8_length w a2)) 5) (fX8_make w 7 (fX8_sum w (fX8_length w a1) (fX8_length w a2)) 5) 2 a1) (fX8_make w 7 (fX8_sum w (fX8_length w a1) (fX8_length w a2)) 5) 3 a2) a2))) e23 ?_)
  refine x_iload_n 3 dX8_cons_48 rfl rfl rfl ?_
  exact y_iret dX8_cons_49 rfl k
def fX8_lambda (w : bW) (a1 : Int) (a2 : Int) (a3 : Int) : Int := fX8_make w 9 40 5
def gX8_lambda (w : bW) (a1 : Int) (a2 : Int) (a3 : Int) : bW := (gX8_set (gX8_set (gX8_set (gX8_make w 9 40 5) (fX8_make w 9 40 5) 2 a1) (fX8_make w 9 40 5) 3 a2) (fX8_make w 9 40 5) 4 a3)
def oX8_lambda (n : Nat) (w : bW) (a1 : Int) (a2 : Int) (a3 : Int) : Prop := (oX8_make n w 9 40 5) ∧ ((oX8_set n (gX8_make w 9 40 5) (fX8_make w 9 40 5) 2 a1) ∧ ((oX8_set n (gX8_set (gX8_make w 9 40 5) (fX8_make w 9 40 5) 2 a1) (fX8_make w 9 40 5) 3 a2) ∧ ((oX8_set n (gX8_set (gX8_set (gX8_make w 9 40 5) (fX8_make w 9 40 5) 2 a1) (fX8_make w 9 40 5) 3 a2) (fX8_make w 9 40 5) 4 a3) ∧ (True))))
theorem vX8_lambda {d n : Nat} {w : bW} {Q : Int → bW → Prop} {X : String → bW → Prop} (hn : 143 ≤ n) (a1 : Int) (a2 : Int) (a3 : Int) (ok : oX8_lambda n w a1 a2 a3) (k : Q (fX8_lambda w a1 a2 a3) (gX8_lambda w a1 a2 a3)) : b_K (d + 3) mX8_lambda [(2, 27), (0, a1), (0, a2), (0, a3)] n w Q X := by
  have i27 := iz27 (Nat.le_trans (Nat.le_of_ble_eq_true rfl) hn)
  unfold fX8_lambda gX8_lambda at k
  unfold oX8_lambda at ok
  refine k_of (by decide) rfl rfl rfl (ls := [(2, 27), (0, a1), (0, a2), (0, a3), (9, 0)]) rfl ?_
  refine x_aload_n 0 dX8_lambda_0 rfl rfl rfl rfl rfl ?_
  refine x_bipush 9 (z := 9) dX8_lambda_1 rfl (by decide) rfl ?_
  refine x_bipush 40 (z := 40) dX8_lambda_3 rfl (by decide) rfl ?_
  refine x_iconst 5 (z := 5) dX8_lambda_5 rfl (by decide) rfl ?_
  obtain ⟨e3, ok⟩ := ok
  refine y_Vi 144 (M := mX8_make) (As := [(0, 9), (0, 40), (0, 5)]) (st := []) dX8_lambda_6 i27 rfl q1971 q1973 qs37 q375 q1974 rfl hmX8_make rfl rfl rfl rfl rfl rfl rfl rfl (vX8_make (Nat.le_trans (Nat.le_of_ble_eq_true rfl) hn) 9 40 5 e3 ?_)
  refine x_istore 4 (ls' := [(2, 27), (0, a1), (0, a2), (0, a3), (0, fX8_make w 9 40 5)]) dX8_lambda_9 rfl rfl rfl ?_
  refine x_aload_n 0 dX8_lambda_11 rfl rfl rfl rfl rfl ?_
  refine x_iload 4 dX8_lambda_12 rfl rfl ?_
  refine x_iconst 2 (z := 2) dX8_lambda_14 rfl (by decide) rfl ?_
  refine x_iload_n 1 dX8_lambda_15 rfl rfl rfl ?_
  obtain ⟨e6, ok⟩ := ok
  refine y_Vv 55 (M := mX8_set) (As := [(0, fX8_make w 9 40 5), (0, 2), (0, a1)]) (st := []) dX8_lambda_16 i27 rfl q1975 q1977 qs38 q375 q1978 rfl hmX8_set rfl rfl rfl rfl rfl rfl rfl (vX8_set (Nat.le_trans (Nat.le_of_ble_eq_true rfl) hn) (fX8_make w 9 40 5) 2 a1 e6 ?_)
  refine x_aload_n 0 dX8_lambda_19 rfl rfl rfl rfl rfl ?_
  refine x_iload 4 dX8_lambda_20 rfl rfl ?_
  refine x_iconst 3 (z := 3) dX8_lambda_22 rfl (by decide) rfl ?_
  refine x_iload_n 2 dX8_lambda_23 rfl rfl rfl ?_
  obtain ⟨e9, ok⟩ := ok
  refine y_Vv 55 (M := mX8_set) (As := [(0, fX8_make w 9 40 5), (0, 3), (0, a2)]) (st := []) dX8_lambda_24 i27 rfl q1975 q1977 qs38 q375 q1978 rfl hmX8_set rfl rfl rfl rfl rfl rfl rfl (vX8_set (Nat.le_trans (Nat.le_of_ble_eq_true rfl) hn) (fX8_make w 9 40 5) 3 a2 e9 ?_)
  refine x_aload_n 0 dX8_lambda_27 rfl rfl rfl rfl rfl ?_
  refine x_iload 4 dX8_lambda_28 rfl rfl ?_
  refine x_iconst 4 (z := 4) dX8_lambda_30 rfl (by decide) rfl ?_
  refine x_iload_n 3 dX8_lambda_31 rfl rfl rfl ?_
  obtain ⟨e12, ok⟩ := ok
  refine y_Vv 55 (M := mX8_set) (As := [(0, fX8_make w 9 40 5), (0, 4), (0, a3)]) (st := []) dX8_lambda_32 i27 rfl q1975 q1977 qs38 q375 q1978 rfl hmX8_set rfl rfl rfl rfl rfl rfl rfl (vX8_set (Nat.le_trans (Nat.le_of_ble_eq_true rfl) hn) (fX8_make w 9 40 5) 4 a3 e12 ?_)
  refine x_iload 4 dX8_lambda_35 rfl rfl ?_
  exact y_iret dX8_lambda_37 rfl k
def fX8_contract (w : bW) (a1 : Int) (a2 : Int) : Int := fX8_make w 10 40 4
def gX8_contract (w : bW) (a1 : Int) (a2 : Int) : bW := (gX8_set (gX8_set (gX8_make w 10 40 4) (fX8_make w 10 40 4) 2 a1) (fX8_make w 10 40 4) 3 a2)
def oX8_contract (n : Nat) (w : bW) (a1 : Int) (a2 : Int) : Prop := (oX8_make n w 10 40 4) ∧ ((oX8_set n (gX8_make w 10 40 4) (fX8_make w 10 40 4) 2 a1) ∧ ((oX8_set n (gX8_set (gX8_make w 10 40 4) (fX8_make w 10 40 4) 2 a1) (fX8_make w 10 40 4) 3 a2) ∧ (True)))
theorem vX8_contract {d n : Nat} {w : bW} {Q : Int → bW → Prop} {X : String → bW → Prop} (hn : 143 ≤ n) (a1 : Int) (a2 : Int) (ok : oX8_contract n w a1 a2) (k : Q (fX8_contract w a1 a2) (gX8_contract w a1 a2)) : b_K (d + 3) mX8_contract [(2, 27), (0, a1), (0, a2)] n w Q X := by
  have i27 := iz27 (Nat.le_trans (Nat.le_of_ble_eq_true rfl) hn)
  unfold fX8_contract gX8_contract at k
  unfold oX8_contract at ok
  refine k_of (by decide) rfl rfl rfl (ls := [(2, 27), (0, a1), (0, a2), (9, 0)]) rfl ?_
  refine x_aload_n 0 dX8_contract_0 rfl rfl rfl rfl rfl ?_
  refine x_bipush 10 (z := 10) dX8_contract_1 rfl (by decide) rfl ?_
  refine x_bipush 40 (z := 40) dX8_contract_3 rfl (by decide) rfl ?_
  refine x_iconst 4 (z := 4) dX8_contract_5 rfl (by decide) rfl ?_
  obtain ⟨e3, ok⟩ := ok
  refine y_Vi 144 (M := mX8_make) (As := [(0, 10), (0, 40), (0, 4)]) (st := []) dX8_contract_6 i27 rfl q1971 q1973 qs37 q375 q1974 rfl hmX8_make rfl rfl rfl rfl rfl rfl rfl rfl (vX8_make (Nat.le_trans (Nat.le_of_ble_eq_true rfl) hn) 10 40 4 e3 ?_)
  refine x_istore_n 3 (ls' := [(2, 27), (0, a1), (0, a2), (0, fX8_make w 10 40 4)]) dX8_contract_9 rfl rfl rfl rfl ?_
  refine x_aload_n 0 dX8_contract_10 rfl rfl rfl rfl rfl ?_
  refine x_iload_n 3 dX8_contract_11 rfl rfl rfl ?_
  refine x_iconst 2 (z := 2) dX8_contract_12 rfl (by decide) rfl ?_
  refine x_iload_n 1 dX8_contract_13 rfl rfl rfl ?_
  obtain ⟨e6, ok⟩ := ok
  refine y_Vv 55 (M := mX8_set) (As := [(0, fX8_make w 10 40 4), (0, 2), (0, a1)]) (st := []) dX8_contract_14 i27 rfl q1975 q1977 qs38 q375 q1978 rfl hmX8_set rfl rfl rfl rfl rfl rfl rfl (vX8_set (Nat.le_trans (Nat.le_of_ble_eq_true rfl) hn) (fX8_make w 10 40 4) 2 a1 e6 ?_)
  refine x_aload_n 0 dX8_contract_17 rfl rfl rfl rfl rfl ?_
  refine x_iload_n 3 dX8_contract_18 rfl rfl rfl ?_
  refine x_iconst 3 (z := 3) dX8_contract_19 rfl (by decide) rfl ?_
  refine x_iload_n 2 dX8_contract_20 rfl rfl rfl ?_
  obtain ⟨e9, ok⟩ := ok
  refine y_Vv 55 (M := mX8_set) (As := [(0, fX8_make w 10 40 4), (0, 3), (0, a2)]) (st := []) dX8_contract_21 i27 rfl q1975 q1977 qs38 q375 q1978 rfl hmX8_set rfl rfl rfl rfl rfl rfl rfl (vX8_set (Nat.le_trans (Nat.le_of_ble_eq_true rfl) hn) (fX8_make w 10 40 4) 3 a2 e9 ?_)
  refine x_iload_n 3 dX8_contract_24 rfl rfl rfl ?_
  exact y_iret dX8_contract_25 rfl k
def fX8_operation (w : bW) (a1 : Int) (a2 : Int) (a3 : Int) (a4 : Int) (a5 : Int) : Int := fX8_make w 11 40 8
def gX8_operation (w : bW) (a1 : Int) (a2 : Int) (a3 : Int) (a4 : Int) (a5 : Int) : bW := (gX8_set (gX8_set (gX8_set (gX8_set (gX8_set (gX8_set (gX8_make w 11 40 8) (fX8_make w 11 40 8) 2 a1) (fX8_make w 11 40 8) 3 a2) (fX8_make w 11 40 8) 4 0) (fX8_make w 11 40 8) 5 a3) (fX8_make w 11 40 8) 6 a4) (fX8_make w 11 40 8) 7 a5)
def oX8_operation (n : Nat) (w : bW) (a1 : Int) (a2 : Int) (a3 : Int) (a4 : Int) (a5 : Int) : Prop := (oX8_make n w 11 40 8) ∧ ((oX8_set n (gX8_make w 11 40 8) (fX8_make w 11 40 8) 2 a1) ∧ ((oX8_set n (gX8_set (gX8_make w 11 40 8) (fX8_make w 11 40 8) 2 a1) (fX8_make w 11 40 8) 3 a2) ∧ ((oX8_set n (gX8_set (gX8_set (gX8_make w 11 40 8) (fX8_make w 11 40 8) 2 a1) (fX8_make w 11 40 8) 3 a2) (fX8_make w 11 40 8) 4 0) ∧ ((oX8_set n (gX8_set (gX8_set (gX8_set (gX8_make w 11 40 8) (fX8_make w 11 40 8) 2 a1) (fX8_make w 11 40 8) 3 a2) (fX8_make w 11 40 8) 4 0) (fX8_make w 11 40 8) 5 a3) ∧ ((oX8_set n (gX8_set (gX8_set (gX8_set (gX8_set (gX8_make w 11 40 8) (fX8_make w 11 40 8) 2 a1) (fX8_make w 11 40 8) 3 a2) (fX8_make w 11 40 8) 4 0) (fX8_make w 11 40 8) 5 a3) (fX8_make w 11 40 8) 6 a4) ∧ ((oX8_set n (gX8_set (gX8_set (gX8_set (gX8_set (gX8_set (gX8_make w 11 40 8) (fX8_make w 11 40 8) 2 a1) (fX8_make w 11 40 8) 3 a2) (fX8_make w 11 40 8) 4 0) (fX8_make w 11 40 8) 5 a3) (fX8_make w 11 40 8) 6 a4) (fX8_make w 11 40 8) 7 a5) ∧ (True)))))))
theorem vX8_operation {d n : Nat} {w : bW} {Q : Int → bW → Prop} {X : String → bW → Prop} (hn : 143 ≤ n) (a1 : Int) (a2 : Int) (a3 : Int) (a4 : Int) (a5 : Int) (ok : oX8_operation n w a1 a2 a3 a4 a5) (k : Q (fX8_operation w a1 a2 a3 a4 a5) (gX8_operation w a1 a2 a3 a4 a5)) : b_K (d + 3) mX8_operation [(2, 27), (0, a1), (0, a2), (0, a3), (0, a4), (0, a5)] n w Q X := by
  have i27 := iz27 (Nat.le_trans (Nat.le_of_ble_eq_true rfl) hn)
  unfold fX8_operation gX8_operation at k
  unfold oX8_operation at ok
  refine k_of (by decide) rfl rfl rfl (ls := [(2, 27), (0, a1), (0, a2), (0, a3), (0, a4), (0, a5), (9, 0)]) rfl ?_
  refine x_aload_n 0 dX8_operation_0 rfl rfl rfl rfl rfl ?_
  refine x_bipush 11 (z := 11) dX8_operation_1 rfl (by decide) rfl ?_
  refine x_bipush 40 (z := 40) dX8_operation_3 rfl (by decide) rfl ?_
  refine x_bipush 8 (z := 8) dX8_operation_5 rfl (by decide) rfl ?_
  obtain ⟨e3, ok⟩ := ok
  refine y_Vi 144 (M := mX8_make) (As := [(0, 11), (0, 40), (0, 8)]) (st := []) dX8_operation_7 i27 rfl q1971 q1973 qs37 q375 q1974 rfl hmX8_make rfl rfl rfl rfl rfl rfl rfl rfl (vX8_make (Nat.le_trans (Nat.le_of_ble_eq_true rfl) hn) 11 40 8 e3 ?_)
  refine x_istore 6 (ls' := [(2, 27), (0, a1), (0, a2), (0, a3), (0, a4), (0, a5), (0, fX8_make w 11 40 8)]) dX8_operation_10 rfl rfl rfl ?_
  refine x_aload_n 0 dX8_operation_12 rfl rfl rfl rfl rfl ?_
  refine x_iload 6 dX8_operation_13 rfl rfl ?_
  refine x_iconst 2 (z := 2) dX8_operation_15 rfl (by decide) rfl ?_
  refine x_iload_n 1 dX8_operation_16 rfl rfl rfl ?_
  obtain ⟨e6, ok⟩ := ok
  refine y_Vv 55 (M := mX8_set) (As := [(0, fX8_make w 11 40 8), (0, 2), (0, a1)]) (st := []) dX8_operation_17 i27 rfl q1975 q1977 qs38 q375 q1978 rfl hmX8_set rfl rfl rfl rfl rfl rfl rfl (vX8_set (Nat.le_trans (Nat.le_of_ble_eq_true rfl) hn) (fX8_make w 11 40 8) 2 a1 e6 ?_)
  refine x_aload_n 0 dX8_operation_20 rfl rfl rfl rfl rfl ?_
  refine x_iload 6 dX8_operation_21 rfl rfl ?_
  refine x_iconst 3 (z := 3) dX8_operation_23 rfl (by decide) rfl ?_
  refine x_iload_n 2 dX8_operation_24 rfl rfl rfl ?_
  obtain ⟨e9, ok⟩ := ok
  refine y_Vv 55 (M := mX8_set) (As := [(0, fX8_make w 11 40 8), (0, 3), (0, a2)]) (st := []) dX8_operation_25 i27 rfl q1975 q1977 qs38 q375 q1978 rfl hmX8_set rfl rfl rfl rfl rfl rfl rfl (vX8_set (Nat.le_trans (Nat.le_of_ble_eq_true rfl) hn) (fX8_make w 11 40 8) 3 a2 e9 ?_)
  refine x_aload_n 0 dX8_operation_28 rfl rfl rfl rfl rfl ?_
  refine x_iload 6 dX8_operation_29 rfl rfl ?_
  refine x_iconst 4 (z := 4) dX8_operation_31 rfl (by decide) rfl ?_
  refine x_iconst 0 (z := 0) dX8_operation_32 rfl (by decide) rfl ?_
  obtain ⟨e12, ok⟩ := ok
  refine y_Vv 55 (M := mX8_set) (As := [(0, fX8_make w 11 40 8), (0, 4), (0, 0)]) (st := []) dX8_operation_33 i27 rfl q1975 q1977 qs38 q375 q1978 rfl hmX8_set rfl rfl rfl rfl rfl rfl rfl (vX8_set (Nat.le_trans (Nat.le_of_ble_eq_true rfl) hn) (fX8_make w 11 40 8) 4 0 e12 ?_)
  refine x_aload_n 0 dX8_operation_36 rfl rfl rfl rfl rfl ?_
  refine x_iload 6 dX8_operation_37 rfl rfl ?_
  refine x_iconst 5 (z := 5) dX8_operation_39 rfl (by decide) rfl ?_
  refine x_iload_n 3 dX8_operation_40 rfl rfl rfl ?_
  obtain ⟨e15, ok⟩ := ok
  refine y_Vv 55 (M := mX8_set) (As := [(0, fX8_make w 11 40 8), (0, 5), (0, a3)]) (st := []) dX8_operation_41 i27 rfl q1975 q1977 qs38 q375 q1978 rfl hmX8_set rfl rfl rfl rfl rfl rfl rfl (vX8_set (Nat.le_trans (Nat.le_of_ble_eq_true rfl) hn) (fX8_make w 11 40 8) 5 a3 e15 ?_)
  refine x_aload_n 0 dX8_operation_44 rfl rfl rfl rfl rfl ?_
  refine x_iload 6 dX8_operation_45 rfl rfl ?_
  refine x_bipush 6 (z := 6) dX8_operation_47 rfl (by decide) rfl ?_
  refine x_iload 4 dX8_operation_49 rfl rfl ?_
  obtain ⟨e18, ok⟩ := ok
  refine y_Vv 55 (M := mX8_set) (As := [(0, fX8_make w 11 40 8), (0, 6), (0, a4)]) (st := []) dX8_operation_51 i27 rfl q1975 q1977 qs38 q375 q1978 rfl hmX8_set rfl rfl rfl rfl rfl rfl rfl (vX8_set (Nat.le_trans (Nat.le_of_ble_eq_true rfl) hn) (fX8_make w 11 40 8) 6 a4 e18 ?_)
  refine x_aload_n 0 dX8_operation_54 rfl rfl rfl rfl rfl ?_
  refine x_iload 6 dX8_operation_55 rfl rfl ?_
  refine x_bipush 7 (z := 7) dX8_operation_57 rfl (by decide) rfl ?_
  refine x_iload 5 dX8_operation_59 rfl rfl ?_
  obtain ⟨e21, ok⟩ := ok
  refine y_Vv 55 (M := mX8_set) (As := [(0, fX8_make w 11 40 8), (0, 7), (0, a5)]) (st := []) dX8_operation_61 i27 rfl q1975 q1977 qs38 q375 q1978 rfl hmX8_set rfl rfl rfl rfl rfl rfl rfl (vX8_set (Nat.le_trans (Nat.le_of_ble_eq_true rfl) hn) (fX8_make w 11 40 8) 7 a5 e21 ?_)
  refine x_iload 6 dX8_operation_64 rfl rfl ?_
  exact y_iret dX8_operation_66 rfl k
def fX13_eat (w : bW) (a1 : Int) (a2 : Int) : Int := (if fX13_peek w 0 ≠ a1 then 0 else (if fX13_peek w 1 ≠ a2 then 0 else 1))
def gX13_eat (w : bW) (a1 : Int) (a2 : Int) : bW := (if fX13_peek w 0 ≠ a1 then (b_up w 46 9 (b_i ((w 46 9) + 0))) else (if fX13_peek w 1 ≠ a2 then (b_up w 46 9 (b_i ((w 46 9) + 0))) else (b_up w 46 9 (b_i ((w 46 9) + 2)))))
def oX13_eat (n : Nat) (w : bW) (a1 : Int) (a2 : Int) : Prop := (oX13_peek n w 0) ∧ (if fX13_peek w 0 ≠ a1 then True else ((oX13_peek n w 1) ∧ (True)))
theorem vX13_eat {d n : Nat} {w : bW} {Q : Int → bW → Prop} {X : String → bW → Prop} (hn : 143 ≤ n) (a1 : Int) (a2 : Int) (ok : oX13_eat n w a1 a2) (k : Q (fX13_eat w a1 a2) (gX13_eat w a1 a2)) : b_K (d + 4) mX13_eat [(2, 46), (0, a1), (0, a2)] n w Q X := by
  have i46 := iz46 (Nat.le_trans (Nat.le_of_ble_eq_true rfl) hn)
  unfold fX13_eat gX13_eat at k
  unfold oX13_eat at ok
  refine k_of (by decide) rfl rfl rfl (ls := [(2, 46), (0, a1), (0, a2), (9, 0)]) rfl ?_
  refine x_aload_n 0 dX13_eat_0 rfl rfl rfl rfl rfl ?_
  refine x_iconst 0 (z := 0) dX13_eat_1 rfl (by decide) rfl ?_
  obtain ⟨e3, ok⟩ := ok
  refine y_Vi 144 (M := mX13_peek) (As := [(0, 0)]) (st := []) dX13_eat_2 i46 rfl q2875 q2877 qs154 q380 q2878 rfl hmX13_peek rfl rfl rfl rfl rfl rfl rfl rfl (vX13_peek (Nat.le_trans (Nat.le_of_ble_eq_true rfl) hn) 0 e3 ?_)
  refine x_iload_n 1 dX13_eat_5 rfl rfl rfl ?_
  refine x_icmp_ne (t := 22) 16 dX13_eat_6 rfl rfl (b_itq ok k (fun hc ok k => ?_) (fun hc ok k => ?_))
  · refine x_iconst 0 (z := 0) dX13_eat_22 rfl (by decide) rfl ?_
    refine x_istore_n 3 (ls' := [(2, 46), (0, a1), (0, a2), (0, 0)]) dX13_eat_23 rfl rfl rfl rfl ?_
    refine x_aload_n 0 dX13_eat_24 rfl rfl rfl rfl rfl ?_
    refine x_dup dX13_eat_25 rfl rfl ?_
    refine y_get 130 9 (c := 12) (z := w 46 9) dX13_eat_26 i46 rfl in_X13 q940 rfl rfl rfl rfl rfl ?_
    refine x_iload_n 3 dX13_eat_29 rfl rfl rfl ?_
    refine x_if_eq (t := 37) 7 dX13_eat_30 rfl rfl (b_ifT (by decide) ?_)
    refine x_iconst 0 (z := 0) dX13_eat_37 rfl (by decide) rfl ?_
    refine x_iadd dX13_eat_38 rfl ?_
    refine x_put 130 9 (c := 12) dX13_eat_39 i46 rfl in_X13 tyX13_ok nmX13 q940 rfl rfl rfl (Or.inl rfl) (Or.inl ⟨rfl, rfl⟩) rfl ?_
    refine x_iload_n 3 dX13_eat_42 rfl rfl rfl ?_
    exact y_zret dX13_eat_43 rfl (by decide) k
  · refine x_aload_n 0 dX13_eat_9 rfl rfl rfl rfl rfl ?_
    refine x_iconst 1 (z := 1) dX13_eat_10 rfl (by decide) rfl ?_
    obtain ⟨e6, ok⟩ := ok
    refine y_Vi 144 (M := mX13_peek) (As := [(0, 1)]) (st := []) dX13_eat_11 i46 rfl q2875 q2877 qs154 q380 q2878 rfl hmX13_peek rfl rfl rfl rfl rfl rfl rfl rfl (vX13_peek (Nat.le_trans (Nat.le_of_ble_eq_true rfl) hn) 1 e6 ?_)
    refine x_iload_n 2 dX13_eat_14 rfl rfl rfl ?_
    refine x_icmp_ne (t := 22) 7 dX13_eat_15 rfl rfl (b_itq (b_tt _) k (fun hc ok k => ?_) (fun hc ok k => ?_))
    · refine x_iconst 0 (z := 0) dX13_eat_22 rfl (by decide) rfl ?_
      refine x_istore_n 3 (ls' := [(2, 46), (0, a1), (0, a2), (0, 0)]) dX13_eat_23 rfl rfl rfl rfl ?_
      refine x_aload_n 0 dX13_eat_24 rfl rfl rfl rfl rfl ?_
      refine x_dup dX13_eat_25 rfl rfl ?_
      refine y_get 130 9 (c := 12) (z := w 46 9) dX13_eat_26 i46 rfl in_X13 q940 rfl rfl rfl rfl rfl ?_
      refine x_iload_n 3 dX13_eat_29 rfl rfl rfl ?_
      refine x_if_eq (t := 37) 7 dX13_eat_30 rfl rfl (b_ifT (by decide) ?_)
      refine x_iconst 0 (z := 0) dX13_eat_37 rfl (by decide) rfl ?_
      refine x_iadd dX13_eat_38 rfl ?_
      refine x_put 130 9 (c := 12) dX13_eat_39 i46 rfl in_X13 tyX13_ok nmX13 q940 rfl rfl rfl (Or.inl rfl) (Or.inl ⟨rfl, rfl⟩) rfl ?_
      refine x_iload_n 3 dX13_eat_42 rfl rfl rfl ?_
      exact y_zret dX13_eat_43 rfl (by decide) k
    · refine x_iconst 1 (z := 1) dX13_eat_18 rfl (by decide) rfl ?_
      refine x_goto 4 (q := 23) dX13_eat_19 rfl ?_
      refine x_istore_n 3 (ls' := [(2, 46), (0, a1), (0, a2), (0, 1)]) dX13_eat_23 rfl rfl rfl rfl ?_
      refine x_aload_n 0 dX13_eat_24 rfl rfl rfl rfl rfl ?_
      refine x_dup dX13_eat_25 rfl rfl ?_
      refine y_get 130 9 (c := 12) (z := w 46 9) dX13_eat_26 i46 rfl in_X13 q940 rfl rfl rfl rfl rfl ?_
      refine x_iload_n 3 dX13_eat_29 rfl rfl rfl ?_
      refine x_if_eq (t := 37) 7 dX13_eat_30 rfl rfl (b_ifF (by decide) ?_)
      refine x_iconst 2 (z := 2) dX13_eat_33 rfl (by decide) rfl ?_
      refine x_goto 4 (q := 38) dX13_eat_34 rfl ?_
      refine x_iadd dX13_eat_38 rfl ?_
      refine x_put 130 9 (c := 12) dX13_eat_39 i46 rfl in_X13 tyX13_ok nmX13 q940 rfl rfl rfl (Or.inl rfl) (Or.inl ⟨rfl, rfl⟩) rfl ?_
      refine x_iload_n 3 dX13_eat_42 rfl rfl rfl ?_
      exact y_zret dX13_eat_43 rfl (by decide) k
def fX16_isPart (w : bW) (a1 : Int) (a2 : Int) : Int := fX4_isBare w a1 a2 1
def oX16_isPart (n : Nat) (w : bW) (a1 : Int) (a2 : Int) : Prop := (oX4_isBare n w a1 a2 1) ∧ ((fX4_isBare w a1 a2 1 = 0 ∨ fX4_isBare w a1 a2 1 = 1))
theorem vX16_isPart {d n : Nat} {w : bW} {Q : Int → bW → Prop} {X : String → bW → Prop} (hn : 143 ≤ n) (a1 : Int) (a2 : Int) (ok : oX16_isPart n w a1 a2) (k : Q (fX16_isPart w a1 a2) w) : b_K (d + 3) mX16_isPart [(2, 65), (0, a1), (0, a2)] n w Q X := by
  have i6 := iz6 (Nat.le_trans (Nat.le_of_ble_eq_true rfl) hn)
  have i65 := iz65 (Nat.le_trans (Nat.le_of_ble_eq_true rfl) hn)
  unfold fX16_isPart at k
  unfold oX16_isPart at ok
  refine k_of (by decide) rfl rfl rfl (ls := [(2, 65), (0, a1), (0, a2)]) rfl ?_
  refine x_aload_n 0 dX16_isPart_0 rfl rfl rfl rfl rfl ?_
  refine y_getF 28 0 (c := 15) (z := 6) dX16_isPart_1 i65 rfl in_X16 q1099 rfl rfl rfl fn_65_0 (Nat.le_trans (Nat.le_of_ble_eq_true rfl) hn) rfl ?_
  refine x_iload_n 1 dX16_isPart_4 rfl rfl rfl ?_
  refine x_iload_n 2 dX16_isPart_5 rfl rfl rfl ?_
  refine x_iconst 1 (z := 1) dX16_isPart_6 rfl (by decide) rfl ?_
  obtain ⟨e3, ok⟩ := ok
  refine y_Vi 79 (M := mX4_isBare) (As := [(0, a1), (0, a2), (0, 1)]) (st := []) dX16_isPart_7 i6 rfl q1837 q1838 q1839 q371 q1840 rfl hmX4_isBare rfl rfl rfl rfl rfl rfl rfl rfl (vX4_isBare (Nat.le_trans (Nat.le_of_ble_eq_true rfl) hn) a1 a2 1 e3 ?_)
  exact y_zret dX16_isPart_10 rfl ok k
def fX19_length (w : bW) (a1 : Int) : Int := fX8_length w (fX19_at w a1)
def oX19_length (n : Nat) (w : bW) (a1 : Int) : Prop := (oX19_at n w a1) ∧ ((oX8_length n w (fX19_at w a1)) ∧ (True))
theorem vX19_length {d n : Nat} {w : bW} {Q : Int → bW → Prop} {X : String → bW → Prop} (hn : 143 ≤ n) (a1 : Int) (ok : oX19_length n w a1) (k : Q (fX19_length w a1) w) : b_K (d + 4) mX19_length [(2, 83), (0, a1)] n w Q X := by
  have i27 := iz27 (Nat.le_trans (Nat.le_of_ble_eq_true rfl) hn)
  have i83 := iz83 (Nat.le_trans (Nat.le_of_ble_eq_true rfl) hn)
  unfold fX19_length at k
  unfold oX19_length at ok
  refine k_of (by decide) rfl rfl rfl (ls := [(2, 83), (0, a1)]) rfl ?_
  refine x_aload_n 0 dX19_length_0 rfl rfl rfl rfl rfl ?_
  refine y_getF 54 0 (c := 18) (z := 27) dX19_length_1 i83 rfl in_X19 q1292 rfl rfl rfl fn_83_0 (Nat.le_trans (Nat.le_of_ble_eq_true rfl) hn) rfl ?_
  refine x_aload_n 0 dX19_length_4 rfl rfl rfl rfl rfl ?_
  refine x_iload_n 1 dX19_length_5 rfl rfl rfl ?_
  obtain ⟨e3, ok⟩ := ok
  refine y_Vi 102 (M := mX19_at) (As := [(0, a1)]) (st := [(2, 27)]) dX19_length_6 i83 rfl q2651 q2653 qs125 q386 q2654 rfl hmX19_at rfl rfl rfl rfl rfl rfl rfl rfl (vX19_at (Nat.le_trans (Nat.le_of_ble_eq_true rfl) hn) a1 e3 ?_)
  obtain ⟨e6, ok⟩ := ok
  refine y_Vi 106 (M := mX8_length) (As := [(0, fX19_at w a1)]) (st := []) dX19_length_9 i27 rfl q2650 q2028 q2029 q375 q2030 rfl hmX8_length rfl rfl rfl rfl rfl rfl rfl rfl (vX8_length (Nat.le_trans (Nat.le_of_ble_eq_true rfl) hn) (fX19_at w a1) e6 ?_)
  exact y_iret dX19_length_12 rfl k
def fX8_wrap (w : bW) (a1 : Int) (a2 : Int) : Int := fX8_make w a1 (fX8_sum w 2 (fX8_length w a2)) 3
def gX8_wrap (w : bW) (a1 : Int) (a2 : Int) : bW := (gX8_set (gX8_make w a1 (fX8_sum w 2 (fX8_length w a2)) 3) (fX8_make w a1 (fX8_sum w 2 (fX8_length w a2)) 3) 2 a2)
def oX8_wrap (n : Nat) (w : bW) (a1 : Int) (a2 : Int) : Prop := (oX8_length n w a2) ∧ ((oX8_make n w a1 (fX8_sum w 2 (fX8_length w a2)) 3) ∧ ((oX8_set n (gX8_make w a1 (fX8_sum w 2 (fX8_length w a2)) 3) (fX8_make w a1 (fX8_sum w 2 (fX8_length w a2)) 3) 2 a2) ∧ (True)))
theorem vX8_wrap {d n : Nat} {w : bW} {Q : Int → bW → Prop} {X : String → bW → Prop} (hn : 143 ≤ n) (a1 : Int) (a2 : Int) (ok : oX8_wrap n w a1 a2) (k : Q (fX8_wrap w a1 a2) (gX8_wrap w a1 a2)) : b_K (d + 4) mX8_wrap [(2, 27), (0, a1), (0, a2)] n w Q X := by
  have i27 := iz27 (Nat.le_trans (Nat.le_of_ble_eq_true rfl) hn)
  unfold fX8_wrap gX8_wrap at k
  unfold oX8_wrap at ok
  refine k_of (by decide) rfl rfl rfl (ls := [(2, 27), (0, a1), (0, a2), (9, 0)]) rfl ?_
  refine x_aload_n 0 dX8_wrap_0 rfl rfl rfl rfl rfl ?_
  refine x_iload_n 1 dX8_wrap_1 rfl rfl rfl ?_
  refine x_iconst 2 (z := 2) dX8_wrap_2 rfl (by decide) rfl ?_
  refine x_aload_n 0 dX8_wrap_3 rfl rfl rfl rfl rfl ?_
  refine x_iload_n 2 dX8_wrap_4 rfl rfl rfl ?_
  obtain ⟨e3, ok⟩ := ok
  refine y_Vi 165 (M := mX8_length) (As := [(0, a2)]) (st := [(0, 2), (0, a1), (2, 27)]) dX8_wrap_5 i27 rfl q2027 q2028 q2029 q375 q2030 rfl hmX8_length rfl rfl rfl rfl rfl rfl rfl rfl (vX8_length (Nat.le_trans (Nat.le_of_ble_eq_true rfl) hn) a2 e3 ?_)
  refine y_Si 108 (M := mX8_sum) (As := [(0, 2), (0, fX8_length w a2)]) (st := [(0, a1), (2, 27)]) dX8_wrap_8 q2045 q2046 q375 q2047 hmX8_sum rfl rfl rfl rfl rfl rfl rfl rfl (vX8_sum 2 (fX8_length w a2) ?_)
  refine x_iconst 3 (z := 3) dX8_wrap_11 rfl (by decide) rfl ?_
  obtain ⟨e8, ok⟩ := ok
  refine y_Vi 144 (M := mX8_make) (As := [(0, a1), (0, fX8_sum w 2 (fX8_length w a2)), (0, 3)]) (st := []) dX8_wrap_12 i27 rfl q1971 q1973 qs37 q375 q1974 rfl hmX8_make rfl rfl rfl rfl rfl rfl rfl rfl (vX8_make (Nat.le_trans (Nat.le_of_ble_eq_true rfl) hn) a1 (fX8_sum w 2 (fX8_length w a2)) 3 e8 ?_)
  refine x_istore_n 3 (ls' := [(2, 27), (0, a1), (0, a2), (0, fX8_make w a1 (fX8_sum w 2 (fX8_length w a2)) 3)]) dX8_wrap_15 rfl rfl rfl rfl ?_
  refine x_aload_n 0 dX8_wrap_16 rfl rfl rfl rfl rfl ?_
  refine x_iload_n 3 dX8_wrap_17 rfl rfl rfl ?_
  refine x_iconst 2 (z := 2) dX8_wrap_18 rfl (by decide) rfl ?_
  refine x_iload_n 2 dX8_wrap_19 rfl rfl rfl ?_
  obtain ⟨e11, ok⟩ := ok
  refine y_Vv 55 (M := mX8_set) (As := [(0, fX8_make w a1 (fX8_sum w 2 (fX8_length w a2)) 3), (0, 2), (0, a2)]) (st := []) dX8_wrap_20 i27 rfl q1975 q1977 qs38 q375 q1978 rfl hmX8_set rfl rfl rfl rfl rfl rfl rfl (vX8_set (Nat.le_trans (Nat.le_of_ble_eq_true rfl) hn) (fX8_make w a1 (fX8_sum w 2 (fX8_length w a2)) 3) 2 a2 e11 ?_)
  refine x_iload_n 3 dX8_wrap_23 rfl rfl rfl ?_
  exact y_iret dX8_wrap_24 rfl k
end BridgeFn
