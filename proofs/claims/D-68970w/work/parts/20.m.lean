section BridgeM
set_option maxRecDepth 100000
theorem fg0 : b_fg [] [] := trivial
theorem fgk {a : bV} {r s : List bV} (h : b_fg r s) : b_fg (a :: r) (a :: s) := ⟨Or.inr rfl, h⟩
theorem fgd {b : bV} {r s : List bV} (h : b_fg r s) : b_fg ((9, 0) :: r) (b :: s) := ⟨Or.inl rfl, h⟩
abbrev mJ11_numberOfLeadingZeros : bM := (yJ11_numberOfLeadingZeros, cJ11_numberOfLeadingZeros, 2, some .int, [])
theorem hmJ11_numberOfLeadingZeros : (mJ11_numberOfLeadingZeros).1.cls ≠ "java/lang/invoke/MethodHandle" ∧ (mJ11_numberOfLeadingZeros).1.cls ≠ "java/lang/invoke/VarHandle" ∧ (parseMethodDescriptor (mJ11_numberOfLeadingZeros).1.desc).map (fun d => d.parameters.length) = some 1 := by decide +kernel
abbrev mJ4_length : bM := (yJ4_length, cJ4_length, 1, some .int, [])
theorem hmJ4_length : (mJ4_length).1.cls ≠ "java/lang/invoke/MethodHandle" ∧ (mJ4_length).1.cls ≠ "java/lang/invoke/VarHandle" ∧ (parseMethodDescriptor (mJ4_length).1.desc).map (fun d => d.parameters.length) = some 0 := by decide +kernel
abbrev mJ4_coder : bM := (yJ4_coder, cJ4_coder, 1, some .byte, [])
theorem hmJ4_coder : (mJ4_coder).1.cls ≠ "java/lang/invoke/MethodHandle" ∧ (mJ4_coder).1.cls ≠ "java/lang/invoke/VarHandle" ∧ (parseMethodDescriptor (mJ4_coder).1.desc).map (fun d => d.parameters.length) = some 0 := by decide +kernel
abbrev mJ4_indexOf : bM := (yJ4_indexOf, cJ4_indexOf, 3, some .int, [])
theorem hmJ4_indexOf : (mJ4_indexOf).1.cls ≠ "java/lang/invoke/MethodHandle" ∧ (mJ4_indexOf).1.cls ≠ "java/lang/invoke/VarHandle" ∧ (parseMethodDescriptor (mJ4_indexOf).1.desc).map (fun d => d.parameters.length) = some 2 := by decide +kernel
abbrev mJ4_isLatin1 : bM := (yJ4_isLatin1, cJ4_isLatin1, 1, some .boolean, [])
theorem hmJ4_isLatin1 : (mJ4_isLatin1).1.cls ≠ "java/lang/invoke/MethodHandle" ∧ (mJ4_isLatin1).1.cls ≠ "java/lang/invoke/VarHandle" ∧ (parseMethodDescriptor (mJ4_isLatin1).1.desc).map (fun d => d.parameters.length) = some 0 := by decide +kernel
abbrev mJ4_checkBoundsBeginEnd : bM := (yJ4_checkBoundsBeginEnd, cJ4_checkBoundsBeginEnd, 3, none, [])
theorem hmJ4_checkBoundsBeginEnd : (mJ4_checkBoundsBeginEnd).1.cls ≠ "java/lang/invoke/MethodHandle" ∧ (mJ4_checkBoundsBeginEnd).1.cls ≠ "java/lang/invoke/VarHandle" ∧ (parseMethodDescriptor (mJ4_checkBoundsBeginEnd).1.desc).map (fun d => d.parameters.length) = some 3 := by decide +kernel
abbrev mJ4_charAt : bM := (yJ4_charAt, cJ4_charAt, 2, some .char, [])
theorem hmJ4_charAt : (mJ4_charAt).1.cls ≠ "java/lang/invoke/MethodHandle" ∧ (mJ4_charAt).1.cls ≠ "java/lang/invoke/VarHandle" ∧ (parseMethodDescriptor (mJ4_charAt).1.desc).map (fun d => d.parameters.length) = some 1 := by decide +kernel
abbrev mJ4_checkIndex : bM := (yJ4_checkIndex, cJ4_checkIndex, 2, none, [])
theorem hmJ4_checkIndex : (mJ4_checkIndex).1.cls ≠ "java/lang/invoke/MethodHandle" ∧ (mJ4_checkIndex).1.cls ≠ "java/lang/invoke/VarHandle" ∧ (parseMethodDescriptor (mJ4_checkIndex).1.desc).map (fun d => d.parameters.length) = some 2 := by decide +kernel
abbrev mJ5_indexOf : bM := (yJ5_indexOf, cJ5_indexOf, 4, some .int, [])
theorem hmJ5_indexOf : (mJ5_indexOf).1.cls ≠ "java/lang/invoke/MethodHandle" ∧ (mJ5_indexOf).1.cls ≠ "java/lang/invoke/VarHandle" ∧ (parseMethodDescriptor (mJ5_indexOf).1.desc).map (fun d => d.parameters.length) = some 4 := by decide +kernel
abbrev mJ5_canEncode : bM := (yJ5_canEncode, cJ5_canEncode, 1, some .boolean, [])
theorem hmJ5_canEncode : (mJ5_canEncode).1.cls ≠ "java/lang/invoke/MethodHandle" ∧ (mJ5_canEncode).1.cls ≠ "java/lang/invoke/VarHandle" ∧ (parseMethodDescriptor (mJ5_canEncode).1.desc).map (fun d => d.parameters.length) = some 1 := by decide +kernel
abbrev mJ5_indexOfChar : bM := (yJ5_indexOfChar, cJ5_indexOfChar, 6, some .int, [])
theorem hmJ5_indexOfChar : (mJ5_indexOfChar).1.cls ≠ "java/lang/invoke/MethodHandle" ∧ (mJ5_indexOfChar).1.cls ≠ "java/lang/invoke/VarHandle" ∧ (parseMethodDescriptor (mJ5_indexOfChar).1.desc).map (fun d => d.parameters.length) = some 4 := by decide +kernel
abbrev mJ5_charAt : bM := (yJ5_charAt, cJ5_charAt, 2, some .char, [])
theorem hmJ5_charAt : (mJ5_charAt).1.cls ≠ "java/lang/invoke/MethodHandle" ∧ (mJ5_charAt).1.cls ≠ "java/lang/invoke/VarHandle" ∧ (parseMethodDescriptor (mJ5_charAt).1.desc).map (fun d => d.parameters.length) = some 2 := by decide +kernel
abbrev mJ7_indexOf : bM := (yJ7_indexOf, cJ7_indexOf, 4, some .int, [])
theorem hmJ7_indexOf : (mJ7_indexOf).1.cls ≠ "java/lang/invoke/MethodHandle" ∧ (mJ7_indexOf).1.cls ≠ "java/lang/invoke/VarHandle" ∧ (parseMethodDescriptor (mJ7_indexOf).1.desc).map (fun d => d.parameters.length) = some 4 := by decide +kernel
abbrev mJ7_indexOfChar : bM := (yJ7_indexOfChar, cJ7_indexOfChar, 4, some .int, [])
theorem hmJ7_indexOfChar : (mJ7_indexOfChar).1.cls ≠ "java/lang/invoke/MethodHandle" ∧ (mJ7_indexOfChar).1.cls ≠ "java/lang/invoke/VarHandle" ∧ (parseMethodDescriptor (mJ7_indexOfChar).1.desc).map (fun d => d.parameters.length) = some 4 := by decide +kernel
abbrev mJ7_checkBoundsBeginEnd : bM := (yJ7_checkBoundsBeginEnd, cJ7_checkBoundsBeginEnd, 3, none, [])
theorem hmJ7_checkBoundsBeginEnd : (mJ7_checkBoundsBeginEnd).1.cls ≠ "java/lang/invoke/MethodHandle" ∧ (mJ7_checkBoundsBeginEnd).1.cls ≠ "java/lang/invoke/VarHandle" ∧ (parseMethodDescriptor (mJ7_checkBoundsBeginEnd).1.desc).map (fun d => d.parameters.length) = some 3 := by decide +kernel
abbrev mJ7_length : bM := (yJ7_length, cJ7_length, 1, some .int, [])
theorem hmJ7_length : (mJ7_length).1.cls ≠ "java/lang/invoke/MethodHandle" ∧ (mJ7_length).1.cls ≠ "java/lang/invoke/VarHandle" ∧ (parseMethodDescriptor (mJ7_length).1.desc).map (fun d => d.parameters.length) = some 1 := by decide +kernel
abbrev mJ7_indexOfCharUnsafe : bM := (yJ7_indexOfCharUnsafe, cJ7_indexOfCharUnsafe, 5, some .int, [])
theorem hmJ7_indexOfCharUnsafe : (mJ7_indexOfCharUnsafe).1.cls ≠ "java/lang/invoke/MethodHandle" ∧ (mJ7_indexOfCharUnsafe).1.cls ≠ "java/lang/invoke/VarHandle" ∧ (parseMethodDescriptor (mJ7_indexOfCharUnsafe).1.desc).map (fun d => d.parameters.length) = some 4 := by decide +kernel
abbrev mJ7_getChar : bM := (yJ7_getChar, cJ7_getChar, 2, some .char, [])
theorem hmJ7_getChar : (mJ7_getChar).1.cls ≠ "java/lang/invoke/MethodHandle" ∧ (mJ7_getChar).1.cls ≠ "java/lang/invoke/VarHandle" ∧ (parseMethodDescriptor (mJ7_getChar).1.desc).map (fun d => d.parameters.length) = some 2 := by decide +kernel
abbrev mJ7_indexOfSupplementary : bM := (yJ7_indexOfSupplementary, cJ7_indexOfSupplementary, 7, some .int, [])
theorem hmJ7_indexOfSupplementary : (mJ7_indexOfSupplementary).1.cls ≠ "java/lang/invoke/MethodHandle" ∧ (mJ7_indexOfSupplementary).1.cls ≠ "java/lang/invoke/VarHandle" ∧ (parseMethodDescriptor (mJ7_indexOfSupplementary).1.desc).map (fun d => d.parameters.length) = some 4 := by decide +kernel
abbrev mJ7_charAt : bM := (yJ7_charAt, cJ7_charAt, 2, some .char, [])
theorem hmJ7_charAt : (mJ7_charAt).1.cls ≠ "java/lang/invoke/MethodHandle" ∧ (mJ7_charAt).1.cls ≠ "java/lang/invoke/VarHandle" ∧ (parseMethodDescriptor (mJ7_charAt).1.desc).map (fun d => d.parameters.length) = some 2 := by decide +kernel
abbrev mJ7_checkIndex : bM := (yJ7_checkIndex, cJ7_checkIndex, 2, none, [])
theorem hmJ7_checkIndex : (mJ7_checkIndex).1.cls ≠ "java/lang/invoke/MethodHandle" ∧ (mJ7_checkIndex).1.cls ≠ "java/lang/invoke/VarHandle" ∧ (parseMethodDescriptor (mJ7_checkIndex).1.desc).map (fun d => d.parameters.length) = some 2 := by decide +kernel
abbrev mJ8_checkFromToIndex : bM := (yJ8_checkFromToIndex, cJ8_checkFromToIndex, 4, some .int, [])
theorem hmJ8_checkFromToIndex : (mJ8_checkFromToIndex).1.cls ≠ "java/lang/invoke/MethodHandle" ∧ (mJ8_checkFromToIndex).1.cls ≠ "java/lang/invoke/VarHandle" ∧ (parseMethodDescriptor (mJ8_checkFromToIndex).1.desc).map (fun d => d.parameters.length) = some 4 := by decide +kernel
abbrev mJ8_checkIndex : bM := (yJ8_checkIndex, cJ8_checkIndex, 3, some .int, [])
theorem hmJ8_checkIndex : (mJ8_checkIndex).1.cls ≠ "java/lang/invoke/MethodHandle" ∧ (mJ8_checkIndex).1.cls ≠ "java/lang/invoke/VarHandle" ∧ (parseMethodDescriptor (mJ8_checkIndex).1.desc).map (fun d => d.parameters.length) = some 3 := by decide +kernel
abbrev mJ9_isValidCodePoint : bM := (yJ9_isValidCodePoint, cJ9_isValidCodePoint, 2, some .boolean, [])
theorem hmJ9_isValidCodePoint : (mJ9_isValidCodePoint).1.cls ≠ "java/lang/invoke/MethodHandle" ∧ (mJ9_isValidCodePoint).1.cls ≠ "java/lang/invoke/VarHandle" ∧ (parseMethodDescriptor (mJ9_isValidCodePoint).1.desc).map (fun d => d.parameters.length) = some 1 := by decide +kernel
abbrev mJ9_highSurrogate : bM := (yJ9_highSurrogate, cJ9_highSurrogate, 1, some .char, [])
theorem hmJ9_highSurrogate : (mJ9_highSurrogate).1.cls ≠ "java/lang/invoke/MethodHandle" ∧ (mJ9_highSurrogate).1.cls ≠ "java/lang/invoke/VarHandle" ∧ (parseMethodDescriptor (mJ9_highSurrogate).1.desc).map (fun d => d.parameters.length) = some 1 := by decide +kernel
abbrev mJ9_lowSurrogate : bM := (yJ9_lowSurrogate, cJ9_lowSurrogate, 1, some .char, [])
theorem hmJ9_lowSurrogate : (mJ9_lowSurrogate).1.cls ≠ "java/lang/invoke/MethodHandle" ∧ (mJ9_lowSurrogate).1.cls ≠ "java/lang/invoke/VarHandle" ∧ (parseMethodDescriptor (mJ9_lowSurrogate).1.desc).map (fun d => d.parameters.length) = some 1 := by decide +kernel
abbrev mX0_feed : bM := (yX0_feed, cX0_feed, 7, some .int, [(0, 11, 14, 13)])
theorem hmX0_feed : (mX0_feed).1.cls ≠ "java/lang/invoke/MethodHandle" ∧ (mX0_feed).1.cls ≠ "java/lang/invoke/VarHandle" ∧ (parseMethodDescriptor (mX0_feed).1.desc).map (fun d => d.parameters.length) = some 6 := by decide +kernel
abbrev mX0_end : bM := (yX0_end, cX0_end, 4, some .int, [(0, 9, 12, 19)])
theorem hmX0_end : (mX0_end).1.cls ≠ "java/lang/invoke/MethodHandle" ∧ (mX0_end).1.cls ≠ "java/lang/invoke/VarHandle" ∧ (parseMethodDescriptor (mX0_end).1.desc).map (fun d => d.parameters.length) = some 3 := by decide +kernel
abbrev mX1_check : bM := (yX1_check, cX1_check, 2, some .int, [])
theorem hmX1_check : (mX1_check).1.cls ≠ "java/lang/invoke/MethodHandle" ∧ (mX1_check).1.cls ≠ "java/lang/invoke/VarHandle" ∧ (parseMethodDescriptor (mX1_check).1.desc).map (fun d => d.parameters.length) = some 0 := by decide +kernel
abbrev mX1_reads : bM := (yX1_reads, cX1_reads, 2, some .boolean, [])
theorem hmX1_reads : (mX1_reads).1.cls ≠ "java/lang/invoke/MethodHandle" ∧ (mX1_reads).1.cls ≠ "java/lang/invoke/VarHandle" ∧ (parseMethodDescriptor (mX1_reads).1.desc).map (fun d => d.parameters.length) = some 0 := by decide +kernel
abbrev mX1_place : bM := (yX1_place, cX1_place, 1, some .int, [])
theorem hmX1_place : (mX1_place).1.cls ≠ "java/lang/invoke/MethodHandle" ∧ (mX1_place).1.cls ≠ "java/lang/invoke/VarHandle" ∧ (parseMethodDescriptor (mX1_place).1.desc).map (fun d => d.parameters.length) = some 0 := by decide +kernel
abbrev mX1_form : bM := (yX1_form, cX1_form, 4, some .int, [])
theorem hmX1_form : (mX1_form).1.cls ≠ "java/lang/invoke/MethodHandle" ∧ (mX1_form).1.cls ≠ "java/lang/invoke/VarHandle" ∧ (parseMethodDescriptor (mX1_form).1.desc).map (fun d => d.parameters.length) = some 0 := by decide +kernel
abbrev mX1_write : bM := (yX1_write, cX1_write, 3, none, [])
theorem hmX1_write : (mX1_write).1.cls ≠ "java/lang/invoke/MethodHandle" ∧ (mX1_write).1.cls ≠ "java/lang/invoke/VarHandle" ∧ (parseMethodDescriptor (mX1_write).1.desc).map (fun d => d.parameters.length) = some 2 := by decide +kernel
abbrev mX1_account : bM := (yX1_account, cX1_account, 4, some .int, [])
theorem hmX1_account : (mX1_account).1.cls ≠ "java/lang/invoke/MethodHandle" ∧ (mX1_account).1.cls ≠ "java/lang/invoke/VarHandle" ∧ (parseMethodDescriptor (mX1_account).1.desc).map (fun d => d.parameters.length) = some 1 := by decide +kernel
abbrev mX1_now : bM := (yX1_now, cX1_now, 4, some .boolean, [])
theorem hmX1_now : (mX1_now).1.cls ≠ "java/lang/invoke/MethodHandle" ∧ (mX1_now).1.cls ≠ "java/lang/invoke/VarHandle" ∧ (parseMethodDescriptor (mX1_now).1.desc).map (fun d => d.parameters.length) = some 2 := by decide +kernel
abbrev mX1_batch : bM := (yX1_batch, cX1_batch, 3, some .boolean, [])
theorem hmX1_batch : (mX1_batch).1.cls ≠ "java/lang/invoke/MethodHandle" ∧ (mX1_batch).1.cls ≠ "java/lang/invoke/VarHandle" ∧ (parseMethodDescriptor (mX1_batch).1.desc).map (fun d => d.parameters.length) = some 2 := by decide +kernel
abbrev mX1_isAccount : bM := (yX1_isAccount, cX1_isAccount, 2, some .boolean, [])
theorem hmX1_isAccount : (mX1_isAccount).1.cls ≠ "java/lang/invoke/MethodHandle" ∧ (mX1_isAccount).1.cls ≠ "java/lang/invoke/VarHandle" ∧ (parseMethodDescriptor (mX1_isAccount).1.desc).map (fun d => d.parameters.length) = some 1 := by decide +kernel
abbrev mX1_limits : bM := (yX1_limits, cX1_limits, 5, some .boolean, [])
theorem hmX1_limits : (mX1_limits).1.cls ≠ "java/lang/invoke/MethodHandle" ∧ (mX1_limits).1.cls ≠ "java/lang/invoke/VarHandle" ∧ (parseMethodDescriptor (mX1_limits).1.desc).map (fun d => d.parameters.length) = some 3 := by decide +kernel
abbrev mX1_content : bM := (yX1_content, cX1_content, 5, some .int, [])
theorem hmX1_content : (mX1_content).1.cls ≠ "java/lang/invoke/MethodHandle" ∧ (mX1_content).1.cls ≠ "java/lang/invoke/VarHandle" ∧ (parseMethodDescriptor (mX1_content).1.desc).map (fun d => d.parameters.length) = some 2 := by decide +kernel
abbrev mX1_apply : bM := (yX1_apply, cX1_apply, 4, some .int, [])
theorem hmX1_apply : (mX1_apply).1.cls ≠ "java/lang/invoke/MethodHandle" ∧ (mX1_apply).1.cls ≠ "java/lang/invoke/VarHandle" ∧ (parseMethodDescriptor (mX1_apply).1.desc).map (fun d => d.parameters.length) = some 0 := by decide +kernel
abbrev mX1_doContents : bM := (yX1_doContents, cX1_doContents, 4, some .int, [])
theorem hmX1_doContents : (mX1_doContents).1.cls ≠ "java/lang/invoke/MethodHandle" ∧ (mX1_doContents).1.cls ≠ "java/lang/invoke/VarHandle" ∧ (parseMethodDescriptor (mX1_doContents).1.desc).map (fun d => d.parameters.length) = some 0 := by decide +kernel
abbrev mX1_receipt : bM := (yX1_receipt, cX1_receipt, 4, some .int, [])
theorem hmX1_receipt : (mX1_receipt).1.cls ≠ "java/lang/invoke/MethodHandle" ∧ (mX1_receipt).1.cls ≠ "java/lang/invoke/VarHandle" ∧ (parseMethodDescriptor (mX1_receipt).1.desc).map (fun d => d.parameters.length) = some 2 := by decide +kernel
abbrev mX1_accounts : bM := (yX1_accounts, cX1_accounts, 1, some .int, [])
theorem hmX1_accounts : (mX1_accounts).1.cls ≠ "java/lang/invoke/MethodHandle" ∧ (mX1_accounts).1.cls ≠ "java/lang/invoke/VarHandle" ∧ (parseMethodDescriptor (mX1_accounts).1.desc).map (fun d => d.parameters.length) = some 0 := by decide +kernel
abbrev mX1_contracts : bM := (yX1_contracts, cX1_contracts, 1, some .int, [])
theorem hmX1_contracts : (mX1_contracts).1.cls ≠ "java/lang/invoke/MethodHandle" ∧ (mX1_contracts).1.cls ≠ "java/lang/invoke/VarHandle" ∧ (parseMethodDescriptor (mX1_contracts).1.desc).map (fun d => d.parameters.length) = some 0 := by decide +kernel
abbrev mX1_balance : bM := (yX1_balance, cX1_balance, 4, some .long, [])
theorem hmX1_balance : (mX1_balance).1.cls ≠ "java/lang/invoke/MethodHandle" ∧ (mX1_balance).1.cls ≠ "java/lang/invoke/VarHandle" ∧ (parseMethodDescriptor (mX1_balance).1.desc).map (fun d => d.parameters.length) = some 2 := by decide +kernel
abbrev mX1_contractAt : bM := (yX1_contractAt, cX1_contractAt, 2, some .int, [])
theorem hmX1_contractAt : (mX1_contractAt).1.cls ≠ "java/lang/invoke/MethodHandle" ∧ (mX1_contractAt).1.cls ≠ "java/lang/invoke/VarHandle" ∧ (parseMethodDescriptor (mX1_contractAt).1.desc).map (fun d => d.parameters.length) = some 1 := by decide +kernel
abbrev mX1_counter : bM := (yX1_counter, cX1_counter, 2, some .int, [])
theorem hmX1_counter : (mX1_counter).1.cls ≠ "java/lang/invoke/MethodHandle" ∧ (mX1_counter).1.cls ≠ "java/lang/invoke/VarHandle" ∧ (parseMethodDescriptor (mX1_counter).1.desc).map (fun d => d.parameters.length) = some 1 := by decide +kernel
abbrev mX1_paid : bM := (yX1_paid, cX1_paid, 3, some .int, [])
theorem hmX1_paid : (mX1_paid).1.cls ≠ "java/lang/invoke/MethodHandle" ∧ (mX1_paid).1.cls ≠ "java/lang/invoke/VarHandle" ∧ (parseMethodDescriptor (mX1_paid).1.desc).map (fun d => d.parameters.length) = some 1 := by decide +kernel
abbrev mX1_money : bM := (yX1_money, cX1_money, 2, some .long, [])
theorem hmX1_money : (mX1_money).1.cls ≠ "java/lang/invoke/MethodHandle" ∧ (mX1_money).1.cls ≠ "java/lang/invoke/VarHandle" ∧ (parseMethodDescriptor (mX1_money).1.desc).map (fun d => d.parameters.length) = some 1 := by decide +kernel
abbrev mX1_stored : bM := (yX1_stored, cX1_stored, 1, some .int, [])
theorem hmX1_stored : (mX1_stored).1.cls ≠ "java/lang/invoke/MethodHandle" ∧ (mX1_stored).1.cls ≠ "java/lang/invoke/VarHandle" ∧ (parseMethodDescriptor (mX1_stored).1.desc).map (fun d => d.parameters.length) = some 0 := by decide +kernel
abbrev mX1_storage : bM := (yX1_storage, cX1_storage, 3, some .int, [])
theorem hmX1_storage : (mX1_storage).1.cls ≠ "java/lang/invoke/MethodHandle" ∧ (mX1_storage).1.cls ≠ "java/lang/invoke/VarHandle" ∧ (parseMethodDescriptor (mX1_storage).1.desc).map (fun d => d.parameters.length) = some 1 := by decide +kernel
abbrev mX1_failure : bM := (yX1_failure, cX1_failure, 1, some .int, [])
theorem hmX1_failure : (mX1_failure).1.cls ≠ "java/lang/invoke/MethodHandle" ∧ (mX1_failure).1.cls ≠ "java/lang/invoke/VarHandle" ∧ (parseMethodDescriptor (mX1_failure).1.desc).map (fun d => d.parameters.length) = some 0 := by decide +kernel
abbrev mX1_out : bM := (yX1_out, cX1_out, 2, some .int, [])
theorem hmX1_out : (mX1_out).1.cls ≠ "java/lang/invoke/MethodHandle" ∧ (mX1_out).1.cls ≠ "java/lang/invoke/VarHandle" ∧ (parseMethodDescriptor (mX1_out).1.desc).map (fun d => d.parameters.length) = some 1 := by decide +kernel
abbrev mX1_wrongs : bM := (yX1_wrongs, cX1_wrongs, 1, some .int, [])
theorem hmX1_wrongs : (mX1_wrongs).1.cls ≠ "java/lang/invoke/MethodHandle" ∧ (mX1_wrongs).1.cls ≠ "java/lang/invoke/VarHandle" ∧ (parseMethodDescriptor (mX1_wrongs).1.desc).map (fun d => d.parameters.length) = some 0 := by decide +kernel
abbrev mX1_isWhole : bM := (yX1_isWhole, cX1_isWhole, 1, some .boolean, [])
theorem hmX1_isWhole : (mX1_isWhole).1.cls ≠ "java/lang/invoke/MethodHandle" ∧ (mX1_isWhole).1.cls ≠ "java/lang/invoke/VarHandle" ∧ (parseMethodDescriptor (mX1_isWhole).1.desc).map (fun d => d.parameters.length) = some 0 := by decide +kernel
abbrev mX1_feed : bM := (yX1_feed, cX1_feed, 6, none, [])
theorem hmX1_feed : (mX1_feed).1.cls ≠ "java/lang/invoke/MethodHandle" ∧ (mX1_feed).1.cls ≠ "java/lang/invoke/VarHandle" ∧ (parseMethodDescriptor (mX1_feed).1.desc).map (fun d => d.parameters.length) = some 5 := by decide +kernel
abbrev mX1_take : bM := (yX1_take, cX1_take, 3, none, [])
theorem hmX1_take : (mX1_take).1.cls ≠ "java/lang/invoke/MethodHandle" ∧ (mX1_take).1.cls ≠ "java/lang/invoke/VarHandle" ∧ (parseMethodDescriptor (mX1_take).1.desc).map (fun d => d.parameters.length) = some 1 := by decide +kernel
abbrev mX1_end : bM := (yX1_end, cX1_end, 3, some .int, [])
theorem hmX1_end : (mX1_end).1.cls ≠ "java/lang/invoke/MethodHandle" ∧ (mX1_end).1.cls ≠ "java/lang/invoke/VarHandle" ∧ (parseMethodDescriptor (mX1_end).1.desc).map (fun d => d.parameters.length) = some 1 := by decide +kernel
abbrev mX10_build : bM := (yX10_build, cX10_build, 8, some .int, [])
theorem hmX10_build : (mX10_build).1.cls ≠ "java/lang/invoke/MethodHandle" ∧ (mX10_build).1.cls ≠ "java/lang/invoke/VarHandle" ∧ (parseMethodDescriptor (mX10_build).1.desc).map (fun d => d.parameters.length) = some 4 := by decide +kernel
abbrev mX10_at : bM := (yX10_at, cX10_at, 6, some .int, [])
theorem hmX10_at : (mX10_at).1.cls ≠ "java/lang/invoke/MethodHandle" ∧ (mX10_at).1.cls ≠ "java/lang/invoke/VarHandle" ∧ (parseMethodDescriptor (mX10_at).1.desc).map (fun d => d.parameters.length) = some 2 := by decide +kernel
abbrev mX10_low : bM := (yX10_low, cX10_low, 2, some .int, [])
theorem hmX10_low : (mX10_low).1.cls ≠ "java/lang/invoke/MethodHandle" ∧ (mX10_low).1.cls ≠ "java/lang/invoke/VarHandle" ∧ (parseMethodDescriptor (mX10_low).1.desc).map (fun d => d.parameters.length) = some 1 := by decide +kernel
abbrev mX10_high : bM := (yX10_high, cX10_high, 2, some .int, [])
theorem hmX10_high : (mX10_high).1.cls ≠ "java/lang/invoke/MethodHandle" ∧ (mX10_high).1.cls ≠ "java/lang/invoke/VarHandle" ∧ (parseMethodDescriptor (mX10_high).1.desc).map (fun d => d.parameters.length) = some 1 := by decide +kernel
abbrev mX10_find : bM := (yX10_find, cX10_find, 6, some .int, [])
theorem hmX10_find : (mX10_find).1.cls ≠ "java/lang/invoke/MethodHandle" ∧ (mX10_find).1.cls ≠ "java/lang/invoke/VarHandle" ∧ (parseMethodDescriptor (mX10_find).1.desc).map (fun d => d.parameters.length) = some 3 := by decide +kernel
abbrev mX10_put : bM := (yX10_put, cX10_put, 6, some .int, [])
theorem hmX10_put : (mX10_put).1.cls ≠ "java/lang/invoke/MethodHandle" ∧ (mX10_put).1.cls ≠ "java/lang/invoke/VarHandle" ∧ (parseMethodDescriptor (mX10_put).1.desc).map (fun d => d.parameters.length) = some 4 := by decide +kernel
abbrev mX10_balance : bM := (yX10_balance, cX10_balance, 6, some .int, [])
theorem hmX10_balance : (mX10_balance).1.cls ≠ "java/lang/invoke/MethodHandle" ∧ (mX10_balance).1.cls ≠ "java/lang/invoke/VarHandle" ∧ (parseMethodDescriptor (mX10_balance).1.desc).map (fun d => d.parameters.length) = some 3 := by decide +kernel
abbrev mX10_like : bM := (yX10_like, cX10_like, 4, some .int, [])
theorem hmX10_like : (mX10_like).1.cls ≠ "java/lang/invoke/MethodHandle" ∧ (mX10_like).1.cls ≠ "java/lang/invoke/VarHandle" ∧ (parseMethodDescriptor (mX10_like).1.desc).map (fun d => d.parameters.length) = some 3 := by decide +kernel
abbrev mX10_remove : bM := (yX10_remove, cX10_remove, 5, some .int, [])
theorem hmX10_remove : (mX10_remove).1.cls ≠ "java/lang/invoke/MethodHandle" ∧ (mX10_remove).1.cls ≠ "java/lang/invoke/VarHandle" ∧ (parseMethodDescriptor (mX10_remove).1.desc).map (fun d => d.parameters.length) = some 3 := by decide +kernel
abbrev mX10_first : bM := (yX10_first, cX10_first, 3, some .int, [])
theorem hmX10_first : (mX10_first).1.cls ≠ "java/lang/invoke/MethodHandle" ∧ (mX10_first).1.cls ≠ "java/lang/invoke/VarHandle" ∧ (parseMethodDescriptor (mX10_first).1.desc).map (fun d => d.parameters.length) = some 1 := by decide +kernel
abbrev mX10_withoutFirst : bM := (yX10_withoutFirst, cX10_withoutFirst, 2, some .int, [])
theorem hmX10_withoutFirst : (mX10_withoutFirst).1.cls ≠ "java/lang/invoke/MethodHandle" ∧ (mX10_withoutFirst).1.cls ≠ "java/lang/invoke/VarHandle" ∧ (parseMethodDescriptor (mX10_withoutFirst).1.desc).map (fun d => d.parameters.length) = some 1 := by decide +kernel
abbrev mX11_read : bM := (yX11_read, cX11_read, 7, some .int, [])
theorem hmX11_read : (mX11_read).1.cls ≠ "java/lang/invoke/MethodHandle" ∧ (mX11_read).1.cls ≠ "java/lang/invoke/VarHandle" ∧ (parseMethodDescriptor (mX11_read).1.desc).map (fun d => d.parameters.length) = some 3 := by decide +kernel
abbrev mX11_isMark : bM := (yX11_isMark, cX11_isMark, 4, some .boolean, [])
theorem hmX11_isMark : (mX11_isMark).1.cls ≠ "java/lang/invoke/MethodHandle" ∧ (mX11_isMark).1.cls ≠ "java/lang/invoke/VarHandle" ∧ (parseMethodDescriptor (mX11_isMark).1.desc).map (fun d => d.parameters.length) = some 3 := by decide +kernel
abbrev mX11_read_2 : bM := (yX11_read_2, cX11_read_2, 5, some .int, [])
theorem hmX11_read_2 : (mX11_read_2).1.cls ≠ "java/lang/invoke/MethodHandle" ∧ (mX11_read_2).1.cls ≠ "java/lang/invoke/VarHandle" ∧ (parseMethodDescriptor (mX11_read_2).1.desc).map (fun d => d.parameters.length) = some 2 := by decide +kernel
abbrev mX11_make : bM := (yX11_make, cX11_make, 8, some .int, [])
theorem hmX11_make : (mX11_make).1.cls ≠ "java/lang/invoke/MethodHandle" ∧ (mX11_make).1.cls ≠ "java/lang/invoke/VarHandle" ∧ (parseMethodDescriptor (mX11_make).1.desc).map (fun d => d.parameters.length) = some 5 := by decide +kernel
abbrev mX11_text : bM := (yX11_text, cX11_text, 1, some (.array .byte), [])
theorem hmX11_text : (mX11_text).1.cls ≠ "java/lang/invoke/MethodHandle" ∧ (mX11_text).1.cls ≠ "java/lang/invoke/VarHandle" ∧ (parseMethodDescriptor (mX11_text).1.desc).map (fun d => d.parameters.length) = some 0 := by decide +kernel
abbrev mX12_read : bM := (yX12_read, cX12_read, 4, some .int, [])
theorem hmX12_read : (mX12_read).1.cls ≠ "java/lang/invoke/MethodHandle" ∧ (mX12_read).1.cls ≠ "java/lang/invoke/VarHandle" ∧ (parseMethodDescriptor (mX12_read).1.desc).map (fun d => d.parameters.length) = some 2 := by decide +kernel
abbrev mX12_readNumber : bM := (yX12_readNumber, cX12_readNumber, 4, some .int, [])
theorem hmX12_readNumber : (mX12_readNumber).1.cls ≠ "java/lang/invoke/MethodHandle" ∧ (mX12_readNumber).1.cls ≠ "java/lang/invoke/VarHandle" ∧ (parseMethodDescriptor (mX12_readNumber).1.desc).map (fun d => d.parameters.length) = some 2 := by decide +kernel
abbrev mX12_readString : bM := (yX12_readString, cX12_readString, 3, some .int, [])
theorem hmX12_readString : (mX12_readString).1.cls ≠ "java/lang/invoke/MethodHandle" ∧ (mX12_readString).1.cls ≠ "java/lang/invoke/VarHandle" ∧ (parseMethodDescriptor (mX12_readString).1.desc).map (fun d => d.parameters.length) = some 2 := by decide +kernel
abbrev mX12_unescape : bM := (yX12_unescape, cX12_unescape, 5, some .boolean, [])
theorem hmX12_unescape : (mX12_unescape).1.cls ≠ "java/lang/invoke/MethodHandle" ∧ (mX12_unescape).1.cls ≠ "java/lang/invoke/VarHandle" ∧ (parseMethodDescriptor (mX12_unescape).1.desc).map (fun d => d.parameters.length) = some 1 := by decide +kernel
abbrev mX12_readBytes : bM := (yX12_readBytes, cX12_readBytes, 6, some .int, [])
theorem hmX12_readBytes : (mX12_readBytes).1.cls ≠ "java/lang/invoke/MethodHandle" ∧ (mX12_readBytes).1.cls ≠ "java/lang/invoke/VarHandle" ∧ (parseMethodDescriptor (mX12_readBytes).1.desc).map (fun d => d.parameters.length) = some 1 := by decide +kernel
abbrev mX12_readWrapped : bM := (yX12_readWrapped, cX12_readWrapped, 6, some .int, [])
theorem hmX12_readWrapped : (mX12_readWrapped).1.cls ≠ "java/lang/invoke/MethodHandle" ∧ (mX12_readWrapped).1.cls ≠ "java/lang/invoke/VarHandle" ∧ (parseMethodDescriptor (mX12_readWrapped).1.desc).map (fun d => d.parameters.length) = some 4 := by decide +kernel
abbrev mX12_readComb : bM := (yX12_readComb, cX12_readComb, 6, some .int, [])
theorem hmX12_readComb : (mX12_readComb).1.cls ≠ "java/lang/invoke/MethodHandle" ∧ (mX12_readComb).1.cls ≠ "java/lang/invoke/VarHandle" ∧ (parseMethodDescriptor (mX12_readComb).1.desc).map (fun d => d.parameters.length) = some 2 := by decide +kernel
abbrev mX12_readList : bM := (yX12_readList, cX12_readList, 7, some .int, [])
theorem hmX12_readList : (mX12_readList).1.cls ≠ "java/lang/invoke/MethodHandle" ∧ (mX12_readList).1.cls ≠ "java/lang/invoke/VarHandle" ∧ (parseMethodDescriptor (mX12_readList).1.desc).map (fun d => d.parameters.length) = some 2 := by decide +kernel
abbrev mX12_readTree : bM := (yX12_readTree, cX12_readTree, 10, some .int, [])
theorem hmX12_readTree : (mX12_readTree).1.cls ≠ "java/lang/invoke/MethodHandle" ∧ (mX12_readTree).1.cls ≠ "java/lang/invoke/VarHandle" ∧ (parseMethodDescriptor (mX12_readTree).1.desc).map (fun d => d.parameters.length) = some 3 := by decide +kernel
abbrev mX12_address : bM := (yX12_address, cX12_address, 2, some .int, [])
theorem hmX12_address : (mX12_address).1.cls ≠ "java/lang/invoke/MethodHandle" ∧ (mX12_address).1.cls ≠ "java/lang/invoke/VarHandle" ∧ (parseMethodDescriptor (mX12_address).1.desc).map (fun d => d.parameters.length) = some 1 := by decide +kernel
abbrev mX12_entry : bM := (yX12_entry, cX12_entry, 2, some .int, [])
theorem hmX12_entry : (mX12_entry).1.cls ≠ "java/lang/invoke/MethodHandle" ∧ (mX12_entry).1.cls ≠ "java/lang/invoke/VarHandle" ∧ (parseMethodDescriptor (mX12_entry).1.desc).map (fun d => d.parameters.length) = some 1 := by decide +kernel
abbrev mX13_write : bM := (yX13_write, cX13_write, 5, none, [])
theorem hmX13_write : (mX13_write).1.cls ≠ "java/lang/invoke/MethodHandle" ∧ (mX13_write).1.cls ≠ "java/lang/invoke/VarHandle" ∧ (parseMethodDescriptor (mX13_write).1.desc).map (fun d => d.parameters.length) = some 4 := by decide +kernel
abbrev mX13_put : bM := (yX13_put, cX13_put, 4, none, [])
theorem hmX13_put : (mX13_put).1.cls ≠ "java/lang/invoke/MethodHandle" ∧ (mX13_put).1.cls ≠ "java/lang/invoke/VarHandle" ∧ (parseMethodDescriptor (mX13_put).1.desc).map (fun d => d.parameters.length) = some 2 := by decide +kernel
abbrev mX13_two : bM := (yX13_two, cX13_two, 3, none, [])
theorem hmX13_two : (mX13_two).1.cls ≠ "java/lang/invoke/MethodHandle" ∧ (mX13_two).1.cls ≠ "java/lang/invoke/VarHandle" ∧ (parseMethodDescriptor (mX13_two).1.desc).map (fun d => d.parameters.length) = some 2 := by decide +kernel
abbrev mX13_put_2 : bM := (yX13_put_2, cX13_put_2, 2, none, [])
theorem hmX13_put_2 : (mX13_put_2).1.cls ≠ "java/lang/invoke/MethodHandle" ∧ (mX13_put_2).1.cls ≠ "java/lang/invoke/VarHandle" ∧ (parseMethodDescriptor (mX13_put_2).1.desc).map (fun d => d.parameters.length) = some 1 := by decide +kernel
abbrev mX13_putBytes : bM := (yX13_putBytes, cX13_putBytes, 5, none, [])
theorem hmX13_putBytes : (mX13_putBytes).1.cls ≠ "java/lang/invoke/MethodHandle" ∧ (mX13_putBytes).1.cls ≠ "java/lang/invoke/VarHandle" ∧ (parseMethodDescriptor (mX13_putBytes).1.desc).map (fun d => d.parameters.length) = some 2 := by decide +kernel
abbrev mX13_putInt : bM := (yX13_putInt, cX13_putInt, 3, none, [])
theorem hmX13_putInt : (mX13_putInt).1.cls ≠ "java/lang/invoke/MethodHandle" ∧ (mX13_putInt).1.cls ≠ "java/lang/invoke/VarHandle" ∧ (parseMethodDescriptor (mX13_putInt).1.desc).map (fun d => d.parameters.length) = some 1 := by decide +kernel
abbrev mX13_wrapped : bM := (yX13_wrapped, cX13_wrapped, 4, none, [])
theorem hmX13_wrapped : (mX13_wrapped).1.cls ≠ "java/lang/invoke/MethodHandle" ∧ (mX13_wrapped).1.cls ≠ "java/lang/invoke/VarHandle" ∧ (parseMethodDescriptor (mX13_wrapped).1.desc).map (fun d => d.parameters.length) = some 3 := by decide +kernel
abbrev mX13_putList : bM := (yX13_putList, cX13_putList, 4, none, [])
theorem hmX13_putList : (mX13_putList).1.cls ≠ "java/lang/invoke/MethodHandle" ∧ (mX13_putList).1.cls ≠ "java/lang/invoke/VarHandle" ∧ (parseMethodDescriptor (mX13_putList).1.desc).map (fun d => d.parameters.length) = some 2 := by decide +kernel
abbrev mX13_putTree : bM := (yX13_putTree, cX13_putTree, 4, none, [])
theorem hmX13_putTree : (mX13_putTree).1.cls ≠ "java/lang/invoke/MethodHandle" ∧ (mX13_putTree).1.cls ≠ "java/lang/invoke/VarHandle" ∧ (parseMethodDescriptor (mX13_putTree).1.desc).map (fun d => d.parameters.length) = some 3 := by decide +kernel
abbrev mX13_putNumber : bM := (yX13_putNumber, cX13_putNumber, 5, none, [])
theorem hmX13_putNumber : (mX13_putNumber).1.cls ≠ "java/lang/invoke/MethodHandle" ∧ (mX13_putNumber).1.cls ≠ "java/lang/invoke/VarHandle" ∧ (parseMethodDescriptor (mX13_putNumber).1.desc).map (fun d => d.parameters.length) = some 1 := by decide +kernel
abbrev mX13_bitsAt : bM := (yX13_bitsAt, cX13_bitsAt, 3, some .int, [])
theorem hmX13_bitsAt : (mX13_bitsAt).1.cls ≠ "java/lang/invoke/MethodHandle" ∧ (mX13_bitsAt).1.cls ≠ "java/lang/invoke/VarHandle" ∧ (parseMethodDescriptor (mX13_bitsAt).1.desc).map (fun d => d.parameters.length) = some 1 := by decide +kernel
abbrev mX13_read : bM := (yX13_read, cX13_read, 4, some .int, [])
theorem hmX13_read : (mX13_read).1.cls ≠ "java/lang/invoke/MethodHandle" ∧ (mX13_read).1.cls ≠ "java/lang/invoke/VarHandle" ∧ (parseMethodDescriptor (mX13_read).1.desc).map (fun d => d.parameters.length) = some 2 := by decide +kernel
abbrev mX13_get : bM := (yX13_get, cX13_get, 5, some .int, [])
theorem hmX13_get : (mX13_get).1.cls ≠ "java/lang/invoke/MethodHandle" ∧ (mX13_get).1.cls ≠ "java/lang/invoke/VarHandle" ∧ (parseMethodDescriptor (mX13_get).1.desc).map (fun d => d.parameters.length) = some 1 := by decide +kernel
abbrev mX13_eat : bM := (yX13_eat, cX13_eat, 4, some .boolean, [])
theorem hmX13_eat : (mX13_eat).1.cls ≠ "java/lang/invoke/MethodHandle" ∧ (mX13_eat).1.cls ≠ "java/lang/invoke/VarHandle" ∧ (parseMethodDescriptor (mX13_eat).1.desc).map (fun d => d.parameters.length) = some 2 := by decide +kernel
abbrev mX13_peek : bM := (yX13_peek, cX13_peek, 2, some .int, [])
theorem hmX13_peek : (mX13_peek).1.cls ≠ "java/lang/invoke/MethodHandle" ∧ (mX13_peek).1.cls ≠ "java/lang/invoke/VarHandle" ∧ (parseMethodDescriptor (mX13_peek).1.desc).map (fun d => d.parameters.length) = some 1 := by decide +kernel
abbrev mX13_getBytes : bM := (yX13_getBytes, cX13_getBytes, 7, some .int, [])
theorem hmX13_getBytes : (mX13_getBytes).1.cls ≠ "java/lang/invoke/MethodHandle" ∧ (mX13_getBytes).1.cls ≠ "java/lang/invoke/VarHandle" ∧ (parseMethodDescriptor (mX13_getBytes).1.desc).map (fun d => d.parameters.length) = some 1 := by decide +kernel
abbrev mX13_getCount : bM := (yX13_getCount, cX13_getCount, 2, some .int, [])
theorem hmX13_getCount : (mX13_getCount).1.cls ≠ "java/lang/invoke/MethodHandle" ∧ (mX13_getCount).1.cls ≠ "java/lang/invoke/VarHandle" ∧ (parseMethodDescriptor (mX13_getCount).1.desc).map (fun d => d.parameters.length) = some 0 := by decide +kernel
abbrev mX13_getWrapped : bM := (yX13_getWrapped, cX13_getWrapped, 4, some .int, [])
theorem hmX13_getWrapped : (mX13_getWrapped).1.cls ≠ "java/lang/invoke/MethodHandle" ∧ (mX13_getWrapped).1.cls ≠ "java/lang/invoke/VarHandle" ∧ (parseMethodDescriptor (mX13_getWrapped).1.desc).map (fun d => d.parameters.length) = some 2 := by decide +kernel
abbrev mX13_getSequence : bM := (yX13_getSequence, cX13_getSequence, 8, some .int, [])
theorem hmX13_getSequence : (mX13_getSequence).1.cls ≠ "java/lang/invoke/MethodHandle" ∧ (mX13_getSequence).1.cls ≠ "java/lang/invoke/VarHandle" ∧ (parseMethodDescriptor (mX13_getSequence).1.desc).map (fun d => d.parameters.length) = some 2 := by decide +kernel
abbrev mX13_element : bM := (yX13_element, cX13_element, 7, some .boolean, [])
theorem hmX13_element : (mX13_element).1.cls ≠ "java/lang/invoke/MethodHandle" ∧ (mX13_element).1.cls ≠ "java/lang/invoke/VarHandle" ∧ (parseMethodDescriptor (mX13_element).1.desc).map (fun d => d.parameters.length) = some 3 := by decide +kernel
abbrev mX13_list : bM := (yX13_list, cX13_list, 4, some .int, [])
theorem hmX13_list : (mX13_list).1.cls ≠ "java/lang/invoke/MethodHandle" ∧ (mX13_list).1.cls ≠ "java/lang/invoke/VarHandle" ∧ (parseMethodDescriptor (mX13_list).1.desc).map (fun d => d.parameters.length) = some 1 := by decide +kernel
abbrev mX13_getNumber : bM := (yX13_getNumber, cX13_getNumber, 6, some .int, [])
theorem hmX13_getNumber : (mX13_getNumber).1.cls ≠ "java/lang/invoke/MethodHandle" ∧ (mX13_getNumber).1.cls ≠ "java/lang/invoke/VarHandle" ∧ (parseMethodDescriptor (mX13_getNumber).1.desc).map (fun d => d.parameters.length) = some 1 := by decide +kernel
abbrev mX13_addBits : bM := (yX13_addBits, cX13_addBits, 4, none, [])
theorem hmX13_addBits : (mX13_addBits).1.cls ≠ "java/lang/invoke/MethodHandle" ∧ (mX13_addBits).1.cls ≠ "java/lang/invoke/VarHandle" ∧ (parseMethodDescriptor (mX13_addBits).1.desc).map (fun d => d.parameters.length) = some 2 := by decide +kernel
abbrev mX14_keep : bM := (yX14_keep, cX14_keep, 5, some .int, [])
theorem hmX14_keep : (mX14_keep).1.cls ≠ "java/lang/invoke/MethodHandle" ∧ (mX14_keep).1.cls ≠ "java/lang/invoke/VarHandle" ∧ (parseMethodDescriptor (mX14_keep).1.desc).map (fun d => d.parameters.length) = some 3 := by decide +kernel
abbrev mX14_find : bM := (yX14_find, cX14_find, 5, some .int, [])
theorem hmX14_find : (mX14_find).1.cls ≠ "java/lang/invoke/MethodHandle" ∧ (mX14_find).1.cls ≠ "java/lang/invoke/VarHandle" ∧ (parseMethodDescriptor (mX14_find).1.desc).map (fun d => d.parameters.length) = some 3 := by decide +kernel
abbrev mX14_is : bM := (yX14_is, cX14_is, 7, some .boolean, [])
theorem hmX14_is : (mX14_is).1.cls ≠ "java/lang/invoke/MethodHandle" ∧ (mX14_is).1.cls ≠ "java/lang/invoke/VarHandle" ∧ (parseMethodDescriptor (mX14_is).1.desc).map (fun d => d.parameters.length) = some 4 := by decide +kernel
abbrev mX14_length : bM := (yX14_length, cX14_length, 2, some .int, [])
theorem hmX14_length : (mX14_length).1.cls ≠ "java/lang/invoke/MethodHandle" ∧ (mX14_length).1.cls ≠ "java/lang/invoke/VarHandle" ∧ (parseMethodDescriptor (mX14_length).1.desc).map (fun d => d.parameters.length) = some 1 := by decide +kernel
abbrev mX15_entry : bM := (yX15_entry, cX15_entry, 4, some .int, [])
theorem hmX15_entry : (mX15_entry).1.cls ≠ "java/lang/invoke/MethodHandle" ∧ (mX15_entry).1.cls ≠ "java/lang/invoke/VarHandle" ∧ (parseMethodDescriptor (mX15_entry).1.desc).map (fun d => d.parameters.length) = some 2 := by decide +kernel
abbrev mX15_instruction : bM := (yX15_instruction, cX15_instruction, 6, some .int, [])
theorem hmX15_instruction : (mX15_instruction).1.cls ≠ "java/lang/invoke/MethodHandle" ∧ (mX15_instruction).1.cls ≠ "java/lang/invoke/VarHandle" ∧ (parseMethodDescriptor (mX15_instruction).1.desc).map (fun d => d.parameters.length) = some 4 := by decide +kernel
abbrev mX15_drop : bM := (yX15_drop, cX15_drop, 4, none, [])
theorem hmX15_drop : (mX15_drop).1.cls ≠ "java/lang/invoke/MethodHandle" ∧ (mX15_drop).1.cls ≠ "java/lang/invoke/VarHandle" ∧ (parseMethodDescriptor (mX15_drop).1.desc).map (fun d => d.parameters.length) = some 3 := by decide +kernel
abbrev mX16_type : bM := (yX16_type, cX16_type, 3, some .int, [])
theorem hmX16_type : (mX16_type).1.cls ≠ "java/lang/invoke/MethodHandle" ∧ (mX16_type).1.cls ≠ "java/lang/invoke/VarHandle" ∧ (parseMethodDescriptor (mX16_type).1.desc).map (fun d => d.parameters.length) = some 1 := by decide +kernel
abbrev mX16_open : bM := (yX16_open, cX16_open, 6, some .int, [])
theorem hmX16_open : (mX16_open).1.cls ≠ "java/lang/invoke/MethodHandle" ∧ (mX16_open).1.cls ≠ "java/lang/invoke/VarHandle" ∧ (parseMethodDescriptor (mX16_open).1.desc).map (fun d => d.parameters.length) = some 1 := by decide +kernel
abbrev mX16_isPart : bM := (yX16_isPart, cX16_isPart, 3, some .boolean, [])
theorem hmX16_isPart : (mX16_isPart).1.cls ≠ "java/lang/invoke/MethodHandle" ∧ (mX16_isPart).1.cls ≠ "java/lang/invoke/VarHandle" ∧ (parseMethodDescriptor (mX16_isPart).1.desc).map (fun d => d.parameters.length) = some 2 := by decide +kernel
abbrev mX16_wrong : bM := (yX16_wrong, cX16_wrong, 2, some .int, [])
theorem hmX16_wrong : (mX16_wrong).1.cls ≠ "java/lang/invoke/MethodHandle" ∧ (mX16_wrong).1.cls ≠ "java/lang/invoke/VarHandle" ∧ (parseMethodDescriptor (mX16_wrong).1.desc).map (fun d => d.parameters.length) = some 1 := by decide +kernel
abbrev mX16_entries : bM := (yX16_entries, cX16_entries, 14, some .boolean, [])
theorem hmX16_entries : (mX16_entries).1.cls ≠ "java/lang/invoke/MethodHandle" ∧ (mX16_entries).1.cls ≠ "java/lang/invoke/VarHandle" ∧ (parseMethodDescriptor (mX16_entries).1.desc).map (fun d => d.parameters.length) = some 5 := by decide +kernel
abbrev mX16_entry : bM := (yX16_entry, cX16_entry, 8, none, [])
theorem hmX16_entry : (mX16_entry).1.cls ≠ "java/lang/invoke/MethodHandle" ∧ (mX16_entry).1.cls ≠ "java/lang/invoke/VarHandle" ∧ (parseMethodDescriptor (mX16_entry).1.desc).map (fun d => d.parameters.length) = some 5 := by decide +kernel
abbrev mX16_body : bM := (yX16_body, cX16_body, 9, none, [])
theorem hmX16_body : (mX16_body).1.cls ≠ "java/lang/invoke/MethodHandle" ∧ (mX16_body).1.cls ≠ "java/lang/invoke/VarHandle" ∧ (parseMethodDescriptor (mX16_body).1.desc).map (fun d => d.parameters.length) = some 3 := by decide +kernel
abbrev mX16_code : bM := (yX16_code, cX16_code, 6, some .int, [])
theorem hmX16_code : (mX16_code).1.cls ≠ "java/lang/invoke/MethodHandle" ∧ (mX16_code).1.cls ≠ "java/lang/invoke/VarHandle" ∧ (parseMethodDescriptor (mX16_code).1.desc).map (fun d => d.parameters.length) = some 1 := by decide +kernel
abbrev mX16_instruction : bM := (yX16_instruction, cX16_instruction, 6, some .int, [])
theorem hmX16_instruction : (mX16_instruction).1.cls ≠ "java/lang/invoke/MethodHandle" ∧ (mX16_instruction).1.cls ≠ "java/lang/invoke/VarHandle" ∧ (parseMethodDescriptor (mX16_instruction).1.desc).map (fun d => d.parameters.length) = some 1 := by decide +kernel
abbrev mX16_shuffle : bM := (yX16_shuffle, cX16_shuffle, 7, some .int, [])
theorem hmX16_shuffle : (mX16_shuffle).1.cls ≠ "java/lang/invoke/MethodHandle" ∧ (mX16_shuffle).1.cls ≠ "java/lang/invoke/VarHandle" ∧ (parseMethodDescriptor (mX16_shuffle).1.desc).map (fun d => d.parameters.length) = some 3 := by decide +kernel
abbrev mX16_push : bM := (yX16_push, cX16_push, 5, some .int, [])
theorem hmX16_push : (mX16_push).1.cls ≠ "java/lang/invoke/MethodHandle" ∧ (mX16_push).1.cls ≠ "java/lang/invoke/VarHandle" ∧ (parseMethodDescriptor (mX16_push).1.desc).map (fun d => d.parameters.length) = some 2 := by decide +kernel
abbrev mX16_typeAt : bM := (yX16_typeAt, cX16_typeAt, 3, some .int, [])
theorem hmX16_typeAt : (mX16_typeAt).1.cls ≠ "java/lang/invoke/MethodHandle" ∧ (mX16_typeAt).1.cls ≠ "java/lang/invoke/VarHandle" ∧ (parseMethodDescriptor (mX16_typeAt).1.desc).map (fun d => d.parameters.length) = some 2 := by decide +kernel
abbrev mX16_argument : bM := (yX16_argument, cX16_argument, 3, some .int, [])
theorem hmX16_argument : (mX16_argument).1.cls ≠ "java/lang/invoke/MethodHandle" ∧ (mX16_argument).1.cls ≠ "java/lang/invoke/VarHandle" ∧ (parseMethodDescriptor (mX16_argument).1.desc).map (fun d => d.parameters.length) = some 2 := by decide +kernel
abbrev mX16_become : bM := (yX16_become, cX16_become, 3, some .boolean, [])
theorem hmX16_become : (mX16_become).1.cls ≠ "java/lang/invoke/MethodHandle" ∧ (mX16_become).1.cls ≠ "java/lang/invoke/VarHandle" ∧ (parseMethodDescriptor (mX16_become).1.desc).map (fun d => d.parameters.length) = some 2 := by decide +kernel
abbrev mX16_done : bM := (yX16_done, cX16_done, 6, some .int, [])
theorem hmX16_done : (mX16_done).1.cls ≠ "java/lang/invoke/MethodHandle" ∧ (mX16_done).1.cls ≠ "java/lang/invoke/VarHandle" ∧ (parseMethodDescriptor (mX16_done).1.desc).map (fun d => d.parameters.length) = some 5 := by decide +kernel
abbrev mX16_dip : bM := (yX16_dip, cX16_dip, 6, some .int, [])
theorem hmX16_dip : (mX16_dip).1.cls ≠ "java/lang/invoke/MethodHandle" ∧ (mX16_dip).1.cls ≠ "java/lang/invoke/VarHandle" ∧ (parseMethodDescriptor (mX16_dip).1.desc).map (fun d => d.parameters.length) = some 2 := by decide +kernel
abbrev mX16_told : bM := (yX16_told, cX16_told, 4, some .int, [])
theorem hmX16_told : (mX16_told).1.cls ≠ "java/lang/invoke/MethodHandle" ∧ (mX16_told).1.cls ≠ "java/lang/invoke/VarHandle" ∧ (parseMethodDescriptor (mX16_told).1.desc).map (fun d => d.parameters.length) = some 2 := by decide +kernel
abbrev mX16_isCode : bM := (yX16_isCode, cX16_isCode, 3, some .boolean, [])
theorem hmX16_isCode : (mX16_isCode).1.cls ≠ "java/lang/invoke/MethodHandle" ∧ (mX16_isCode).1.cls ≠ "java/lang/invoke/VarHandle" ∧ (parseMethodDescriptor (mX16_isCode).1.desc).map (fun d => d.parameters.length) = some 2 := by decide +kernel
abbrev mX16_at : bM := (yX16_at, cX16_at, 2, some .int, [])
theorem hmX16_at : (mX16_at).1.cls ≠ "java/lang/invoke/MethodHandle" ∧ (mX16_at).1.cls ≠ "java/lang/invoke/VarHandle" ∧ (parseMethodDescriptor (mX16_at).1.desc).map (fun d => d.parameters.length) = some 1 := by decide +kernel
abbrev mX16_turn : bM := (yX16_turn, cX16_turn, 7, some .boolean, [])
theorem hmX16_turn : (mX16_turn).1.cls ≠ "java/lang/invoke/MethodHandle" ∧ (mX16_turn).1.cls ≠ "java/lang/invoke/VarHandle" ∧ (parseMethodDescriptor (mX16_turn).1.desc).map (fun d => d.parameters.length) = some 2 := by decide +kernel
abbrev mX16_maker : bM := (yX16_maker, cX16_maker, 4, some .int, [])
theorem hmX16_maker : (mX16_maker).1.cls ≠ "java/lang/invoke/MethodHandle" ∧ (mX16_maker).1.cls ≠ "java/lang/invoke/VarHandle" ∧ (parseMethodDescriptor (mX16_maker).1.desc).map (fun d => d.parameters.length) = some 3 := by decide +kernel
abbrev mX16_comb : bM := (yX16_comb, cX16_comb, 9, some .int, [])
theorem hmX16_comb : (mX16_comb).1.cls ≠ "java/lang/invoke/MethodHandle" ∧ (mX16_comb).1.cls ≠ "java/lang/invoke/VarHandle" ∧ (parseMethodDescriptor (mX16_comb).1.desc).map (fun d => d.parameters.length) = some 3 := by decide +kernel
abbrev mX16_word : bM := (yX16_word, cX16_word, 2, some .int, [])
theorem hmX16_word : (mX16_word).1.cls ≠ "java/lang/invoke/MethodHandle" ∧ (mX16_word).1.cls ≠ "java/lang/invoke/VarHandle" ∧ (parseMethodDescriptor (mX16_word).1.desc).map (fun d => d.parameters.length) = some 1 := by decide +kernel
abbrev mX16_left : bM := (yX16_left, cX16_left, 2, some .int, [])
theorem hmX16_left : (mX16_left).1.cls ≠ "java/lang/invoke/MethodHandle" ∧ (mX16_left).1.cls ≠ "java/lang/invoke/VarHandle" ∧ (parseMethodDescriptor (mX16_left).1.desc).map (fun d => d.parameters.length) = some 1 := by decide +kernel
abbrev mX16_right : bM := (yX16_right, cX16_right, 2, some .int, [])
theorem hmX16_right : (mX16_right).1.cls ≠ "java/lang/invoke/MethodHandle" ∧ (mX16_right).1.cls ≠ "java/lang/invoke/VarHandle" ∧ (parseMethodDescriptor (mX16_right).1.desc).map (fun d => d.parameters.length) = some 1 := by decide +kernel
abbrev mX16_told_2 : bM := (yX16_told_2, cX16_told_2, 9, some .int, [])
theorem hmX16_told_2 : (mX16_told_2).1.cls ≠ "java/lang/invoke/MethodHandle" ∧ (mX16_told_2).1.cls ≠ "java/lang/invoke/VarHandle" ∧ (parseMethodDescriptor (mX16_told_2).1.desc).map (fun d => d.parameters.length) = some 3 := by decide +kernel
abbrev mX16_control : bM := (yX16_control, cX16_control, 5, some .int, [])
theorem hmX16_control : (mX16_control).1.cls ≠ "java/lang/invoke/MethodHandle" ∧ (mX16_control).1.cls ≠ "java/lang/invoke/VarHandle" ∧ (parseMethodDescriptor (mX16_control).1.desc).map (fun d => d.parameters.length) = some 3 := by decide +kernel
abbrev mX16_branch : bM := (yX16_branch, cX16_branch, 14, some .int, [])
theorem hmX16_branch : (mX16_branch).1.cls ≠ "java/lang/invoke/MethodHandle" ∧ (mX16_branch).1.cls ≠ "java/lang/invoke/VarHandle" ∧ (parseMethodDescriptor (mX16_branch).1.desc).map (fun d => d.parameters.length) = some 2 := by decide +kernel
abbrev mX16_save : bM := (yX16_save, cX16_save, 1, none, [])
theorem hmX16_save : (mX16_save).1.cls ≠ "java/lang/invoke/MethodHandle" ∧ (mX16_save).1.cls ≠ "java/lang/invoke/VarHandle" ∧ (parseMethodDescriptor (mX16_save).1.desc).map (fun d => d.parameters.length) = some 0 := by decide +kernel
abbrev mX16_load : bM := (yX16_load, cX16_load, 2, none, [])
theorem hmX16_load : (mX16_load).1.cls ≠ "java/lang/invoke/MethodHandle" ∧ (mX16_load).1.cls ≠ "java/lang/invoke/VarHandle" ∧ (parseMethodDescriptor (mX16_load).1.desc).map (fun d => d.parameters.length) = some 1 := by decide +kernel
abbrev mX16_isSaved : bM := (yX16_isSaved, cX16_isSaved, 4, some .boolean, [])
theorem hmX16_isSaved : (mX16_isSaved).1.cls ≠ "java/lang/invoke/MethodHandle" ∧ (mX16_isSaved).1.cls ≠ "java/lang/invoke/VarHandle" ∧ (parseMethodDescriptor (mX16_isSaved).1.desc).map (fun d => d.parameters.length) = some 1 := by decide +kernel
abbrev mX16_loop : bM := (yX16_loop, cX16_loop, 8, some .int, [])
theorem hmX16_loop : (mX16_loop).1.cls ≠ "java/lang/invoke/MethodHandle" ∧ (mX16_loop).1.cls ≠ "java/lang/invoke/VarHandle" ∧ (parseMethodDescriptor (mX16_loop).1.desc).map (fun d => d.parameters.length) = some 2 := by decide +kernel
abbrev mX16_each : bM := (yX16_each, cX16_each, 11, some .int, [])
theorem hmX16_each : (mX16_each).1.cls ≠ "java/lang/invoke/MethodHandle" ∧ (mX16_each).1.cls ≠ "java/lang/invoke/VarHandle" ∧ (parseMethodDescriptor (mX16_each).1.desc).map (fun d => d.parameters.length) = some 2 := by decide +kernel
abbrev mX16_element : bM := (yX16_element, cX16_element, 3, some .int, [])
theorem hmX16_element : (mX16_element).1.cls ≠ "java/lang/invoke/MethodHandle" ∧ (mX16_element).1.cls ≠ "java/lang/invoke/VarHandle" ∧ (parseMethodDescriptor (mX16_element).1.desc).map (fun d => d.parameters.length) = some 2 := by decide +kernel
abbrev mX16_lambda : bM := (yX16_lambda, cX16_lambda, 8, some .int, [])
theorem hmX16_lambda : (mX16_lambda).1.cls ≠ "java/lang/invoke/MethodHandle" ∧ (mX16_lambda).1.cls ≠ "java/lang/invoke/VarHandle" ∧ (parseMethodDescriptor (mX16_lambda).1.desc).map (fun d => d.parameters.length) = some 1 := by decide +kernel
abbrev mX16_plain : bM := (yX16_plain, cX16_plain, 6, some .int, [])
theorem hmX16_plain : (mX16_plain).1.cls ≠ "java/lang/invoke/MethodHandle" ∧ (mX16_plain).1.cls ≠ "java/lang/invoke/VarHandle" ∧ (parseMethodDescriptor (mX16_plain).1.desc).map (fun d => d.parameters.length) = some 2 := by decide +kernel
abbrev mX16_isOne : bM := (yX16_isOne, cX16_isOne, 1, some .boolean, [])
theorem hmX16_isOne : (mX16_isOne).1.cls ≠ "java/lang/invoke/MethodHandle" ∧ (mX16_isOne).1.cls ≠ "java/lang/invoke/VarHandle" ∧ (parseMethodDescriptor (mX16_isOne).1.desc).map (fun d => d.parameters.length) = some 1 := by decide +kernel
abbrev mX16_one : bM := (yX16_one, cX16_one, 3, some .int, [])
theorem hmX16_one : (mX16_one).1.cls ≠ "java/lang/invoke/MethodHandle" ∧ (mX16_one).1.cls ≠ "java/lang/invoke/VarHandle" ∧ (parseMethodDescriptor (mX16_one).1.desc).map (fun d => d.parameters.length) = some 2 := by decide +kernel
abbrev mX16_isWhole : bM := (yX16_isWhole, cX16_isWhole, 1, some .boolean, [])
theorem hmX16_isWhole : (mX16_isWhole).1.cls ≠ "java/lang/invoke/MethodHandle" ∧ (mX16_isWhole).1.cls ≠ "java/lang/invoke/VarHandle" ∧ (parseMethodDescriptor (mX16_isWhole).1.desc).map (fun d => d.parameters.length) = some 1 := by decide +kernel
abbrev mX16_become2 : bM := (yX16_become2, cX16_become2, 3, some .boolean, [])
theorem hmX16_become2 : (mX16_become2).1.cls ≠ "java/lang/invoke/MethodHandle" ∧ (mX16_become2).1.cls ≠ "java/lang/invoke/VarHandle" ∧ (parseMethodDescriptor (mX16_become2).1.desc).map (fun d => d.parameters.length) = some 2 := by decide +kernel
abbrev mX16_two : bM := (yX16_two, cX16_two, 4, some .int, [])
theorem hmX16_two : (mX16_two).1.cls ≠ "java/lang/invoke/MethodHandle" ∧ (mX16_two).1.cls ≠ "java/lang/invoke/VarHandle" ∧ (parseMethodDescriptor (mX16_two).1.desc).map (fun d => d.parameters.length) = some 3 := by decide +kernel
abbrev mX16_sum : bM := (yX16_sum, cX16_sum, 3, some .int, [])
theorem hmX16_sum : (mX16_sum).1.cls ≠ "java/lang/invoke/MethodHandle" ∧ (mX16_sum).1.cls ≠ "java/lang/invoke/VarHandle" ∧ (parseMethodDescriptor (mX16_sum).1.desc).map (fun d => d.parameters.length) = some 3 := by decide +kernel
abbrev mX16_difference : bM := (yX16_difference, cX16_difference, 2, some .int, [])
theorem hmX16_difference : (mX16_difference).1.cls ≠ "java/lang/invoke/MethodHandle" ∧ (mX16_difference).1.cls ≠ "java/lang/invoke/VarHandle" ∧ (parseMethodDescriptor (mX16_difference).1.desc).map (fun d => d.parameters.length) = some 2 := by decide +kernel
abbrev mX16_quotient : bM := (yX16_quotient, cX16_quotient, 3, some .int, [])
theorem hmX16_quotient : (mX16_quotient).1.cls ≠ "java/lang/invoke/MethodHandle" ∧ (mX16_quotient).1.cls ≠ "java/lang/invoke/VarHandle" ∧ (parseMethodDescriptor (mX16_quotient).1.desc).map (fun d => d.parameters.length) = some 2 := by decide +kernel
abbrev mX16_bits : bM := (yX16_bits, cX16_bits, 4, some .int, [])
theorem hmX16_bits : (mX16_bits).1.cls ≠ "java/lang/invoke/MethodHandle" ∧ (mX16_bits).1.cls ≠ "java/lang/invoke/VarHandle" ∧ (parseMethodDescriptor (mX16_bits).1.desc).map (fun d => d.parameters.length) = some 3 := by decide +kernel
abbrev mX16_other : bM := (yX16_other, cX16_other, 6, some .int, [])
theorem hmX16_other : (mX16_other).1.cls ≠ "java/lang/invoke/MethodHandle" ∧ (mX16_other).1.cls ≠ "java/lang/invoke/VarHandle" ∧ (parseMethodDescriptor (mX16_other).1.desc).map (fun d => d.parameters.length) = some 3 := by decide +kernel
abbrev mX16_concat : bM := (yX16_concat, cX16_concat, 3, some .int, [])
theorem hmX16_concat : (mX16_concat).1.cls ≠ "java/lang/invoke/MethodHandle" ∧ (mX16_concat).1.cls ≠ "java/lang/invoke/VarHandle" ∧ (parseMethodDescriptor (mX16_concat).1.desc).map (fun d => d.parameters.length) = some 0 := by decide +kernel
abbrev mX16_isText : bM := (yX16_isText, cX16_isText, 1, some .boolean, [])
theorem hmX16_isText : (mX16_isText).1.cls ≠ "java/lang/invoke/MethodHandle" ∧ (mX16_isText).1.cls ≠ "java/lang/invoke/VarHandle" ∧ (parseMethodDescriptor (mX16_isText).1.desc).map (fun d => d.parameters.length) = some 1 := by decide +kernel
abbrev mX16_keyed : bM := (yX16_keyed, cX16_keyed, 10, some .int, [])
theorem hmX16_keyed : (mX16_keyed).1.cls ≠ "java/lang/invoke/MethodHandle" ∧ (mX16_keyed).1.cls ≠ "java/lang/invoke/VarHandle" ∧ (parseMethodDescriptor (mX16_keyed).1.desc).map (fun d => d.parameters.length) = some 1 := by decide +kernel
abbrev mX16_ledger : bM := (yX16_ledger, cX16_ledger, 5, some .int, [])
theorem hmX16_ledger : (mX16_ledger).1.cls ≠ "java/lang/invoke/MethodHandle" ∧ (mX16_ledger).1.cls ≠ "java/lang/invoke/VarHandle" ∧ (parseMethodDescriptor (mX16_ledger).1.desc).map (fun d => d.parameters.length) = some 3 := by decide +kernel
abbrev mX16_self : bM := (yX16_self, cX16_self, 4, some .int, [])
theorem hmX16_self : (mX16_self).1.cls ≠ "java/lang/invoke/MethodHandle" ∧ (mX16_self).1.cls ≠ "java/lang/invoke/VarHandle" ∧ (parseMethodDescriptor (mX16_self).1.desc).map (fun d => d.parameters.length) = some 1 := by decide +kernel
abbrev mX16_contract : bM := (yX16_contract, cX16_contract, 6, some .int, [])
theorem hmX16_contract : (mX16_contract).1.cls ≠ "java/lang/invoke/MethodHandle" ∧ (mX16_contract).1.cls ≠ "java/lang/invoke/VarHandle" ∧ (parseMethodDescriptor (mX16_contract).1.desc).map (fun d => d.parameters.length) = some 1 := by decide +kernel
abbrev mX16_create : bM := (yX16_create, cX16_create, 8, some .int, [])
theorem hmX16_create : (mX16_create).1.cls ≠ "java/lang/invoke/MethodHandle" ∧ (mX16_create).1.cls ≠ "java/lang/invoke/VarHandle" ∧ (parseMethodDescriptor (mX16_create).1.desc).map (fun d => d.parameters.length) = some 1 := by decide +kernel
abbrev mX17_keep : bM := (yX17_keep, cX17_keep, 3, none, [])
theorem hmX17_keep : (mX17_keep).1.cls ≠ "java/lang/invoke/MethodHandle" ∧ (mX17_keep).1.cls ≠ "java/lang/invoke/VarHandle" ∧ (parseMethodDescriptor (mX17_keep).1.desc).map (fun d => d.parameters.length) = some 1 := by decide +kernel
abbrev mX17_save : bM := (yX17_save, cX17_save, 1, none, [])
theorem hmX17_save : (mX17_save).1.cls ≠ "java/lang/invoke/MethodHandle" ∧ (mX17_save).1.cls ≠ "java/lang/invoke/VarHandle" ∧ (parseMethodDescriptor (mX17_save).1.desc).map (fun d => d.parameters.length) = some 0 := by decide +kernel
abbrev mX17_load : bM := (yX17_load, cX17_load, 1, none, [])
theorem hmX17_load : (mX17_load).1.cls ≠ "java/lang/invoke/MethodHandle" ∧ (mX17_load).1.cls ≠ "java/lang/invoke/VarHandle" ∧ (parseMethodDescriptor (mX17_load).1.desc).map (fun d => d.parameters.length) = some 0 := by decide +kernel
abbrev mX18_begin : bM := (yX18_begin, cX18_begin, 2, none, [])
theorem hmX18_begin : (mX18_begin).1.cls ≠ "java/lang/invoke/MethodHandle" ∧ (mX18_begin).1.cls ≠ "java/lang/invoke/VarHandle" ∧ (parseMethodDescriptor (mX18_begin).1.desc).map (fun d => d.parameters.length) = some 1 := by decide +kernel
abbrev mX18_use : bM := (yX18_use, cX18_use, 3, none, [])
theorem hmX18_use : (mX18_use).1.cls ≠ "java/lang/invoke/MethodHandle" ∧ (mX18_use).1.cls ≠ "java/lang/invoke/VarHandle" ∧ (parseMethodDescriptor (mX18_use).1.desc).map (fun d => d.parameters.length) = some 1 := by decide +kernel
abbrev mX18_used : bM := (yX18_used, cX18_used, 1, some .int, [])
theorem hmX18_used : (mX18_used).1.cls ≠ "java/lang/invoke/MethodHandle" ∧ (mX18_used).1.cls ≠ "java/lang/invoke/VarHandle" ∧ (parseMethodDescriptor (mX18_used).1.desc).map (fun d => d.parameters.length) = some 0 := by decide +kernel
abbrev mX19_run : bM := (yX19_run, cX19_run, 4, some .int, [])
theorem hmX19_run : (mX19_run).1.cls ≠ "java/lang/invoke/MethodHandle" ∧ (mX19_run).1.cls ≠ "java/lang/invoke/VarHandle" ∧ (parseMethodDescriptor (mX19_run).1.desc).map (fun d => d.parameters.length) = some 2 := by decide +kernel
abbrev mX19_push : bM := (yX19_push, cX19_push, 2, none, [])
theorem hmX19_push : (mX19_push).1.cls ≠ "java/lang/invoke/MethodHandle" ∧ (mX19_push).1.cls ≠ "java/lang/invoke/VarHandle" ∧ (parseMethodDescriptor (mX19_push).1.desc).map (fun d => d.parameters.length) = some 1 := by decide +kernel
abbrev mX19_goOn : bM := (yX19_goOn, cX19_goOn, 5, none, [])
theorem hmX19_goOn : (mX19_goOn).1.cls ≠ "java/lang/invoke/MethodHandle" ∧ (mX19_goOn).1.cls ≠ "java/lang/invoke/VarHandle" ∧ (parseMethodDescriptor (mX19_goOn).1.desc).map (fun d => d.parameters.length) = some 0 := by decide +kernel
abbrev mX19_loop : bM := (yX19_loop, cX19_loop, 2, none, [])
theorem hmX19_loop : (mX19_loop).1.cls ≠ "java/lang/invoke/MethodHandle" ∧ (mX19_loop).1.cls ≠ "java/lang/invoke/VarHandle" ∧ (parseMethodDescriptor (mX19_loop).1.desc).map (fun d => d.parameters.length) = some 1 := by decide +kernel
abbrev mX19_cell : bM := (yX19_cell, cX19_cell, 3, some .int, [])
theorem hmX19_cell : (mX19_cell).1.cls ≠ "java/lang/invoke/MethodHandle" ∧ (mX19_cell).1.cls ≠ "java/lang/invoke/VarHandle" ∧ (parseMethodDescriptor (mX19_cell).1.desc).map (fun d => d.parameters.length) = some 2 := by decide +kernel
abbrev mX19_pop : bM := (yX19_pop, cX19_pop, 1, some .int, [])
theorem hmX19_pop : (mX19_pop).1.cls ≠ "java/lang/invoke/MethodHandle" ∧ (mX19_pop).1.cls ≠ "java/lang/invoke/VarHandle" ∧ (parseMethodDescriptor (mX19_pop).1.desc).map (fun d => d.parameters.length) = some 0 := by decide +kernel
abbrev mX19_frame : bM := (yX19_frame, cX19_frame, 5, none, [])
theorem hmX19_frame : (mX19_frame).1.cls ≠ "java/lang/invoke/MethodHandle" ∧ (mX19_frame).1.cls ≠ "java/lang/invoke/VarHandle" ∧ (parseMethodDescriptor (mX19_frame).1.desc).map (fun d => d.parameters.length) = some 4 := by decide +kernel
abbrev mX19_loopLeft : bM := (yX19_loopLeft, cX19_loopLeft, 3, none, [])
theorem hmX19_loopLeft : (mX19_loopLeft).1.cls ≠ "java/lang/invoke/MethodHandle" ∧ (mX19_loopLeft).1.cls ≠ "java/lang/invoke/VarHandle" ∧ (parseMethodDescriptor (mX19_loopLeft).1.desc).map (fun d => d.parameters.length) = some 1 := by decide +kernel
abbrev mX19_each : bM := (yX19_each, cX19_each, 5, none, [])
theorem hmX19_each : (mX19_each).1.cls ≠ "java/lang/invoke/MethodHandle" ∧ (mX19_each).1.cls ≠ "java/lang/invoke/VarHandle" ∧ (parseMethodDescriptor (mX19_each).1.desc).map (fun d => d.parameters.length) = some 3 := by decide +kernel
abbrev mX19_isThrough : bM := (yX19_isThrough, cX19_isThrough, 4, some .boolean, [])
theorem hmX19_isThrough : (mX19_isThrough).1.cls ≠ "java/lang/invoke/MethodHandle" ∧ (mX19_isThrough).1.cls ≠ "java/lang/invoke/VarHandle" ∧ (parseMethodDescriptor (mX19_isThrough).1.desc).map (fun d => d.parameters.length) = some 3 := by decide +kernel
abbrev mX19_element : bM := (yX19_element, cX19_element, 6, some .int, [])
theorem hmX19_element : (mX19_element).1.cls ≠ "java/lang/invoke/MethodHandle" ∧ (mX19_element).1.cls ≠ "java/lang/invoke/VarHandle" ∧ (parseMethodDescriptor (mX19_element).1.desc).map (fun d => d.parameters.length) = some 3 := by decide +kernel
abbrev mX19_mapped : bM := (yX19_mapped, cX19_mapped, 5, none, [])
theorem hmX19_mapped : (mX19_mapped).1.cls ≠ "java/lang/invoke/MethodHandle" ∧ (mX19_mapped).1.cls ≠ "java/lang/invoke/VarHandle" ∧ (parseMethodDescriptor (mX19_mapped).1.desc).map (fun d => d.parameters.length) = some 3 := by decide +kernel
abbrev mX19_list : bM := (yX19_list, cX19_list, 4, some .int, [])
theorem hmX19_list : (mX19_list).1.cls ≠ "java/lang/invoke/MethodHandle" ∧ (mX19_list).1.cls ≠ "java/lang/invoke/VarHandle" ∧ (parseMethodDescriptor (mX19_list).1.desc).map (fun d => d.parameters.length) = some 1 := by decide +kernel
abbrev mX19_tree : bM := (yX19_tree, cX19_tree, 4, some .int, [])
theorem hmX19_tree : (mX19_tree).1.cls ≠ "java/lang/invoke/MethodHandle" ∧ (mX19_tree).1.cls ≠ "java/lang/invoke/VarHandle" ∧ (parseMethodDescriptor (mX19_tree).1.desc).map (fun d => d.parameters.length) = some 2 := by decide +kernel
abbrev mX19_step : bM := (yX19_step, cX19_step, 3, none, [])
theorem hmX19_step : (mX19_step).1.cls ≠ "java/lang/invoke/MethodHandle" ∧ (mX19_step).1.cls ≠ "java/lang/invoke/VarHandle" ∧ (parseMethodDescriptor (mX19_step).1.desc).map (fun d => d.parameters.length) = some 2 := by decide +kernel
abbrev mX19_shuffle : bM := (yX19_shuffle, cX19_shuffle, 5, none, [])
theorem hmX19_shuffle : (mX19_shuffle).1.cls ≠ "java/lang/invoke/MethodHandle" ∧ (mX19_shuffle).1.cls ≠ "java/lang/invoke/VarHandle" ∧ (parseMethodDescriptor (mX19_shuffle).1.desc).map (fun d => d.parameters.length) = some 2 := by decide +kernel
abbrev mX19_at : bM := (yX19_at, cX19_at, 2, some .int, [])
theorem hmX19_at : (mX19_at).1.cls ≠ "java/lang/invoke/MethodHandle" ∧ (mX19_at).1.cls ≠ "java/lang/invoke/VarHandle" ∧ (parseMethodDescriptor (mX19_at).1.desc).map (fun d => d.parameters.length) = some 1 := by decide +kernel
abbrev mX19_turn : bM := (yX19_turn, cX19_turn, 7, none, [])
theorem hmX19_turn : (mX19_turn).1.cls ≠ "java/lang/invoke/MethodHandle" ∧ (mX19_turn).1.cls ≠ "java/lang/invoke/VarHandle" ∧ (parseMethodDescriptor (mX19_turn).1.desc).map (fun d => d.parameters.length) = some 2 := by decide +kernel
abbrev mX19_maker : bM := (yX19_maker, cX19_maker, 5, none, [])
theorem hmX19_maker : (mX19_maker).1.cls ≠ "java/lang/invoke/MethodHandle" ∧ (mX19_maker).1.cls ≠ "java/lang/invoke/VarHandle" ∧ (parseMethodDescriptor (mX19_maker).1.desc).map (fun d => d.parameters.length) = some 2 := by decide +kernel
abbrev mX19_comb : bM := (yX19_comb, cX19_comb, 4, none, [])
theorem hmX19_comb : (mX19_comb).1.cls ≠ "java/lang/invoke/MethodHandle" ∧ (mX19_comb).1.cls ≠ "java/lang/invoke/VarHandle" ∧ (parseMethodDescriptor (mX19_comb).1.desc).map (fun d => d.parameters.length) = some 1 := by decide +kernel
abbrev mX19_uncomb : bM := (yX19_uncomb, cX19_uncomb, 4, none, [])
theorem hmX19_uncomb : (mX19_uncomb).1.cls ≠ "java/lang/invoke/MethodHandle" ∧ (mX19_uncomb).1.cls ≠ "java/lang/invoke/VarHandle" ∧ (parseMethodDescriptor (mX19_uncomb).1.desc).map (fun d => d.parameters.length) = some 1 := by decide +kernel
abbrev mX19_control : bM := (yX19_control, cX19_control, 4, none, [])
theorem hmX19_control : (mX19_control).1.cls ≠ "java/lang/invoke/MethodHandle" ∧ (mX19_control).1.cls ≠ "java/lang/invoke/VarHandle" ∧ (parseMethodDescriptor (mX19_control).1.desc).map (fun d => d.parameters.length) = some 2 := by decide +kernel
abbrev mX19_enter : bM := (yX19_enter, cX19_enter, 2, none, [])
theorem hmX19_enter : (mX19_enter).1.cls ≠ "java/lang/invoke/MethodHandle" ∧ (mX19_enter).1.cls ≠ "java/lang/invoke/VarHandle" ∧ (parseMethodDescriptor (mX19_enter).1.desc).map (fun d => d.parameters.length) = some 1 := by decide +kernel
abbrev mX19_branch : bM := (yX19_branch, cX19_branch, 5, none, [])
theorem hmX19_branch : (mX19_branch).1.cls ≠ "java/lang/invoke/MethodHandle" ∧ (mX19_branch).1.cls ≠ "java/lang/invoke/VarHandle" ∧ (parseMethodDescriptor (mX19_branch).1.desc).map (fun d => d.parameters.length) = some 2 := by decide +kernel
abbrev mX19_map : bM := (yX19_map, cX19_map, 3, none, [])
theorem hmX19_map : (mX19_map).1.cls ≠ "java/lang/invoke/MethodHandle" ∧ (mX19_map).1.cls ≠ "java/lang/invoke/VarHandle" ∧ (parseMethodDescriptor (mX19_map).1.desc).map (fun d => d.parameters.length) = some 2 := by decide +kernel
abbrev mX19_exec : bM := (yX19_exec, cX19_exec, 3, none, [])
theorem hmX19_exec : (mX19_exec).1.cls ≠ "java/lang/invoke/MethodHandle" ∧ (mX19_exec).1.cls ≠ "java/lang/invoke/VarHandle" ∧ (parseMethodDescriptor (mX19_exec).1.desc).map (fun d => d.parameters.length) = some 0 := by decide +kernel
abbrev mX19_length : bM := (yX19_length, cX19_length, 2, some .int, [])
theorem hmX19_length : (mX19_length).1.cls ≠ "java/lang/invoke/MethodHandle" ∧ (mX19_length).1.cls ≠ "java/lang/invoke/VarHandle" ∧ (parseMethodDescriptor (mX19_length).1.desc).map (fun d => d.parameters.length) = some 1 := by decide +kernel
abbrev mX19_plain : bM := (yX19_plain, cX19_plain, 6, none, [])
theorem hmX19_plain : (mX19_plain).1.cls ≠ "java/lang/invoke/MethodHandle" ∧ (mX19_plain).1.cls ≠ "java/lang/invoke/VarHandle" ∧ (parseMethodDescriptor (mX19_plain).1.desc).map (fun d => d.parameters.length) = some 2 := by decide +kernel
abbrev mX19_sign : bM := (yX19_sign, cX19_sign, 5, some .boolean, [])
theorem hmX19_sign : (mX19_sign).1.cls ≠ "java/lang/invoke/MethodHandle" ∧ (mX19_sign).1.cls ≠ "java/lang/invoke/VarHandle" ∧ (parseMethodDescriptor (mX19_sign).1.desc).map (fun d => d.parameters.length) = some 2 := by decide +kernel
abbrev mX19_isUnary : bM := (yX19_isUnary, cX19_isUnary, 1, some .boolean, [])
theorem hmX19_isUnary : (mX19_isUnary).1.cls ≠ "java/lang/invoke/MethodHandle" ∧ (mX19_isUnary).1.cls ≠ "java/lang/invoke/VarHandle" ∧ (parseMethodDescriptor (mX19_isUnary).1.desc).map (fun d => d.parameters.length) = some 1 := by decide +kernel
abbrev mX19_unary : bM := (yX19_unary, cX19_unary, 4, none, [])
theorem hmX19_unary : (mX19_unary).1.cls ≠ "java/lang/invoke/MethodHandle" ∧ (mX19_unary).1.cls ≠ "java/lang/invoke/VarHandle" ∧ (parseMethodDescriptor (mX19_unary).1.desc).map (fun d => d.parameters.length) = some 2 := by decide +kernel
abbrev mX19_binary : bM := (yX19_binary, cX19_binary, 10, none, [])
theorem hmX19_binary : (mX19_binary).1.cls ≠ "java/lang/invoke/MethodHandle" ∧ (mX19_binary).1.cls ≠ "java/lang/invoke/VarHandle" ∧ (parseMethodDescriptor (mX19_binary).1.desc).map (fun d => d.parameters.length) = some 2 := by decide +kernel
abbrev mX19_shift : bM := (yX19_shift, cX19_shift, 3, none, [])
theorem hmX19_shift : (mX19_shift).1.cls ≠ "java/lang/invoke/MethodHandle" ∧ (mX19_shift).1.cls ≠ "java/lang/invoke/VarHandle" ∧ (parseMethodDescriptor (mX19_shift).1.desc).map (fun d => d.parameters.length) = some 1 := by decide +kernel
abbrev mX19_areSmall : bM := (yX19_areSmall, cX19_areSmall, 1, some .boolean, [])
theorem hmX19_areSmall : (mX19_areSmall).1.cls ≠ "java/lang/invoke/MethodHandle" ∧ (mX19_areSmall).1.cls ≠ "java/lang/invoke/VarHandle" ∧ (parseMethodDescriptor (mX19_areSmall).1.desc).map (fun d => d.parameters.length) = some 0 := by decide +kernel
abbrev mX19_pushNumber : bM := (yX19_pushNumber, cX19_pushNumber, 2, none, [])
theorem hmX19_pushNumber : (mX19_pushNumber).1.cls ≠ "java/lang/invoke/MethodHandle" ∧ (mX19_pushNumber).1.cls ≠ "java/lang/invoke/VarHandle" ∧ (parseMethodDescriptor (mX19_pushNumber).1.desc).map (fun d => d.parameters.length) = some 1 := by decide +kernel
abbrev mX19_divide : bM := (yX19_divide, cX19_divide, 3, none, [])
theorem hmX19_divide : (mX19_divide).1.cls ≠ "java/lang/invoke/MethodHandle" ∧ (mX19_divide).1.cls ≠ "java/lang/invoke/VarHandle" ∧ (parseMethodDescriptor (mX19_divide).1.desc).map (fun d => d.parameters.length) = some 0 := by decide +kernel
abbrev mX19_collection : bM := (yX19_collection, cX19_collection, 5, none, [])
theorem hmX19_collection : (mX19_collection).1.cls ≠ "java/lang/invoke/MethodHandle" ∧ (mX19_collection).1.cls ≠ "java/lang/invoke/VarHandle" ∧ (parseMethodDescriptor (mX19_collection).1.desc).map (fun d => d.parameters.length) = some 2 := by decide +kernel
abbrev mX19_concat : bM := (yX19_concat, cX19_concat, 8, none, [])
theorem hmX19_concat : (mX19_concat).1.cls ≠ "java/lang/invoke/MethodHandle" ∧ (mX19_concat).1.cls ≠ "java/lang/invoke/VarHandle" ∧ (parseMethodDescriptor (mX19_concat).1.desc).map (fun d => d.parameters.length) = some 1 := by decide +kernel
abbrev mX19_copy : bM := (yX19_copy, cX19_copy, 7, some .int, [])
theorem hmX19_copy : (mX19_copy).1.cls ≠ "java/lang/invoke/MethodHandle" ∧ (mX19_copy).1.cls ≠ "java/lang/invoke/VarHandle" ∧ (parseMethodDescriptor (mX19_copy).1.desc).map (fun d => d.parameters.length) = some 5 := by decide +kernel
abbrev mX19_slice : bM := (yX19_slice, cX19_slice, 7, none, [])
theorem hmX19_slice : (mX19_slice).1.cls ≠ "java/lang/invoke/MethodHandle" ∧ (mX19_slice).1.cls ≠ "java/lang/invoke/VarHandle" ∧ (parseMethodDescriptor (mX19_slice).1.desc).map (fun d => d.parameters.length) = some 0 := by decide +kernel
abbrev mX19_size : bM := (yX19_size, cX19_size, 3, some .int, [])
theorem hmX19_size : (mX19_size).1.cls ≠ "java/lang/invoke/MethodHandle" ∧ (mX19_size).1.cls ≠ "java/lang/invoke/VarHandle" ∧ (parseMethodDescriptor (mX19_size).1.desc).map (fun d => d.parameters.length) = some 2 := by decide +kernel
abbrev mX19_pack : bM := (yX19_pack, cX19_pack, 4, some .int, [])
theorem hmX19_pack : (mX19_pack).1.cls ≠ "java/lang/invoke/MethodHandle" ∧ (mX19_pack).1.cls ≠ "java/lang/invoke/VarHandle" ∧ (parseMethodDescriptor (mX19_pack).1.desc).map (fun d => d.parameters.length) = some 2 := by decide +kernel
abbrev mX19_keyed : bM := (yX19_keyed, cX19_keyed, 14, none, [])
theorem hmX19_keyed : (mX19_keyed).1.cls ≠ "java/lang/invoke/MethodHandle" ∧ (mX19_keyed).1.cls ≠ "java/lang/invoke/VarHandle" ∧ (parseMethodDescriptor (mX19_keyed).1.desc).map (fun d => d.parameters.length) = some 3 := by decide +kernel
abbrev mX19_ledger : bM := (yX19_ledger, cX19_ledger, 6, none, [])
theorem hmX19_ledger : (mX19_ledger).1.cls ≠ "java/lang/invoke/MethodHandle" ∧ (mX19_ledger).1.cls ≠ "java/lang/invoke/VarHandle" ∧ (parseMethodDescriptor (mX19_ledger).1.desc).map (fun d => d.parameters.length) = some 2 := by decide +kernel
abbrev mX19_address : bM := (yX19_address, cX19_address, 3, some .int, [])
theorem hmX19_address : (mX19_address).1.cls ≠ "java/lang/invoke/MethodHandle" ∧ (mX19_address).1.cls ≠ "java/lang/invoke/VarHandle" ∧ (parseMethodDescriptor (mX19_address).1.desc).map (fun d => d.parameters.length) = some 2 := by decide +kernel
abbrev mX19_contract : bM := (yX19_contract, cX19_contract, 8, some .int, [])
theorem hmX19_contract : (mX19_contract).1.cls ≠ "java/lang/invoke/MethodHandle" ∧ (mX19_contract).1.cls ≠ "java/lang/invoke/VarHandle" ∧ (parseMethodDescriptor (mX19_contract).1.desc).map (fun d => d.parameters.length) = some 3 := by decide +kernel
abbrev mX2_want : bM := (yX2_want, cX2_want, 3, none, [])
theorem hmX2_want : (mX2_want).1.cls ≠ "java/lang/invoke/MethodHandle" ∧ (mX2_want).1.cls ≠ "java/lang/invoke/VarHandle" ∧ (parseMethodDescriptor (mX2_want).1.desc).map (fun d => d.parameters.length) = some 2 := by decide +kernel
abbrev mX2_fail : bM := (yX2_fail, cX2_fail, 2, none, [])
theorem hmX2_fail : (mX2_fail).1.cls ≠ "java/lang/invoke/MethodHandle" ∧ (mX2_fail).1.cls ≠ "java/lang/invoke/VarHandle" ∧ (parseMethodDescriptor (mX2_fail).1.desc).map (fun d => d.parameters.length) = some 1 := by decide +kernel
abbrev mX20_add : bM := (yX20_add, cX20_add, 9, none, [])
theorem hmX20_add : (mX20_add).1.cls ≠ "java/lang/invoke/MethodHandle" ∧ (mX20_add).1.cls ≠ "java/lang/invoke/VarHandle" ∧ (parseMethodDescriptor (mX20_add).1.desc).map (fun d => d.parameters.length) = some 4 := by decide +kernel
abbrev mX20_addSizes : bM := (yX20_addSizes, cX20_addSizes, 6, none, [])
theorem hmX20_addSizes : (mX20_addSizes).1.cls ≠ "java/lang/invoke/MethodHandle" ∧ (mX20_addSizes).1.cls ≠ "java/lang/invoke/VarHandle" ∧ (parseMethodDescriptor (mX20_addSizes).1.desc).map (fun d => d.parameters.length) = some 3 := by decide +kernel
abbrev mX20_lessSizes : bM := (yX20_lessSizes, cX20_lessSizes, 6, none, [])
theorem hmX20_lessSizes : (mX20_lessSizes).1.cls ≠ "java/lang/invoke/MethodHandle" ∧ (mX20_lessSizes).1.cls ≠ "java/lang/invoke/VarHandle" ∧ (parseMethodDescriptor (mX20_lessSizes).1.desc).map (fun d => d.parameters.length) = some 3 := by decide +kernel
abbrev mX20_up : bM := (yX20_up, cX20_up, 8, none, [])
theorem hmX20_up : (mX20_up).1.cls ≠ "java/lang/invoke/MethodHandle" ∧ (mX20_up).1.cls ≠ "java/lang/invoke/VarHandle" ∧ (parseMethodDescriptor (mX20_up).1.desc).map (fun d => d.parameters.length) = some 3 := by decide +kernel
abbrev mX20_down : bM := (yX20_down, cX20_down, 8, none, [])
theorem hmX20_down : (mX20_down).1.cls ≠ "java/lang/invoke/MethodHandle" ∧ (mX20_down).1.cls ≠ "java/lang/invoke/VarHandle" ∧ (parseMethodDescriptor (mX20_down).1.desc).map (fun d => d.parameters.length) = some 3 := by decide +kernel
abbrev mX20_multiply : bM := (yX20_multiply, cX20_multiply, 4, none, [])
theorem hmX20_multiply : (mX20_multiply).1.cls ≠ "java/lang/invoke/MethodHandle" ∧ (mX20_multiply).1.cls ≠ "java/lang/invoke/VarHandle" ∧ (parseMethodDescriptor (mX20_multiply).1.desc).map (fun d => d.parameters.length) = some 3 := by decide +kernel
abbrev mX20_plain : bM := (yX20_plain, cX20_plain, 9, none, [])
theorem hmX20_plain : (mX20_plain).1.cls ≠ "java/lang/invoke/MethodHandle" ∧ (mX20_plain).1.cls ≠ "java/lang/invoke/VarHandle" ∧ (parseMethodDescriptor (mX20_plain).1.desc).map (fun d => d.parameters.length) = some 5 := by decide +kernel
abbrev mX20_divide : bM := (yX20_divide, cX20_divide, 7, none, [])
theorem hmX20_divide : (mX20_divide).1.cls ≠ "java/lang/invoke/MethodHandle" ∧ (mX20_divide).1.cls ≠ "java/lang/invoke/VarHandle" ∧ (parseMethodDescriptor (mX20_divide).1.desc).map (fun d => d.parameters.length) = some 5 := by decide +kernel
abbrev mX20_divideSizes : bM := (yX20_divideSizes, cX20_divideSizes, 9, none, [])
theorem hmX20_divideSizes : (mX20_divideSizes).1.cls ≠ "java/lang/invoke/MethodHandle" ∧ (mX20_divideSizes).1.cls ≠ "java/lang/invoke/VarHandle" ∧ (parseMethodDescriptor (mX20_divideSizes).1.desc).map (fun d => d.parameters.length) = some 4 := by decide +kernel
abbrev mX20_divideBy : bM := (yX20_divideBy, cX20_divideBy, 8, some .int, [])
theorem hmX20_divideBy : (mX20_divideBy).1.cls ≠ "java/lang/invoke/MethodHandle" ∧ (mX20_divideBy).1.cls ≠ "java/lang/invoke/VarHandle" ∧ (parseMethodDescriptor (mX20_divideBy).1.desc).map (fun d => d.parameters.length) = some 3 := by decide +kernel
abbrev mX20_shiftRow : bM := (yX20_shiftRow, cX20_shiftRow, 6, none, [])
theorem hmX20_shiftRow : (mX20_shiftRow).1.cls ≠ "java/lang/invoke/MethodHandle" ∧ (mX20_shiftRow).1.cls ≠ "java/lang/invoke/VarHandle" ∧ (parseMethodDescriptor (mX20_shiftRow).1.desc).map (fun d => d.parameters.length) = some 4 := by decide +kernel
abbrev mX20_digit : bM := (yX20_digit, cX20_digit, 11, some .int, [])
theorem hmX20_digit : (mX20_digit).1.cls ≠ "java/lang/invoke/MethodHandle" ∧ (mX20_digit).1.cls ≠ "java/lang/invoke/VarHandle" ∧ (parseMethodDescriptor (mX20_digit).1.desc).map (fun d => d.parameters.length) = some 2 := by decide +kernel
abbrev mX20_combine : bM := (yX20_combine, cX20_combine, 11, none, [])
theorem hmX20_combine : (mX20_combine).1.cls ≠ "java/lang/invoke/MethodHandle" ∧ (mX20_combine).1.cls ≠ "java/lang/invoke/VarHandle" ∧ (parseMethodDescriptor (mX20_combine).1.desc).map (fun d => d.parameters.length) = some 4 := by decide +kernel
abbrev mX22_mark : bM := (yX22_mark, cX22_mark, 1, none, [])
theorem hmX22_mark : (mX22_mark).1.cls ≠ "java/lang/invoke/MethodHandle" ∧ (mX22_mark).1.cls ≠ "java/lang/invoke/VarHandle" ∧ (parseMethodDescriptor (mX22_mark).1.desc).map (fun d => d.parameters.length) = some 0 := by decide +kernel
abbrev mX22_drop : bM := (yX22_drop, cX22_drop, 1, none, [])
theorem hmX22_drop : (mX22_drop).1.cls ≠ "java/lang/invoke/MethodHandle" ∧ (mX22_drop).1.cls ≠ "java/lang/invoke/VarHandle" ∧ (parseMethodDescriptor (mX22_drop).1.desc).map (fun d => d.parameters.length) = some 0 := by decide +kernel
abbrev mX22_tidy : bM := (yX22_tidy, cX22_tidy, 1, none, [])
theorem hmX22_tidy : (mX22_tidy).1.cls ≠ "java/lang/invoke/MethodHandle" ∧ (mX22_tidy).1.cls ≠ "java/lang/invoke/VarHandle" ∧ (parseMethodDescriptor (mX22_tidy).1.desc).map (fun d => d.parameters.length) = some 0 := by decide +kernel
abbrev mX22_keep : bM := (yX22_keep, cX22_keep, 2, none, [])
theorem hmX22_keep : (mX22_keep).1.cls ≠ "java/lang/invoke/MethodHandle" ∧ (mX22_keep).1.cls ≠ "java/lang/invoke/VarHandle" ∧ (parseMethodDescriptor (mX22_keep).1.desc).map (fun d => d.parameters.length) = some 1 := by decide +kernel
abbrev mX22_run : bM := (yX22_run, cX22_run, 6, none, [(77, 104, 107, 200)])
theorem hmX22_run : (mX22_run).1.cls ≠ "java/lang/invoke/MethodHandle" ∧ (mX22_run).1.cls ≠ "java/lang/invoke/VarHandle" ∧ (parseMethodDescriptor (mX22_run).1.desc).map (fun d => d.parameters.length) = some 4 := by decide +kernel
abbrev mX22_begin : bM := (yX22_begin, cX22_begin, 8, none, [])
theorem hmX22_begin : (mX22_begin).1.cls ≠ "java/lang/invoke/MethodHandle" ∧ (mX22_begin).1.cls ≠ "java/lang/invoke/VarHandle" ∧ (parseMethodDescriptor (mX22_begin).1.desc).map (fun d => d.parameters.length) = some 1 := by decide +kernel
abbrev mX22_originate : bM := (yX22_originate, cX22_originate, 6, none, [])
theorem hmX22_originate : (mX22_originate).1.cls ≠ "java/lang/invoke/MethodHandle" ∧ (mX22_originate).1.cls ≠ "java/lang/invoke/VarHandle" ∧ (parseMethodDescriptor (mX22_originate).1.desc).map (fun d => d.parameters.length) = some 2 := by decide +kernel
abbrev mX22_make : bM := (yX22_make, cX22_make, 7, none, [])
theorem hmX22_make : (mX22_make).1.cls ≠ "java/lang/invoke/MethodHandle" ∧ (mX22_make).1.cls ≠ "java/lang/invoke/VarHandle" ∧ (parseMethodDescriptor (mX22_make).1.desc).map (fun d => d.parameters.length) = some 5 := by decide +kernel
abbrev mX22_move : bM := (yX22_move, cX22_move, 5, none, [])
theorem hmX22_move : (mX22_move).1.cls ≠ "java/lang/invoke/MethodHandle" ∧ (mX22_move).1.cls ≠ "java/lang/invoke/VarHandle" ∧ (parseMethodDescriptor (mX22_move).1.desc).map (fun d => d.parameters.length) = some 3 := by decide +kernel
abbrev mX22_pay : bM := (yX22_pay, cX22_pay, 4, none, [])
theorem hmX22_pay : (mX22_pay).1.cls ≠ "java/lang/invoke/MethodHandle" ∧ (mX22_pay).1.cls ≠ "java/lang/invoke/VarHandle" ∧ (parseMethodDescriptor (mX22_pay).1.desc).map (fun d => d.parameters.length) = some 1 := by decide +kernel
abbrev mX22_store : bM := (yX22_store, cX22_store, 8, none, [])
theorem hmX22_store : (mX22_store).1.cls ≠ "java/lang/invoke/MethodHandle" ∧ (mX22_store).1.cls ≠ "java/lang/invoke/VarHandle" ∧ (parseMethodDescriptor (mX22_store).1.desc).map (fun d => d.parameters.length) = some 3 := by decide +kernel
abbrev mX22_entryOf : bM := (yX22_entryOf, cX22_entryOf, 4, some .int, [])
theorem hmX22_entryOf : (mX22_entryOf).1.cls ≠ "java/lang/invoke/MethodHandle" ∧ (mX22_entryOf).1.cls ≠ "java/lang/invoke/VarHandle" ∧ (parseMethodDescriptor (mX22_entryOf).1.desc).map (fun d => d.parameters.length) = some 2 := by decide +kernel
abbrev mX22_transfer : bM := (yX22_transfer, cX22_transfer, 12, none, [])
theorem hmX22_transfer : (mX22_transfer).1.cls ≠ "java/lang/invoke/MethodHandle" ∧ (mX22_transfer).1.cls ≠ "java/lang/invoke/VarHandle" ∧ (parseMethodDescriptor (mX22_transfer).1.desc).map (fun d => d.parameters.length) = some 5 := by decide +kernel
abbrev mX22_weight : bM := (yX22_weight, cX22_weight, 3, some .long, [])
theorem hmX22_weight : (mX22_weight).1.cls ≠ "java/lang/invoke/MethodHandle" ∧ (mX22_weight).1.cls ≠ "java/lang/invoke/VarHandle" ∧ (parseMethodDescriptor (mX22_weight).1.desc).map (fun d => d.parameters.length) = some 2 := by decide +kernel
abbrev mX22_next : bM := (yX22_next, cX22_next, 9, none, [])
theorem hmX22_next : (mX22_next).1.cls ≠ "java/lang/invoke/MethodHandle" ∧ (mX22_next).1.cls ≠ "java/lang/invoke/VarHandle" ∧ (parseMethodDescriptor (mX22_next).1.desc).map (fun d => d.parameters.length) = some 0 := by decide +kernel
abbrev mX22_noteFailure : bM := (yX22_noteFailure, cX22_noteFailure, 2, none, [])
theorem hmX22_noteFailure : (mX22_noteFailure).1.cls ≠ "java/lang/invoke/MethodHandle" ∧ (mX22_noteFailure).1.cls ≠ "java/lang/invoke/VarHandle" ∧ (parseMethodDescriptor (mX22_noteFailure).1.desc).map (fun d => d.parameters.length) = some 0 := by decide +kernel
abbrev mX24_clear : bM := (yX24_clear, cX24_clear, 1, none, [])
theorem hmX24_clear : (mX24_clear).1.cls ≠ "java/lang/invoke/MethodHandle" ∧ (mX24_clear).1.cls ≠ "java/lang/invoke/VarHandle" ∧ (parseMethodDescriptor (mX24_clear).1.desc).map (fun d => d.parameters.length) = some 0 := by decide +kernel
abbrev mX25_apply : bM := (yX25_apply, cX25_apply, 6, some .int, [])
theorem hmX25_apply : (mX25_apply).1.cls ≠ "java/lang/invoke/MethodHandle" ∧ (mX25_apply).1.cls ≠ "java/lang/invoke/VarHandle" ∧ (parseMethodDescriptor (mX25_apply).1.desc).map (fun d => d.parameters.length) = some 0 := by decide +kernel
abbrev mX25_keepAll : bM := (yX25_keepAll, cX25_keepAll, 2, none, [])
theorem hmX25_keepAll : (mX25_keepAll).1.cls ≠ "java/lang/invoke/MethodHandle" ∧ (mX25_keepAll).1.cls ≠ "java/lang/invoke/VarHandle" ∧ (parseMethodDescriptor (mX25_keepAll).1.desc).map (fun d => d.parameters.length) = some 0 := by decide +kernel
abbrev mX25_doContent : bM := (yX25_doContent, cX25_doContent, 3, none, [])
theorem hmX25_doContent : (mX25_doContent).1.cls ≠ "java/lang/invoke/MethodHandle" ∧ (mX25_doContent).1.cls ≠ "java/lang/invoke/VarHandle" ∧ (parseMethodDescriptor (mX25_doContent).1.desc).map (fun d => d.parameters.length) = some 1 := by decide +kernel
abbrev mX25_room : bM := (yX25_room, cX25_room, 1, none, [])
theorem hmX25_room : (mX25_room).1.cls ≠ "java/lang/invoke/MethodHandle" ∧ (mX25_room).1.cls ≠ "java/lang/invoke/VarHandle" ∧ (parseMethodDescriptor (mX25_room).1.desc).map (fun d => d.parameters.length) = some 0 := by decide +kernel
abbrev mX25_gather : bM := (yX25_gather, cX25_gather, 7, none, [])
theorem hmX25_gather : (mX25_gather).1.cls ≠ "java/lang/invoke/MethodHandle" ∧ (mX25_gather).1.cls ≠ "java/lang/invoke/VarHandle" ∧ (parseMethodDescriptor (mX25_gather).1.desc).map (fun d => d.parameters.length) = some 0 := by decide +kernel
abbrev mX25_moveRow : bM := (yX25_moveRow, cX25_moveRow, 4, none, [])
theorem hmX25_moveRow : (mX25_moveRow).1.cls ≠ "java/lang/invoke/MethodHandle" ∧ (mX25_moveRow).1.cls ≠ "java/lang/invoke/VarHandle" ∧ (parseMethodDescriptor (mX25_moveRow).1.desc).map (fun d => d.parameters.length) = some 2 := by decide +kernel
abbrev mX25_move : bM := (yX25_move, cX25_move, 5, some .int, [])
theorem hmX25_move : (mX25_move).1.cls ≠ "java/lang/invoke/MethodHandle" ∧ (mX25_move).1.cls ≠ "java/lang/invoke/VarHandle" ∧ (parseMethodDescriptor (mX25_move).1.desc).map (fun d => d.parameters.length) = some 1 := by decide +kernel
abbrev mX25_firstValue : bM := (yX25_firstValue, cX25_firstValue, 1, some .int, [])
theorem hmX25_firstValue : (mX25_firstValue).1.cls ≠ "java/lang/invoke/MethodHandle" ∧ (mX25_firstValue).1.cls ≠ "java/lang/invoke/VarHandle" ∧ (parseMethodDescriptor (mX25_firstValue).1.desc).map (fun d => d.parameters.length) = some 1 := by decide +kernel
abbrev mX25_ask : bM := (yX25_ask, cX25_ask, 3, some .boolean, [])
theorem hmX25_ask : (mX25_ask).1.cls ≠ "java/lang/invoke/MethodHandle" ∧ (mX25_ask).1.cls ≠ "java/lang/invoke/VarHandle" ∧ (parseMethodDescriptor (mX25_ask).1.desc).map (fun d => d.parameters.length) = some 1 := by decide +kernel
abbrev mX25_tellString : bM := (yX25_tellString, cX25_tellString, 7, some .int, [])
theorem hmX25_tellString : (mX25_tellString).1.cls ≠ "java/lang/invoke/MethodHandle" ∧ (mX25_tellString).1.cls ≠ "java/lang/invoke/VarHandle" ∧ (parseMethodDescriptor (mX25_tellString).1.desc).map (fun d => d.parameters.length) = some 3 := by decide +kernel
abbrev mX25_isAddress : bM := (yX25_isAddress, cX25_isAddress, 7, some .boolean, [])
theorem hmX25_isAddress : (mX25_isAddress).1.cls ≠ "java/lang/invoke/MethodHandle" ∧ (mX25_isAddress).1.cls ≠ "java/lang/invoke/VarHandle" ∧ (parseMethodDescriptor (mX25_isAddress).1.desc).map (fun d => d.parameters.length) = some 3 := by decide +kernel
abbrev mX25_rowOf : bM := (yX25_rowOf, cX25_rowOf, 7, some .int, [])
theorem hmX25_rowOf : (mX25_rowOf).1.cls ≠ "java/lang/invoke/MethodHandle" ∧ (mX25_rowOf).1.cls ≠ "java/lang/invoke/VarHandle" ∧ (parseMethodDescriptor (mX25_rowOf).1.desc).map (fun d => d.parameters.length) = some 4 := by decide +kernel
abbrev mX25_row : bM := (yX25_row, cX25_row, 5, some .int, [])
theorem hmX25_row : (mX25_row).1.cls ≠ "java/lang/invoke/MethodHandle" ∧ (mX25_row).1.cls ≠ "java/lang/invoke/VarHandle" ∧ (parseMethodDescriptor (mX25_row).1.desc).map (fun d => d.parameters.length) = some 2 := by decide +kernel
abbrev mX25_make : bM := (yX25_make, cX25_make, 6, some .int, [])
theorem hmX25_make : (mX25_make).1.cls ≠ "java/lang/invoke/MethodHandle" ∧ (mX25_make).1.cls ≠ "java/lang/invoke/VarHandle" ∧ (parseMethodDescriptor (mX25_make).1.desc).map (fun d => d.parameters.length) = some 3 := by decide +kernel
abbrev mX25_setByte : bM := (yX25_setByte, cX25_setByte, 4, none, [])
theorem hmX25_setByte : (mX25_setByte).1.cls ≠ "java/lang/invoke/MethodHandle" ∧ (mX25_setByte).1.cls ≠ "java/lang/invoke/VarHandle" ∧ (parseMethodDescriptor (mX25_setByte).1.desc).map (fun d => d.parameters.length) = some 3 := by decide +kernel
abbrev mX25_originateContent : bM := (yX25_originateContent, cX25_originateContent, 5, none, [])
theorem hmX25_originateContent : (mX25_originateContent).1.cls ≠ "java/lang/invoke/MethodHandle" ∧ (mX25_originateContent).1.cls ≠ "java/lang/invoke/VarHandle" ∧ (parseMethodDescriptor (mX25_originateContent).1.desc).map (fun d => d.parameters.length) = some 2 := by decide +kernel
abbrev mX25_isAccepted : bM := (yX25_isAccepted, cX25_isAccepted, 3, some .boolean, [])
theorem hmX25_isAccepted : (mX25_isAccepted).1.cls ≠ "java/lang/invoke/MethodHandle" ∧ (mX25_isAccepted).1.cls ≠ "java/lang/invoke/VarHandle" ∧ (parseMethodDescriptor (mX25_isAccepted).1.desc).map (fun d => d.parameters.length) = some 2 := by decide +kernel
abbrev mX25_prepare : bM := (yX25_prepare, cX25_prepare, 5, some .int, [])
theorem hmX25_prepare : (mX25_prepare).1.cls ≠ "java/lang/invoke/MethodHandle" ∧ (mX25_prepare).1.cls ≠ "java/lang/invoke/VarHandle" ∧ (parseMethodDescriptor (mX25_prepare).1.desc).map (fun d => d.parameters.length) = some 2 := by decide +kernel
abbrev mX25_isScript : bM := (yX25_isScript, cX25_isScript, 6, some .boolean, [])
theorem hmX25_isScript : (mX25_isScript).1.cls ≠ "java/lang/invoke/MethodHandle" ∧ (mX25_isScript).1.cls ≠ "java/lang/invoke/VarHandle" ∧ (parseMethodDescriptor (mX25_isScript).1.desc).map (fun d => d.parameters.length) = some 2 := by decide +kernel
abbrev mX25_word : bM := (yX25_word, cX25_word, 2, some .int, [])
theorem hmX25_word : (mX25_word).1.cls ≠ "java/lang/invoke/MethodHandle" ∧ (mX25_word).1.cls ≠ "java/lang/invoke/VarHandle" ∧ (parseMethodDescriptor (mX25_word).1.desc).map (fun d => d.parameters.length) = some 2 := by decide +kernel
abbrev mX25_hasTwins : bM := (yX25_hasTwins, cX25_hasTwins, 7, some .boolean, [])
theorem hmX25_hasTwins : (mX25_hasTwins).1.cls ≠ "java/lang/invoke/MethodHandle" ∧ (mX25_hasTwins).1.cls ≠ "java/lang/invoke/VarHandle" ∧ (parseMethodDescriptor (mX25_hasTwins).1.desc).map (fun d => d.parameters.length) = some 2 := by decide +kernel
abbrev mX25_listEntries : bM := (yX25_listEntries, cX25_listEntries, 5, none, [])
theorem hmX25_listEntries : (mX25_listEntries).1.cls ≠ "java/lang/invoke/MethodHandle" ∧ (mX25_listEntries).1.cls ≠ "java/lang/invoke/VarHandle" ∧ (parseMethodDescriptor (mX25_listEntries).1.desc).map (fun d => d.parameters.length) = some 2 := by decide +kernel
abbrev mX25_typeScript : bM := (yX25_typeScript, cX25_typeScript, 7, some .int, [])
theorem hmX25_typeScript : (mX25_typeScript).1.cls ≠ "java/lang/invoke/MethodHandle" ∧ (mX25_typeScript).1.cls ≠ "java/lang/invoke/VarHandle" ∧ (parseMethodDescriptor (mX25_typeScript).1.desc).map (fun d => d.parameters.length) = some 3 := by decide +kernel
abbrev mX25_pushType : bM := (yX25_pushType, cX25_pushType, 2, some .boolean, [])
theorem hmX25_pushType : (mX25_pushType).1.cls ≠ "java/lang/invoke/MethodHandle" ∧ (mX25_pushType).1.cls ≠ "java/lang/invoke/VarHandle" ∧ (parseMethodDescriptor (mX25_pushType).1.desc).map (fun d => d.parameters.length) = some 1 := by decide +kernel
abbrev mX25_bad : bM := (yX25_bad, cX25_bad, 2, some .int, [])
theorem hmX25_bad : (mX25_bad).1.cls ≠ "java/lang/invoke/MethodHandle" ∧ (mX25_bad).1.cls ≠ "java/lang/invoke/VarHandle" ∧ (parseMethodDescriptor (mX25_bad).1.desc).map (fun d => d.parameters.length) = some 1 := by decide +kernel
abbrev mX25_typeAll : bM := (yX25_typeAll, cX25_typeAll, 5, some .int, [])
theorem hmX25_typeAll : (mX25_typeAll).1.cls ≠ "java/lang/invoke/MethodHandle" ∧ (mX25_typeAll).1.cls ≠ "java/lang/invoke/VarHandle" ∧ (parseMethodDescriptor (mX25_typeAll).1.desc).map (fun d => d.parameters.length) = some 2 := by decide +kernel
abbrev mX25_typeOne : bM := (yX25_typeOne, cX25_typeOne, 4, some .int, [])
theorem hmX25_typeOne : (mX25_typeOne).1.cls ≠ "java/lang/invoke/MethodHandle" ∧ (mX25_typeOne).1.cls ≠ "java/lang/invoke/VarHandle" ∧ (parseMethodDescriptor (mX25_typeOne).1.desc).map (fun d => d.parameters.length) = some 2 := by decide +kernel
abbrev mX25_typeDip : bM := (yX25_typeDip, cX25_typeDip, 10, some .int, [])
theorem hmX25_typeDip : (mX25_typeDip).1.cls ≠ "java/lang/invoke/MethodHandle" ∧ (mX25_typeDip).1.cls ≠ "java/lang/invoke/VarHandle" ∧ (parseMethodDescriptor (mX25_typeDip).1.desc).map (fun d => d.parameters.length) = some 2 := by decide +kernel
abbrev mX25_typeIf : bM := (yX25_typeIf, cX25_typeIf, 12, some .int, [])
theorem hmX25_typeIf : (mX25_typeIf).1.cls ≠ "java/lang/invoke/MethodHandle" ∧ (mX25_typeIf).1.cls ≠ "java/lang/invoke/VarHandle" ∧ (parseMethodDescriptor (mX25_typeIf).1.desc).map (fun d => d.parameters.length) = some 3 := by decide +kernel
abbrev mX25_topType : bM := (yX25_topType, cX25_topType, 2, some .int, [])
theorem hmX25_topType : (mX25_topType).1.cls ≠ "java/lang/invoke/MethodHandle" ∧ (mX25_topType).1.cls ≠ "java/lang/invoke/VarHandle" ∧ (parseMethodDescriptor (mX25_topType).1.desc).map (fun d => d.parameters.length) = some 1 := by decide +kernel
abbrev mX25_save : bM := (yX25_save, cX25_save, 3, some .int, [])
theorem hmX25_save : (mX25_save).1.cls ≠ "java/lang/invoke/MethodHandle" ∧ (mX25_save).1.cls ≠ "java/lang/invoke/VarHandle" ∧ (parseMethodDescriptor (mX25_save).1.desc).map (fun d => d.parameters.length) = some 0 := by decide +kernel
abbrev mX25_load : bM := (yX25_load, cX25_load, 4, none, [])
theorem hmX25_load : (mX25_load).1.cls ≠ "java/lang/invoke/MethodHandle" ∧ (mX25_load).1.cls ≠ "java/lang/invoke/VarHandle" ∧ (parseMethodDescriptor (mX25_load).1.desc).map (fun d => d.parameters.length) = some 2 := by decide +kernel
abbrev mX25_isLike : bM := (yX25_isLike, cX25_isLike, 5, some .boolean, [])
theorem hmX25_isLike : (mX25_isLike).1.cls ≠ "java/lang/invoke/MethodHandle" ∧ (mX25_isLike).1.cls ≠ "java/lang/invoke/VarHandle" ∧ (parseMethodDescriptor (mX25_isLike).1.desc).map (fun d => d.parameters.length) = some 2 := by decide +kernel
abbrev mX25_typeTurns : bM := (yX25_typeTurns, cX25_typeTurns, 12, some .int, [])
theorem hmX25_typeTurns : (mX25_typeTurns).1.cls ≠ "java/lang/invoke/MethodHandle" ∧ (mX25_typeTurns).1.cls ≠ "java/lang/invoke/VarHandle" ∧ (parseMethodDescriptor (mX25_typeTurns).1.desc).map (fun d => d.parameters.length) = some 3 := by decide +kernel
abbrev mX25_element : bM := (yX25_element, cX25_element, 2, some .int, [])
theorem hmX25_element : (mX25_element).1.cls ≠ "java/lang/invoke/MethodHandle" ∧ (mX25_element).1.cls ≠ "java/lang/invoke/VarHandle" ∧ (parseMethodDescriptor (mX25_element).1.desc).map (fun d => d.parameters.length) = some 1 := by decide +kernel
abbrev mX25_instead : bM := (yX25_instead, cX25_instead, 3, some .boolean, [])
theorem hmX25_instead : (mX25_instead).1.cls ≠ "java/lang/invoke/MethodHandle" ∧ (mX25_instead).1.cls ≠ "java/lang/invoke/VarHandle" ∧ (parseMethodDescriptor (mX25_instead).1.desc).map (fun d => d.parameters.length) = some 2 := by decide +kernel
abbrev mX25_typeLambda : bM := (yX25_typeLambda, cX25_typeLambda, 11, some .int, [])
theorem hmX25_typeLambda : (mX25_typeLambda).1.cls ≠ "java/lang/invoke/MethodHandle" ∧ (mX25_typeLambda).1.cls ≠ "java/lang/invoke/VarHandle" ∧ (parseMethodDescriptor (mX25_typeLambda).1.desc).map (fun d => d.parameters.length) = some 2 := by decide +kernel
abbrev mX25_typeCreate : bM := (yX25_typeCreate, cX25_typeCreate, 10, some .int, [])
theorem hmX25_typeCreate : (mX25_typeCreate).1.cls ≠ "java/lang/invoke/MethodHandle" ∧ (mX25_typeCreate).1.cls ≠ "java/lang/invoke/VarHandle" ∧ (parseMethodDescriptor (mX25_typeCreate).1.desc).map (fun d => d.parameters.length) = some 2 := by decide +kernel
abbrev mX25_isTop : bM := (yX25_isTop, cX25_isTop, 3, some .boolean, [])
theorem hmX25_isTop : (mX25_isTop).1.cls ≠ "java/lang/invoke/MethodHandle" ∧ (mX25_isTop).1.cls ≠ "java/lang/invoke/VarHandle" ∧ (parseMethodDescriptor (mX25_isTop).1.desc).map (fun d => d.parameters.length) = some 2 := by decide +kernel
abbrev mX25_isPlain : bM := (yX25_isPlain, cX25_isPlain, 6, some .boolean, [])
theorem hmX25_isPlain : (mX25_isPlain).1.cls ≠ "java/lang/invoke/MethodHandle" ∧ (mX25_isPlain).1.cls ≠ "java/lang/invoke/VarHandle" ∧ (parseMethodDescriptor (mX25_isPlain).1.desc).map (fun d => d.parameters.length) = some 3 := by decide +kernel
abbrev mX25_isMoving : bM := (yX25_isMoving, cX25_isMoving, 10, some .boolean, [])
theorem hmX25_isMoving : (mX25_isMoving).1.cls ≠ "java/lang/invoke/MethodHandle" ∧ (mX25_isMoving).1.cls ≠ "java/lang/invoke/VarHandle" ∧ (parseMethodDescriptor (mX25_isMoving).1.desc).map (fun d => d.parameters.length) = some 4 := by decide +kernel
abbrev mX25_isTurned : bM := (yX25_isTurned, cX25_isTurned, 7, some .boolean, [])
theorem hmX25_isTurned : (mX25_isTurned).1.cls ≠ "java/lang/invoke/MethodHandle" ∧ (mX25_isTurned).1.cls ≠ "java/lang/invoke/VarHandle" ∧ (parseMethodDescriptor (mX25_isTurned).1.desc).map (fun d => d.parameters.length) = some 2 := by decide +kernel
abbrev mX25_isUnpaired : bM := (yX25_isUnpaired, cX25_isUnpaired, 5, some .boolean, [])
theorem hmX25_isUnpaired : (mX25_isUnpaired).1.cls ≠ "java/lang/invoke/MethodHandle" ∧ (mX25_isUnpaired).1.cls ≠ "java/lang/invoke/VarHandle" ∧ (parseMethodDescriptor (mX25_isUnpaired).1.desc).map (fun d => d.parameters.length) = some 1 := by decide +kernel
abbrev mX25_isReckoning : bM := (yX25_isReckoning, cX25_isReckoning, 3, some .boolean, [])
theorem hmX25_isReckoning : (mX25_isReckoning).1.cls ≠ "java/lang/invoke/MethodHandle" ∧ (mX25_isReckoning).1.cls ≠ "java/lang/invoke/VarHandle" ∧ (parseMethodDescriptor (mX25_isReckoning).1.desc).map (fun d => d.parameters.length) = some 1 := by decide +kernel
abbrev mX25_isOfOne : bM := (yX25_isOfOne, cX25_isOfOne, 1, some .boolean, [])
theorem hmX25_isOfOne : (mX25_isOfOne).1.cls ≠ "java/lang/invoke/MethodHandle" ∧ (mX25_isOfOne).1.cls ≠ "java/lang/invoke/VarHandle" ∧ (parseMethodDescriptor (mX25_isOfOne).1.desc).map (fun d => d.parameters.length) = some 1 := by decide +kernel
abbrev mX25_reckonedOne : bM := (yX25_reckonedOne, cX25_reckonedOne, 3, some .int, [])
theorem hmX25_reckonedOne : (mX25_reckonedOne).1.cls ≠ "java/lang/invoke/MethodHandle" ∧ (mX25_reckonedOne).1.cls ≠ "java/lang/invoke/VarHandle" ∧ (parseMethodDescriptor (mX25_reckonedOne).1.desc).map (fun d => d.parameters.length) = some 2 := by decide +kernel
abbrev mX25_isWhole : bM := (yX25_isWhole, cX25_isWhole, 1, some .boolean, [])
theorem hmX25_isWhole : (mX25_isWhole).1.cls ≠ "java/lang/invoke/MethodHandle" ∧ (mX25_isWhole).1.cls ≠ "java/lang/invoke/VarHandle" ∧ (parseMethodDescriptor (mX25_isWhole).1.desc).map (fun d => d.parameters.length) = some 1 := by decide +kernel
abbrev mX25_reckoned : bM := (yX25_reckoned, cX25_reckoned, 11, some .int, [])
theorem hmX25_reckoned : (mX25_reckoned).1.cls ≠ "java/lang/invoke/MethodHandle" ∧ (mX25_reckoned).1.cls ≠ "java/lang/invoke/VarHandle" ∧ (parseMethodDescriptor (mX25_reckoned).1.desc).map (fun d => d.parameters.length) = some 3 := by decide +kernel
abbrev mX25_isKeyed : bM := (yX25_isKeyed, cX25_isKeyed, 8, some .boolean, [])
theorem hmX25_isKeyed : (mX25_isKeyed).1.cls ≠ "java/lang/invoke/MethodHandle" ∧ (mX25_isKeyed).1.cls ≠ "java/lang/invoke/VarHandle" ∧ (parseMethodDescriptor (mX25_isKeyed).1.desc).map (fun d => d.parameters.length) = some 1 := by decide +kernel
abbrev mX25_isTelling : bM := (yX25_isTelling, cX25_isTelling, 10, some .boolean, [])
theorem hmX25_isTelling : (mX25_isTelling).1.cls ≠ "java/lang/invoke/MethodHandle" ∧ (mX25_isTelling).1.cls ≠ "java/lang/invoke/VarHandle" ∧ (parseMethodDescriptor (mX25_isTelling).1.desc).map (fun d => d.parameters.length) = some 4 := by decide +kernel
abbrev mX25_told : bM := (yX25_told, cX25_told, 4, some .int, [])
theorem hmX25_told : (mX25_told).1.cls ≠ "java/lang/invoke/MethodHandle" ∧ (mX25_told).1.cls ≠ "java/lang/invoke/VarHandle" ∧ (parseMethodDescriptor (mX25_told).1.desc).map (fun d => d.parameters.length) = some 3 := by decide +kernel
abbrev mX25_tell : bM := (yX25_tell, cX25_tell, 9, some .int, [])
theorem hmX25_tell : (mX25_tell).1.cls ≠ "java/lang/invoke/MethodHandle" ∧ (mX25_tell).1.cls ≠ "java/lang/invoke/VarHandle" ∧ (parseMethodDescriptor (mX25_tell).1.desc).map (fun d => d.parameters.length) = some 4 := by decide +kernel
abbrev mX25_tellPair : bM := (yX25_tellPair, cX25_tellPair, 9, some .int, [])
theorem hmX25_tellPair : (mX25_tellPair).1.cls ≠ "java/lang/invoke/MethodHandle" ∧ (mX25_tellPair).1.cls ≠ "java/lang/invoke/VarHandle" ∧ (parseMethodDescriptor (mX25_tellPair).1.desc).map (fun d => d.parameters.length) = some 4 := by decide +kernel
abbrev mX25_pair : bM := (yX25_pair, cX25_pair, 3, some .int, [])
theorem hmX25_pair : (mX25_pair).1.cls ≠ "java/lang/invoke/MethodHandle" ∧ (mX25_pair).1.cls ≠ "java/lang/invoke/VarHandle" ∧ (parseMethodDescriptor (mX25_pair).1.desc).map (fun d => d.parameters.length) = some 2 := by decide +kernel
abbrev mX25_lengthOf : bM := (yX25_lengthOf, cX25_lengthOf, 2, some .int, [])
theorem hmX25_lengthOf : (mX25_lengthOf).1.cls ≠ "java/lang/invoke/MethodHandle" ∧ (mX25_lengthOf).1.cls ≠ "java/lang/invoke/VarHandle" ∧ (parseMethodDescriptor (mX25_lengthOf).1.desc).map (fun d => d.parameters.length) = some 1 := by decide +kernel
abbrev mX25_two : bM := (yX25_two, cX25_two, 7, some .int, [])
theorem hmX25_two : (mX25_two).1.cls ≠ "java/lang/invoke/MethodHandle" ∧ (mX25_two).1.cls ≠ "java/lang/invoke/VarHandle" ∧ (parseMethodDescriptor (mX25_two).1.desc).map (fun d => d.parameters.length) = some 4 := by decide +kernel
abbrev mX25_tellNumber : bM := (yX25_tellNumber, cX25_tellNumber, 5, some .int, [])
theorem hmX25_tellNumber : (mX25_tellNumber).1.cls ≠ "java/lang/invoke/MethodHandle" ∧ (mX25_tellNumber).1.cls ≠ "java/lang/invoke/VarHandle" ∧ (parseMethodDescriptor (mX25_tellNumber).1.desc).map (fun d => d.parameters.length) = some 3 := by decide +kernel
abbrev mX25_number : bM := (yX25_number, cX25_number, 5, some .int, [])
theorem hmX25_number : (mX25_number).1.cls ≠ "java/lang/invoke/MethodHandle" ∧ (mX25_number).1.cls ≠ "java/lang/invoke/VarHandle" ∧ (parseMethodDescriptor (mX25_number).1.desc).map (fun d => d.parameters.length) = some 2 := by decide +kernel
abbrev mX25_tellBytes : bM := (yX25_tellBytes, cX25_tellBytes, 7, some .int, [])
theorem hmX25_tellBytes : (mX25_tellBytes).1.cls ≠ "java/lang/invoke/MethodHandle" ∧ (mX25_tellBytes).1.cls ≠ "java/lang/invoke/VarHandle" ∧ (parseMethodDescriptor (mX25_tellBytes).1.desc).map (fun d => d.parameters.length) = some 2 := by decide +kernel
abbrev mX25_wrap : bM := (yX25_wrap, cX25_wrap, 3, some .int, [])
theorem hmX25_wrap : (mX25_wrap).1.cls ≠ "java/lang/invoke/MethodHandle" ∧ (mX25_wrap).1.cls ≠ "java/lang/invoke/VarHandle" ∧ (parseMethodDescriptor (mX25_wrap).1.desc).map (fun d => d.parameters.length) = some 2 := by decide +kernel
abbrev mX25_one : bM := (yX25_one, cX25_one, 4, some .int, [])
theorem hmX25_one : (mX25_one).1.cls ≠ "java/lang/invoke/MethodHandle" ∧ (mX25_one).1.cls ≠ "java/lang/invoke/VarHandle" ∧ (parseMethodDescriptor (mX25_one).1.desc).map (fun d => d.parameters.length) = some 2 := by decide +kernel
abbrev mX25_tellRow : bM := (yX25_tellRow, cX25_tellRow, 13, some .int, [])
theorem hmX25_tellRow : (mX25_tellRow).1.cls ≠ "java/lang/invoke/MethodHandle" ∧ (mX25_tellRow).1.cls ≠ "java/lang/invoke/VarHandle" ∧ (parseMethodDescriptor (mX25_tellRow).1.desc).map (fun d => d.parameters.length) = some 3 := by decide +kernel
abbrev mX25_compare : bM := (yX25_compare, cX25_compare, 5, some .int, [])
theorem hmX25_compare : (mX25_compare).1.cls ≠ "java/lang/invoke/MethodHandle" ∧ (mX25_compare).1.cls ≠ "java/lang/invoke/VarHandle" ∧ (parseMethodDescriptor (mX25_compare).1.desc).map (fun d => d.parameters.length) = some 2 := by decide +kernel
abbrev mX25_tagOf : bM := (yX25_tagOf, cX25_tagOf, 2, some .int, [])
theorem hmX25_tagOf : (mX25_tagOf).1.cls ≠ "java/lang/invoke/MethodHandle" ∧ (mX25_tagOf).1.cls ≠ "java/lang/invoke/VarHandle" ∧ (parseMethodDescriptor (mX25_tagOf).1.desc).map (fun d => d.parameters.length) = some 1 := by decide +kernel
abbrev mX25_read : bM := (yX25_read, cX25_read, 4, none, [])
theorem hmX25_read : (mX25_read).1.cls ≠ "java/lang/invoke/MethodHandle" ∧ (mX25_read).1.cls ≠ "java/lang/invoke/VarHandle" ∧ (parseMethodDescriptor (mX25_read).1.desc).map (fun d => d.parameters.length) = some 2 := by decide +kernel
abbrev mX25_cellsOf : bM := (yX25_cellsOf, cX25_cellsOf, 2, some .int, [])
theorem hmX25_cellsOf : (mX25_cellsOf).1.cls ≠ "java/lang/invoke/MethodHandle" ∧ (mX25_cellsOf).1.cls ≠ "java/lang/invoke/VarHandle" ∧ (parseMethodDescriptor (mX25_cellsOf).1.desc).map (fun d => d.parameters.length) = some 1 := by decide +kernel
abbrev mX25_compareRows : bM := (yX25_compareRows, cX25_compareRows, 6, some .int, [])
theorem hmX25_compareRows : (mX25_compareRows).1.cls ≠ "java/lang/invoke/MethodHandle" ∧ (mX25_compareRows).1.cls ≠ "java/lang/invoke/VarHandle" ∧ (parseMethodDescriptor (mX25_compareRows).1.desc).map (fun d => d.parameters.length) = some 2 := by decide +kernel
abbrev mX25_rowSize : bM := (yX25_rowSize, cX25_rowSize, 2, some .int, [])
theorem hmX25_rowSize : (mX25_rowSize).1.cls ≠ "java/lang/invoke/MethodHandle" ∧ (mX25_rowSize).1.cls ≠ "java/lang/invoke/VarHandle" ∧ (parseMethodDescriptor (mX25_rowSize).1.desc).map (fun d => d.parameters.length) = some 1 := by decide +kernel
abbrev mX25_byteAt : bM := (yX25_byteAt, cX25_byteAt, 3, some .int, [])
theorem hmX25_byteAt : (mX25_byteAt).1.cls ≠ "java/lang/invoke/MethodHandle" ∧ (mX25_byteAt).1.cls ≠ "java/lang/invoke/VarHandle" ∧ (parseMethodDescriptor (mX25_byteAt).1.desc).map (fun d => d.parameters.length) = some 2 := by decide +kernel
abbrev mX25_left : bM := (yX25_left, cX25_left, 2, some .int, [])
theorem hmX25_left : (mX25_left).1.cls ≠ "java/lang/invoke/MethodHandle" ∧ (mX25_left).1.cls ≠ "java/lang/invoke/VarHandle" ∧ (parseMethodDescriptor (mX25_left).1.desc).map (fun d => d.parameters.length) = some 1 := by decide +kernel
abbrev mX25_right : bM := (yX25_right, cX25_right, 2, some .int, [])
theorem hmX25_right : (mX25_right).1.cls ≠ "java/lang/invoke/MethodHandle" ∧ (mX25_right).1.cls ≠ "java/lang/invoke/VarHandle" ∧ (parseMethodDescriptor (mX25_right).1.desc).map (fun d => d.parameters.length) = some 1 := by decide +kernel
abbrev mX25_rank : bM := (yX25_rank, cX25_rank, 3, some .int, [])
theorem hmX25_rank : (mX25_rank).1.cls ≠ "java/lang/invoke/MethodHandle" ∧ (mX25_rank).1.cls ≠ "java/lang/invoke/VarHandle" ∧ (parseMethodDescriptor (mX25_rank).1.desc).map (fun d => d.parameters.length) = some 1 := by decide +kernel
abbrev mX25_lay : bM := (yX25_lay, cX25_lay, 2, none, [])
theorem hmX25_lay : (mX25_lay).1.cls ≠ "java/lang/invoke/MethodHandle" ∧ (mX25_lay).1.cls ≠ "java/lang/invoke/VarHandle" ∧ (parseMethodDescriptor (mX25_lay).1.desc).map (fun d => d.parameters.length) = some 1 := by decide +kernel
abbrev mX25_list : bM := (yX25_list, cX25_list, 3, some .int, [])
theorem hmX25_list : (mX25_list).1.cls ≠ "java/lang/invoke/MethodHandle" ∧ (mX25_list).1.cls ≠ "java/lang/invoke/VarHandle" ∧ (parseMethodDescriptor (mX25_list).1.desc).map (fun d => d.parameters.length) = some 1 := by decide +kernel
abbrev mX25_cons : bM := (yX25_cons, cX25_cons, 4, some .int, [])
theorem hmX25_cons : (mX25_cons).1.cls ≠ "java/lang/invoke/MethodHandle" ∧ (mX25_cons).1.cls ≠ "java/lang/invoke/VarHandle" ∧ (parseMethodDescriptor (mX25_cons).1.desc).map (fun d => d.parameters.length) = some 2 := by decide +kernel
abbrev mX25_collect : bM := (yX25_collect, cX25_collect, 12, some .int, [])
theorem hmX25_collect : (mX25_collect).1.cls ≠ "java/lang/invoke/MethodHandle" ∧ (mX25_collect).1.cls ≠ "java/lang/invoke/VarHandle" ∧ (parseMethodDescriptor (mX25_collect).1.desc).map (fun d => d.parameters.length) = some 2 := by decide +kernel
abbrev mX25_width : bM := (yX25_width, cX25_width, 1, some .int, [])
theorem hmX25_width : (mX25_width).1.cls ≠ "java/lang/invoke/MethodHandle" ∧ (mX25_width).1.cls ≠ "java/lang/invoke/VarHandle" ∧ (parseMethodDescriptor (mX25_width).1.desc).map (fun d => d.parameters.length) = some 1 := by decide +kernel
abbrev mX25_block : bM := (yX25_block, cX25_block, 4, some .int, [])
theorem hmX25_block : (mX25_block).1.cls ≠ "java/lang/invoke/MethodHandle" ∧ (mX25_block).1.cls ≠ "java/lang/invoke/VarHandle" ∧ (parseMethodDescriptor (mX25_block).1.desc).map (fun d => d.parameters.length) = some 2 := by decide +kernel
abbrev mX25_measure : bM := (yX25_measure, cX25_measure, 10, none, [])
theorem hmX25_measure : (mX25_measure).1.cls ≠ "java/lang/invoke/MethodHandle" ∧ (mX25_measure).1.cls ≠ "java/lang/invoke/VarHandle" ∧ (parseMethodDescriptor (mX25_measure).1.desc).map (fun d => d.parameters.length) = some 1 := by decide +kernel
abbrev mX25_blocks : bM := (yX25_blocks, cX25_blocks, 2, some .int, [])
theorem hmX25_blocks : (mX25_blocks).1.cls ≠ "java/lang/invoke/MethodHandle" ∧ (mX25_blocks).1.cls ≠ "java/lang/invoke/VarHandle" ∧ (parseMethodDescriptor (mX25_blocks).1.desc).map (fun d => d.parameters.length) = some 1 := by decide +kernel
abbrev mX25_blockAt : bM := (yX25_blockAt, cX25_blockAt, 3, some .int, [])
theorem hmX25_blockAt : (mX25_blockAt).1.cls ≠ "java/lang/invoke/MethodHandle" ∧ (mX25_blockAt).1.cls ≠ "java/lang/invoke/VarHandle" ∧ (parseMethodDescriptor (mX25_blockAt).1.desc).map (fun d => d.parameters.length) = some 2 := by decide +kernel
abbrev mX25_entries : bM := (yX25_entries, cX25_entries, 2, some .int, [])
theorem hmX25_entries : (mX25_entries).1.cls ≠ "java/lang/invoke/MethodHandle" ∧ (mX25_entries).1.cls ≠ "java/lang/invoke/VarHandle" ∧ (parseMethodDescriptor (mX25_entries).1.desc).map (fun d => d.parameters.length) = some 1 := by decide +kernel
abbrev mX25_keyAt : bM := (yX25_keyAt, cX25_keyAt, 4, some .int, [])
theorem hmX25_keyAt : (mX25_keyAt).1.cls ≠ "java/lang/invoke/MethodHandle" ∧ (mX25_keyAt).1.cls ≠ "java/lang/invoke/VarHandle" ∧ (parseMethodDescriptor (mX25_keyAt).1.desc).map (fun d => d.parameters.length) = some 3 := by decide +kernel
abbrev mX25_isOther : bM := (yX25_isOther, cX25_isOther, 11, some .boolean, [])
theorem hmX25_isOther : (mX25_isOther).1.cls ≠ "java/lang/invoke/MethodHandle" ∧ (mX25_isOther).1.cls ≠ "java/lang/invoke/VarHandle" ∧ (parseMethodDescriptor (mX25_isOther).1.desc).map (fun d => d.parameters.length) = some 3 := by decide +kernel
abbrev mX25_isJoined : bM := (yX25_isJoined, cX25_isJoined, 8, some .boolean, [])
theorem hmX25_isJoined : (mX25_isJoined).1.cls ≠ "java/lang/invoke/MethodHandle" ∧ (mX25_isJoined).1.cls ≠ "java/lang/invoke/VarHandle" ∧ (parseMethodDescriptor (mX25_isJoined).1.desc).map (fun d => d.parameters.length) = some 4 := by decide +kernel
abbrev mX25_isSelf : bM := (yX25_isSelf, cX25_isSelf, 4, some .boolean, [])
theorem hmX25_isSelf : (mX25_isSelf).1.cls ≠ "java/lang/invoke/MethodHandle" ∧ (mX25_isSelf).1.cls ≠ "java/lang/invoke/VarHandle" ∧ (parseMethodDescriptor (mX25_isSelf).1.desc).map (fun d => d.parameters.length) = some 2 := by decide +kernel
abbrev mX25_entry : bM := (yX25_entry, cX25_entry, 8, some .int, [])
theorem hmX25_entry : (mX25_entry).1.cls ≠ "java/lang/invoke/MethodHandle" ∧ (mX25_entry).1.cls ≠ "java/lang/invoke/VarHandle" ∧ (parseMethodDescriptor (mX25_entry).1.desc).map (fun d => d.parameters.length) = some 5 := by decide +kernel
abbrev mX25_isDefault : bM := (yX25_isDefault, cX25_isDefault, 5, some .boolean, [])
theorem hmX25_isDefault : (mX25_isDefault).1.cls ≠ "java/lang/invoke/MethodHandle" ∧ (mX25_isDefault).1.cls ≠ "java/lang/invoke/VarHandle" ∧ (parseMethodDescriptor (mX25_isDefault).1.desc).map (fun d => d.parameters.length) = some 3 := by decide +kernel
abbrev mX25_search : bM := (yX25_search, cX25_search, 10, some .int, [])
theorem hmX25_search : (mX25_search).1.cls ≠ "java/lang/invoke/MethodHandle" ∧ (mX25_search).1.cls ≠ "java/lang/invoke/VarHandle" ∧ (parseMethodDescriptor (mX25_search).1.desc).map (fun d => d.parameters.length) = some 6 := by decide +kernel
abbrev mX25_originate : bM := (yX25_originate, cX25_originate, 11, none, [])
theorem hmX25_originate : (mX25_originate).1.cls ≠ "java/lang/invoke/MethodHandle" ∧ (mX25_originate).1.cls ≠ "java/lang/invoke/VarHandle" ∧ (parseMethodDescriptor (mX25_originate).1.desc).map (fun d => d.parameters.length) = some 8 := by decide +kernel
abbrev mX25_goes : bM := (yX25_goes, cX25_goes, 7, some .boolean, [])
theorem hmX25_goes : (mX25_goes).1.cls ≠ "java/lang/invoke/MethodHandle" ∧ (mX25_goes).1.cls ≠ "java/lang/invoke/VarHandle" ∧ (parseMethodDescriptor (mX25_goes).1.desc).map (fun d => d.parameters.length) = some 5 := by decide +kernel
abbrev mX25_payFor : bM := (yX25_payFor, cX25_payFor, 2, none, [])
theorem hmX25_payFor : (mX25_payFor).1.cls ≠ "java/lang/invoke/MethodHandle" ∧ (mX25_payFor).1.cls ≠ "java/lang/invoke/VarHandle" ∧ (parseMethodDescriptor (mX25_payFor).1.desc).map (fun d => d.parameters.length) = some 1 := by decide +kernel
abbrev mX25_store : bM := (yX25_store, cX25_store, 4, none, [])
theorem hmX25_store : (mX25_store).1.cls ≠ "java/lang/invoke/MethodHandle" ∧ (mX25_store).1.cls ≠ "java/lang/invoke/VarHandle" ∧ (parseMethodDescriptor (mX25_store).1.desc).map (fun d => d.parameters.length) = some 2 := by decide +kernel
abbrev mX25_storedBytes : bM := (yX25_storedBytes, cX25_storedBytes, 4, some .long, [])
theorem hmX25_storedBytes : (mX25_storedBytes).1.cls ≠ "java/lang/invoke/MethodHandle" ∧ (mX25_storedBytes).1.cls ≠ "java/lang/invoke/VarHandle" ∧ (parseMethodDescriptor (mX25_storedBytes).1.desc).map (fun d => d.parameters.length) = some 0 := by decide +kernel
abbrev mX25_transferContent : bM := (yX25_transferContent, cX25_transferContent, 8, none, [])
theorem hmX25_transferContent : (mX25_transferContent).1.cls ≠ "java/lang/invoke/MethodHandle" ∧ (mX25_transferContent).1.cls ≠ "java/lang/invoke/VarHandle" ∧ (parseMethodDescriptor (mX25_transferContent).1.desc).map (fun d => d.parameters.length) = some 2 := by decide +kernel
abbrev mX25_keepName : bM := (yX25_keepName, cX25_keepName, 3, none, [])
theorem hmX25_keepName : (mX25_keepName).1.cls ≠ "java/lang/invoke/MethodHandle" ∧ (mX25_keepName).1.cls ≠ "java/lang/invoke/VarHandle" ∧ (parseMethodDescriptor (mX25_keepName).1.desc).map (fun d => d.parameters.length) = some 1 := by decide +kernel
abbrev mX25_exists : bM := (yX25_exists, cX25_exists, 3, some .boolean, [])
theorem hmX25_exists : (mX25_exists).1.cls ≠ "java/lang/invoke/MethodHandle" ∧ (mX25_exists).1.cls ≠ "java/lang/invoke/VarHandle" ∧ (parseMethodDescriptor (mX25_exists).1.desc).map (fun d => d.parameters.length) = some 2 := by decide +kernel
abbrev mX25_open : bM := (yX25_open, cX25_open, 3, none, [])
theorem hmX25_open : (mX25_open).1.cls ≠ "java/lang/invoke/MethodHandle" ∧ (mX25_open).1.cls ≠ "java/lang/invoke/VarHandle" ∧ (parseMethodDescriptor (mX25_open).1.desc).map (fun d => d.parameters.length) = some 1 := by decide +kernel
abbrev mX25_copyScript : bM := (yX25_copyScript, cX25_copyScript, 4, none, [])
theorem hmX25_copyScript : (mX25_copyScript).1.cls ≠ "java/lang/invoke/MethodHandle" ∧ (mX25_copyScript).1.cls ≠ "java/lang/invoke/VarHandle" ∧ (parseMethodDescriptor (mX25_copyScript).1.desc).map (fun d => d.parameters.length) = some 2 := by decide +kernel
abbrev mX25_expect : bM := (yX25_expect, cX25_expect, 2, none, [])
theorem hmX25_expect : (mX25_expect).1.cls ≠ "java/lang/invoke/MethodHandle" ∧ (mX25_expect).1.cls ≠ "java/lang/invoke/VarHandle" ∧ (parseMethodDescriptor (mX25_expect).1.desc).map (fun d => d.parameters.length) = some 1 := by decide +kernel
abbrev mX25_runContract : bM := (yX25_runContract, cX25_runContract, 9, none, [])
theorem hmX25_runContract : (mX25_runContract).1.cls ≠ "java/lang/invoke/MethodHandle" ∧ (mX25_runContract).1.cls ≠ "java/lang/invoke/VarHandle" ∧ (parseMethodDescriptor (mX25_runContract).1.desc).map (fun d => d.parameters.length) = some 5 := by decide +kernel
abbrev mX25_lightOf : bM := (yX25_lightOf, cX25_lightOf, 4, some .int, [])
theorem hmX25_lightOf : (mX25_lightOf).1.cls ≠ "java/lang/invoke/MethodHandle" ∧ (mX25_lightOf).1.cls ≠ "java/lang/invoke/VarHandle" ∧ (parseMethodDescriptor (mX25_lightOf).1.desc).map (fun d => d.parameters.length) = some 1 := by decide +kernel
abbrev mX25_light : bM := (yX25_light, cX25_light, 3, some .long, [])
theorem hmX25_light : (mX25_light).1.cls ≠ "java/lang/invoke/MethodHandle" ∧ (mX25_light).1.cls ≠ "java/lang/invoke/VarHandle" ∧ (parseMethodDescriptor (mX25_light).1.desc).map (fun d => d.parameters.length) = some 1 := by decide +kernel
abbrev mX25_push : bM := (yX25_push, cX25_push, 2, none, [])
theorem hmX25_push : (mX25_push).1.cls ≠ "java/lang/invoke/MethodHandle" ∧ (mX25_push).1.cls ≠ "java/lang/invoke/VarHandle" ∧ (parseMethodDescriptor (mX25_push).1.desc).map (fun d => d.parameters.length) = some 1 := by decide +kernel
abbrev mX25_run : bM := (yX25_run, cX25_run, 3, none, [])
theorem hmX25_run : (mX25_run).1.cls ≠ "java/lang/invoke/MethodHandle" ∧ (mX25_run).1.cls ≠ "java/lang/invoke/VarHandle" ∧ (parseMethodDescriptor (mX25_run).1.desc).map (fun d => d.parameters.length) = some 0 := by decide +kernel
abbrev mX25_over : bM := (yX25_over, cX25_over, 6, some .int, [])
theorem hmX25_over : (mX25_over).1.cls ≠ "java/lang/invoke/MethodHandle" ∧ (mX25_over).1.cls ≠ "java/lang/invoke/VarHandle" ∧ (parseMethodDescriptor (mX25_over).1.desc).map (fun d => d.parameters.length) = some 0 := by decide +kernel
abbrev mX25_pull : bM := (yX25_pull, cX25_pull, 1, some .int, [])
theorem hmX25_pull : (mX25_pull).1.cls ≠ "java/lang/invoke/MethodHandle" ∧ (mX25_pull).1.cls ≠ "java/lang/invoke/VarHandle" ∧ (parseMethodDescriptor (mX25_pull).1.desc).map (fun d => d.parameters.length) = some 0 := by decide +kernel
abbrev mX25_turn : bM := (yX25_turn, cX25_turn, 7, some .int, [])
theorem hmX25_turn : (mX25_turn).1.cls ≠ "java/lang/invoke/MethodHandle" ∧ (mX25_turn).1.cls ≠ "java/lang/invoke/VarHandle" ∧ (parseMethodDescriptor (mX25_turn).1.desc).map (fun d => d.parameters.length) = some 2 := by decide +kernel
abbrev mX25_isList : bM := (yX25_isList, cX25_isList, 2, some .boolean, [])
theorem hmX25_isList : (mX25_isList).1.cls ≠ "java/lang/invoke/MethodHandle" ∧ (mX25_isList).1.cls ≠ "java/lang/invoke/VarHandle" ∧ (parseMethodDescriptor (mX25_isList).1.desc).map (fun d => d.parameters.length) = some 1 := by decide +kernel
abbrev mX25_isRow : bM := (yX25_isRow, cX25_isRow, 1, some .boolean, [])
theorem hmX25_isRow : (mX25_isRow).1.cls ≠ "java/lang/invoke/MethodHandle" ∧ (mX25_isRow).1.cls ≠ "java/lang/invoke/VarHandle" ∧ (parseMethodDescriptor (mX25_isRow).1.desc).map (fun d => d.parameters.length) = some 1 := by decide +kernel
abbrev mX25_turned : bM := (yX25_turned, cX25_turned, 4, some .int, [])
theorem hmX25_turned : (mX25_turned).1.cls ≠ "java/lang/invoke/MethodHandle" ∧ (mX25_turned).1.cls ≠ "java/lang/invoke/VarHandle" ∧ (parseMethodDescriptor (mX25_turned).1.desc).map (fun d => d.parameters.length) = some 2 := by decide +kernel
abbrev mX25_entryAt : bM := (yX25_entryAt, cX25_entryAt, 5, some .int, [])
theorem hmX25_entryAt : (mX25_entryAt).1.cls ≠ "java/lang/invoke/MethodHandle" ∧ (mX25_entryAt).1.cls ≠ "java/lang/invoke/VarHandle" ∧ (parseMethodDescriptor (mX25_entryAt).1.desc).map (fun d => d.parameters.length) = some 2 := by decide +kernel
abbrev mX25_mapped : bM := (yX25_mapped, cX25_mapped, 8, some .int, [])
theorem hmX25_mapped : (mX25_mapped).1.cls ≠ "java/lang/invoke/MethodHandle" ∧ (mX25_mapped).1.cls ≠ "java/lang/invoke/VarHandle" ∧ (parseMethodDescriptor (mX25_mapped).1.desc).map (fun d => d.parameters.length) = some 4 := by decide +kernel
abbrev mX25_frame : bM := (yX25_frame, cX25_frame, 5, none, [])
theorem hmX25_frame : (mX25_frame).1.cls ≠ "java/lang/invoke/MethodHandle" ∧ (mX25_frame).1.cls ≠ "java/lang/invoke/VarHandle" ∧ (parseMethodDescriptor (mX25_frame).1.desc).map (fun d => d.parameters.length) = some 4 := by decide +kernel
abbrev mX25_perform : bM := (yX25_perform, cX25_perform, 4, some .int, [])
theorem hmX25_perform : (mX25_perform).1.cls ≠ "java/lang/invoke/MethodHandle" ∧ (mX25_perform).1.cls ≠ "java/lang/invoke/VarHandle" ∧ (parseMethodDescriptor (mX25_perform).1.desc).map (fun d => d.parameters.length) = some 1 := by decide +kernel
abbrev mX25_moves : bM := (yX25_moves, cX25_moves, 12, some .int, [])
theorem hmX25_moves : (mX25_moves).1.cls ≠ "java/lang/invoke/MethodHandle" ∧ (mX25_moves).1.cls ≠ "java/lang/invoke/VarHandle" ∧ (parseMethodDescriptor (mX25_moves).1.desc).map (fun d => d.parameters.length) = some 3 := by decide +kernel
abbrev mX25_peek : bM := (yX25_peek, cX25_peek, 2, some .int, [])
theorem hmX25_peek : (mX25_peek).1.cls ≠ "java/lang/invoke/MethodHandle" ∧ (mX25_peek).1.cls ≠ "java/lang/invoke/VarHandle" ∧ (parseMethodDescriptor (mX25_peek).1.desc).map (fun d => d.parameters.length) = some 1 := by decide +kernel
abbrev mX25_give : bM := (yX25_give, cX25_give, 3, none, [])
theorem hmX25_give : (mX25_give).1.cls ≠ "java/lang/invoke/MethodHandle" ∧ (mX25_give).1.cls ≠ "java/lang/invoke/VarHandle" ∧ (parseMethodDescriptor (mX25_give).1.desc).map (fun d => d.parameters.length) = some 2 := by decide +kernel
abbrev mX25_unpair : bM := (yX25_unpair, cX25_unpair, 4, none, [])
theorem hmX25_unpair : (mX25_unpair).1.cls ≠ "java/lang/invoke/MethodHandle" ∧ (mX25_unpair).1.cls ≠ "java/lang/invoke/VarHandle" ∧ (parseMethodDescriptor (mX25_unpair).1.desc).map (fun d => d.parameters.length) = some 1 := by decide +kernel
abbrev mX25_putAside : bM := (yX25_putAside, cX25_putAside, 2, none, [])
theorem hmX25_putAside : (mX25_putAside).1.cls ≠ "java/lang/invoke/MethodHandle" ∧ (mX25_putAside).1.cls ≠ "java/lang/invoke/VarHandle" ∧ (parseMethodDescriptor (mX25_putAside).1.desc).map (fun d => d.parameters.length) = some 1 := by decide +kernel
abbrev mX25_controls : bM := (yX25_controls, cX25_controls, 6, some .int, [])
theorem hmX25_controls : (mX25_controls).1.cls ≠ "java/lang/invoke/MethodHandle" ∧ (mX25_controls).1.cls ≠ "java/lang/invoke/VarHandle" ∧ (parseMethodDescriptor (mX25_controls).1.desc).map (fun d => d.parameters.length) = some 3 := by decide +kernel
abbrev mX25_execute : bM := (yX25_execute, cX25_execute, 5, some .int, [])
theorem hmX25_execute : (mX25_execute).1.cls ≠ "java/lang/invoke/MethodHandle" ∧ (mX25_execute).1.cls ≠ "java/lang/invoke/VarHandle" ∧ (parseMethodDescriptor (mX25_execute).1.desc).map (fun d => d.parameters.length) = some 1 := by decide +kernel
abbrev mX25_into : bM := (yX25_into, cX25_into, 3, some .int, [])
theorem hmX25_into : (mX25_into).1.cls ≠ "java/lang/invoke/MethodHandle" ∧ (mX25_into).1.cls ≠ "java/lang/invoke/VarHandle" ∧ (parseMethodDescriptor (mX25_into).1.desc).map (fun d => d.parameters.length) = some 2 := by decide +kernel
abbrev mX25_fail : bM := (yX25_fail, cX25_fail, 2, some .int, [])
theorem hmX25_fail : (mX25_fail).1.cls ≠ "java/lang/invoke/MethodHandle" ∧ (mX25_fail).1.cls ≠ "java/lang/invoke/VarHandle" ∧ (parseMethodDescriptor (mX25_fail).1.desc).map (fun d => d.parameters.length) = some 1 := by decide +kernel
abbrev mX25_apply_2 : bM := (yX25_apply_2, cX25_apply_2, 4, none, [])
theorem hmX25_apply_2 : (mX25_apply_2).1.cls ≠ "java/lang/invoke/MethodHandle" ∧ (mX25_apply_2).1.cls ≠ "java/lang/invoke/VarHandle" ∧ (parseMethodDescriptor (mX25_apply_2).1.desc).map (fun d => d.parameters.length) = some 2 := by decide +kernel
abbrev mX25_reckon : bM := (yX25_reckon, cX25_reckon, 8, none, [])
theorem hmX25_reckon : (mX25_reckon).1.cls ≠ "java/lang/invoke/MethodHandle" ∧ (mX25_reckon).1.cls ≠ "java/lang/invoke/VarHandle" ∧ (parseMethodDescriptor (mX25_reckon).1.desc).map (fun d => d.parameters.length) = some 1 := by decide +kernel
abbrev mX25_compared : bM := (yX25_compared, cX25_compared, 6, none, [])
theorem hmX25_compared : (mX25_compared).1.cls ≠ "java/lang/invoke/MethodHandle" ∧ (mX25_compared).1.cls ≠ "java/lang/invoke/VarHandle" ∧ (parseMethodDescriptor (mX25_compared).1.desc).map (fun d => d.parameters.length) = some 2 := by decide +kernel
abbrev mX25_truth : bM := (yX25_truth, cX25_truth, 1, some .int, [])
theorem hmX25_truth : (mX25_truth).1.cls ≠ "java/lang/invoke/MethodHandle" ∧ (mX25_truth).1.cls ≠ "java/lang/invoke/VarHandle" ∧ (parseMethodDescriptor (mX25_truth).1.desc).map (fun d => d.parameters.length) = some 1 := by decide +kernel
abbrev mX25_whole : bM := (yX25_whole, cX25_whole, 4, some .int, [])
theorem hmX25_whole : (mX25_whole).1.cls ≠ "java/lang/invoke/MethodHandle" ∧ (mX25_whole).1.cls ≠ "java/lang/invoke/VarHandle" ∧ (parseMethodDescriptor (mX25_whole).1.desc).map (fun d => d.parameters.length) = some 2 := by decide +kernel
abbrev mX25_truths : bM := (yX25_truths, cX25_truths, 5, none, [])
theorem hmX25_truths : (mX25_truths).1.cls ≠ "java/lang/invoke/MethodHandle" ∧ (mX25_truths).1.cls ≠ "java/lang/invoke/VarHandle" ∧ (parseMethodDescriptor (mX25_truths).1.desc).map (fun d => d.parameters.length) = some 3 := by decide +kernel
abbrev mX25_isNumber : bM := (yX25_isNumber, cX25_isNumber, 2, some .boolean, [])
theorem hmX25_isNumber : (mX25_isNumber).1.cls ≠ "java/lang/invoke/MethodHandle" ∧ (mX25_isNumber).1.cls ≠ "java/lang/invoke/VarHandle" ∧ (parseMethodDescriptor (mX25_isNumber).1.desc).map (fun d => d.parameters.length) = some 1 := by decide +kernel
abbrev mX25_single : bM := (yX25_single, cX25_single, 2, none, [])
theorem hmX25_single : (mX25_single).1.cls ≠ "java/lang/invoke/MethodHandle" ∧ (mX25_single).1.cls ≠ "java/lang/invoke/VarHandle" ∧ (parseMethodDescriptor (mX25_single).1.desc).map (fun d => d.parameters.length) = some 1 := by decide +kernel
abbrev mX25_result : bM := (yX25_result, cX25_result, 3, none, [])
theorem hmX25_result : (mX25_result).1.cls ≠ "java/lang/invoke/MethodHandle" ∧ (mX25_result).1.cls ≠ "java/lang/invoke/VarHandle" ∧ (parseMethodDescriptor (mX25_result).1.desc).map (fun d => d.parameters.length) = some 2 := by decide +kernel
abbrev mX25_both : bM := (yX25_both, cX25_both, 4, none, [])
theorem hmX25_both : (mX25_both).1.cls ≠ "java/lang/invoke/MethodHandle" ∧ (mX25_both).1.cls ≠ "java/lang/invoke/VarHandle" ∧ (parseMethodDescriptor (mX25_both).1.desc).map (fun d => d.parameters.length) = some 3 := by decide +kernel
abbrev mX25_divide : bM := (yX25_divide, cX25_divide, 5, none, [])
theorem hmX25_divide : (mX25_divide).1.cls ≠ "java/lang/invoke/MethodHandle" ∧ (mX25_divide).1.cls ≠ "java/lang/invoke/VarHandle" ∧ (parseMethodDescriptor (mX25_divide).1.desc).map (fun d => d.parameters.length) = some 2 := by decide +kernel
abbrev mX25_shift : bM := (yX25_shift, cX25_shift, 2, none, [])
theorem hmX25_shift : (mX25_shift).1.cls ≠ "java/lang/invoke/MethodHandle" ∧ (mX25_shift).1.cls ≠ "java/lang/invoke/VarHandle" ∧ (parseMethodDescriptor (mX25_shift).1.desc).map (fun d => d.parameters.length) = some 1 := by decide +kernel
abbrev mX25_strings : bM := (yX25_strings, cX25_strings, 9, none, [])
theorem hmX25_strings : (mX25_strings).1.cls ≠ "java/lang/invoke/MethodHandle" ∧ (mX25_strings).1.cls ≠ "java/lang/invoke/VarHandle" ∧ (parseMethodDescriptor (mX25_strings).1.desc).map (fun d => d.parameters.length) = some 2 := by decide +kernel
abbrev mX25_sizeOf : bM := (yX25_sizeOf, cX25_sizeOf, 2, some .long, [])
theorem hmX25_sizeOf : (mX25_sizeOf).1.cls ≠ "java/lang/invoke/MethodHandle" ∧ (mX25_sizeOf).1.cls ≠ "java/lang/invoke/VarHandle" ∧ (parseMethodDescriptor (mX25_sizeOf).1.desc).map (fun d => d.parameters.length) = some 1 := by decide +kernel
abbrev mX25_slice : bM := (yX25_slice, cX25_slice, 8, none, [])
theorem hmX25_slice : (mX25_slice).1.cls ≠ "java/lang/invoke/MethodHandle" ∧ (mX25_slice).1.cls ≠ "java/lang/invoke/VarHandle" ∧ (parseMethodDescriptor (mX25_slice).1.desc).map (fun d => d.parameters.length) = some 3 := by decide +kernel
abbrev mX25_joinAll : bM := (yX25_joinAll, cX25_joinAll, 11, none, [])
theorem hmX25_joinAll : (mX25_joinAll).1.cls ≠ "java/lang/invoke/MethodHandle" ∧ (mX25_joinAll).1.cls ≠ "java/lang/invoke/VarHandle" ∧ (parseMethodDescriptor (mX25_joinAll).1.desc).map (fun d => d.parameters.length) = some 2 := by decide +kernel
abbrev mX25_keyed : bM := (yX25_keyed, cX25_keyed, 10, none, [])
theorem hmX25_keyed : (mX25_keyed).1.cls ≠ "java/lang/invoke/MethodHandle" ∧ (mX25_keyed).1.cls ≠ "java/lang/invoke/VarHandle" ∧ (parseMethodDescriptor (mX25_keyed).1.desc).map (fun d => d.parameters.length) = some 1 := by decide +kernel
abbrev mX25_digits : bM := (yX25_digits, cX25_digits, 4, some .long, [])
theorem hmX25_digits : (mX25_digits).1.cls ≠ "java/lang/invoke/MethodHandle" ∧ (mX25_digits).1.cls ≠ "java/lang/invoke/VarHandle" ∧ (parseMethodDescriptor (mX25_digits).1.desc).map (fun d => d.parameters.length) = some 1 := by decide +kernel
abbrev mX25_find : bM := (yX25_find, cX25_find, 7, none, [])
theorem hmX25_find : (mX25_find).1.cls ≠ "java/lang/invoke/MethodHandle" ∧ (mX25_find).1.cls ≠ "java/lang/invoke/VarHandle" ∧ (parseMethodDescriptor (mX25_find).1.desc).map (fun d => d.parameters.length) = some 2 := by decide +kernel
abbrev mX25_valueAt : bM := (yX25_valueAt, cX25_valueAt, 2, some .int, [])
theorem hmX25_valueAt : (mX25_valueAt).1.cls ≠ "java/lang/invoke/MethodHandle" ∧ (mX25_valueAt).1.cls ≠ "java/lang/invoke/VarHandle" ∧ (parseMethodDescriptor (mX25_valueAt).1.desc).map (fun d => d.parameters.length) = some 1 := by decide +kernel
abbrev mX25_update : bM := (yX25_update, cX25_update, 14, some .int, [])
theorem hmX25_update : (mX25_update).1.cls ≠ "java/lang/invoke/MethodHandle" ∧ (mX25_update).1.cls ≠ "java/lang/invoke/VarHandle" ∧ (parseMethodDescriptor (mX25_update).1.desc).map (fun d => d.parameters.length) = some 4 := by decide +kernel
abbrev mX25_changed : bM := (yX25_changed, cX25_changed, 10, some .int, [])
theorem hmX25_changed : (mX25_changed).1.cls ≠ "java/lang/invoke/MethodHandle" ∧ (mX25_changed).1.cls ≠ "java/lang/invoke/VarHandle" ∧ (parseMethodDescriptor (mX25_changed).1.desc).map (fun d => d.parameters.length) = some 3 := by decide +kernel
abbrev mX25_lay_2 : bM := (yX25_lay_2, cX25_lay_2, 10, some .int, [])
theorem hmX25_lay_2 : (mX25_lay_2).1.cls ≠ "java/lang/invoke/MethodHandle" ∧ (mX25_lay_2).1.cls ≠ "java/lang/invoke/VarHandle" ∧ (parseMethodDescriptor (mX25_lay_2).1.desc).map (fun d => d.parameters.length) = some 7 := by decide +kernel
abbrev mX25_packs : bM := (yX25_packs, cX25_packs, 6, none, [])
theorem hmX25_packs : (mX25_packs).1.cls ≠ "java/lang/invoke/MethodHandle" ∧ (mX25_packs).1.cls ≠ "java/lang/invoke/VarHandle" ∧ (parseMethodDescriptor (mX25_packs).1.desc).map (fun d => d.parameters.length) = some 2 := by decide +kernel
abbrev mX25_put : bM := (yX25_put, cX25_put, 2, none, [])
theorem hmX25_put : (mX25_put).1.cls ≠ "java/lang/invoke/MethodHandle" ∧ (mX25_put).1.cls ≠ "java/lang/invoke/VarHandle" ∧ (parseMethodDescriptor (mX25_put).1.desc).map (fun d => d.parameters.length) = some 1 := by decide +kernel
abbrev mX25_putForm : bM := (yX25_putForm, cX25_putForm, 3, none, [])
theorem hmX25_putForm : (mX25_putForm).1.cls ≠ "java/lang/invoke/MethodHandle" ∧ (mX25_putForm).1.cls ≠ "java/lang/invoke/VarHandle" ∧ (parseMethodDescriptor (mX25_putForm).1.desc).map (fun d => d.parameters.length) = some 1 := by decide +kernel
abbrev mX25_putNumber : bM := (yX25_putNumber, cX25_putNumber, 3, none, [])
theorem hmX25_putNumber : (mX25_putNumber).1.cls ≠ "java/lang/invoke/MethodHandle" ∧ (mX25_putNumber).1.cls ≠ "java/lang/invoke/VarHandle" ∧ (parseMethodDescriptor (mX25_putNumber).1.desc).map (fun d => d.parameters.length) = some 0 := by decide +kernel
abbrev mX25_putSize : bM := (yX25_putSize, cX25_putSize, 3, none, [])
theorem hmX25_putSize : (mX25_putSize).1.cls ≠ "java/lang/invoke/MethodHandle" ∧ (mX25_putSize).1.cls ≠ "java/lang/invoke/VarHandle" ∧ (parseMethodDescriptor (mX25_putSize).1.desc).map (fun d => d.parameters.length) = some 1 := by decide +kernel
abbrev mX25_putRow : bM := (yX25_putRow, cX25_putRow, 6, none, [])
theorem hmX25_putRow : (mX25_putRow).1.cls ≠ "java/lang/invoke/MethodHandle" ∧ (mX25_putRow).1.cls ≠ "java/lang/invoke/VarHandle" ∧ (parseMethodDescriptor (mX25_putRow).1.desc).map (fun d => d.parameters.length) = some 1 := by decide +kernel
abbrev mX25_unpack : bM := (yX25_unpack, cX25_unpack, 7, some .int, [])
theorem hmX25_unpack : (mX25_unpack).1.cls ≠ "java/lang/invoke/MethodHandle" ∧ (mX25_unpack).1.cls ≠ "java/lang/invoke/VarHandle" ∧ (parseMethodDescriptor (mX25_unpack).1.desc).map (fun d => d.parameters.length) = some 2 := by decide +kernel
abbrev mX25_comes : bM := (yX25_comes, cX25_comes, 5, some .boolean, [])
theorem hmX25_comes : (mX25_comes).1.cls ≠ "java/lang/invoke/MethodHandle" ∧ (mX25_comes).1.cls ≠ "java/lang/invoke/VarHandle" ∧ (parseMethodDescriptor (mX25_comes).1.desc).map (fun d => d.parameters.length) = some 3 := by decide +kernel
abbrev mX25_unpackNumber : bM := (yX25_unpackNumber, cX25_unpackNumber, 7, some .int, [])
theorem hmX25_unpackNumber : (mX25_unpackNumber).1.cls ≠ "java/lang/invoke/MethodHandle" ∧ (mX25_unpackNumber).1.cls ≠ "java/lang/invoke/VarHandle" ∧ (parseMethodDescriptor (mX25_unpackNumber).1.desc).map (fun d => d.parameters.length) = some 2 := by decide +kernel
abbrev mX25_taken : bM := (yX25_taken, cX25_taken, 3, some .int, [])
theorem hmX25_taken : (mX25_taken).1.cls ≠ "java/lang/invoke/MethodHandle" ∧ (mX25_taken).1.cls ≠ "java/lang/invoke/VarHandle" ∧ (parseMethodDescriptor (mX25_taken).1.desc).map (fun d => d.parameters.length) = some 1 := by decide +kernel
abbrev mX25_unpackString : bM := (yX25_unpackString, cX25_unpackString, 5, some .int, [])
theorem hmX25_unpackString : (mX25_unpackString).1.cls ≠ "java/lang/invoke/MethodHandle" ∧ (mX25_unpackString).1.cls ≠ "java/lang/invoke/VarHandle" ∧ (parseMethodDescriptor (mX25_unpackString).1.desc).map (fun d => d.parameters.length) = some 2 := by decide +kernel
abbrev mX25_takenSize : bM := (yX25_takenSize, cX25_takenSize, 6, some .int, [])
theorem hmX25_takenSize : (mX25_takenSize).1.cls ≠ "java/lang/invoke/MethodHandle" ∧ (mX25_takenSize).1.cls ≠ "java/lang/invoke/VarHandle" ∧ (parseMethodDescriptor (mX25_takenSize).1.desc).map (fun d => d.parameters.length) = some 2 := by decide +kernel
abbrev mX25_unpackRow : bM := (yX25_unpackRow, cX25_unpackRow, 11, some .int, [])
theorem hmX25_unpackRow : (mX25_unpackRow).1.cls ≠ "java/lang/invoke/MethodHandle" ∧ (mX25_unpackRow).1.cls ≠ "java/lang/invoke/VarHandle" ∧ (parseMethodDescriptor (mX25_unpackRow).1.desc).map (fun d => d.parameters.length) = some 2 := by decide +kernel
abbrev mX25_ledger : bM := (yX25_ledger, cX25_ledger, 4, none, [])
theorem hmX25_ledger : (mX25_ledger).1.cls ≠ "java/lang/invoke/MethodHandle" ∧ (mX25_ledger).1.cls ≠ "java/lang/invoke/VarHandle" ∧ (parseMethodDescriptor (mX25_ledger).1.desc).map (fun d => d.parameters.length) = some 2 := by decide +kernel
abbrev mX25_operation : bM := (yX25_operation, cX25_operation, 8, none, [])
theorem hmX25_operation : (mX25_operation).1.cls ≠ "java/lang/invoke/MethodHandle" ∧ (mX25_operation).1.cls ≠ "java/lang/invoke/VarHandle" ∧ (parseMethodDescriptor (mX25_operation).1.desc).map (fun d => d.parameters.length) = some 2 := by decide +kernel
abbrev mX25_address : bM := (yX25_address, cX25_address, 8, some .int, [])
theorem hmX25_address : (mX25_address).1.cls ≠ "java/lang/invoke/MethodHandle" ∧ (mX25_address).1.cls ≠ "java/lang/invoke/VarHandle" ∧ (parseMethodDescriptor (mX25_address).1.desc).map (fun d => d.parameters.length) = some 5 := by decide +kernel
abbrev mX25_contract : bM := (yX25_contract, cX25_contract, 3, some .int, [])
theorem hmX25_contract : (mX25_contract).1.cls ≠ "java/lang/invoke/MethodHandle" ∧ (mX25_contract).1.cls ≠ "java/lang/invoke/VarHandle" ∧ (parseMethodDescriptor (mX25_contract).1.desc).map (fun d => d.parameters.length) = some 1 := by decide +kernel
abbrev mX25_asked : bM := (yX25_asked, cX25_asked, 9, some .int, [])
theorem hmX25_asked : (mX25_asked).1.cls ≠ "java/lang/invoke/MethodHandle" ∧ (mX25_asked).1.cls ≠ "java/lang/invoke/VarHandle" ∧ (parseMethodDescriptor (mX25_asked).1.desc).map (fun d => d.parameters.length) = some 2 := by decide +kernel
abbrev mX25_readAddress : bM := (yX25_readAddress, cX25_readAddress, 3, none, [])
theorem hmX25_readAddress : (mX25_readAddress).1.cls ≠ "java/lang/invoke/MethodHandle" ∧ (mX25_readAddress).1.cls ≠ "java/lang/invoke/VarHandle" ∧ (parseMethodDescriptor (mX25_readAddress).1.desc).map (fun d => d.parameters.length) = some 1 := by decide +kernel
abbrev mX25_isSameType : bM := (yX25_isSameType, cX25_isSameType, 12, some .boolean, [])
theorem hmX25_isSameType : (mX25_isSameType).1.cls ≠ "java/lang/invoke/MethodHandle" ∧ (mX25_isSameType).1.cls ≠ "java/lang/invoke/VarHandle" ∧ (parseMethodDescriptor (mX25_isSameType).1.desc).map (fun d => d.parameters.length) = some 6 := by decide +kernel
abbrev mX25_marked : bM := (yX25_marked, cX25_marked, 5, some .int, [])
theorem hmX25_marked : (mX25_marked).1.cls ≠ "java/lang/invoke/MethodHandle" ∧ (mX25_marked).1.cls ≠ "java/lang/invoke/VarHandle" ∧ (parseMethodDescriptor (mX25_marked).1.desc).map (fun d => d.parameters.length) = some 4 := by decide +kernel
abbrev mX25_simple : bM := (yX25_simple, cX25_simple, 3, none, [])
theorem hmX25_simple : (mX25_simple).1.cls ≠ "java/lang/invoke/MethodHandle" ∧ (mX25_simple).1.cls ≠ "java/lang/invoke/VarHandle" ∧ (parseMethodDescriptor (mX25_simple).1.desc).map (fun d => d.parameters.length) = some 2 := by decide +kernel
abbrev mX25_empty : bM := (yX25_empty, cX25_empty, 3, some .int, [])
theorem hmX25_empty : (mX25_empty).1.cls ≠ "java/lang/invoke/MethodHandle" ∧ (mX25_empty).1.cls ≠ "java/lang/invoke/VarHandle" ∧ (parseMethodDescriptor (mX25_empty).1.desc).map (fun d => d.parameters.length) = some 1 := by decide +kernel
abbrev mX25_operate : bM := (yX25_operate, cX25_operate, 2, none, [])
theorem hmX25_operate : (mX25_operate).1.cls ≠ "java/lang/invoke/MethodHandle" ∧ (mX25_operate).1.cls ≠ "java/lang/invoke/VarHandle" ∧ (parseMethodDescriptor (mX25_operate).1.desc).map (fun d => d.parameters.length) = some 0 := by decide +kernel
abbrev mX25_doOne : bM := (yX25_doOne, cX25_doOne, 7, none, [])
theorem hmX25_doOne : (mX25_doOne).1.cls ≠ "java/lang/invoke/MethodHandle" ∧ (mX25_doOne).1.cls ≠ "java/lang/invoke/VarHandle" ∧ (parseMethodDescriptor (mX25_doOne).1.desc).map (fun d => d.parameters.length) = some 1 := by decide +kernel
abbrev mX25_longOf : bM := (yX25_longOf, cX25_longOf, 2, some .long, [])
theorem hmX25_longOf : (mX25_longOf).1.cls ≠ "java/lang/invoke/MethodHandle" ∧ (mX25_longOf).1.cls ≠ "java/lang/invoke/VarHandle" ∧ (parseMethodDescriptor (mX25_longOf).1.desc).map (fun d => d.parameters.length) = some 1 := by decide +kernel
abbrev mX25_goBack : bM := (yX25_goBack, cX25_goBack, 2, none, [])
theorem hmX25_goBack : (mX25_goBack).1.cls ≠ "java/lang/invoke/MethodHandle" ∧ (mX25_goBack).1.cls ≠ "java/lang/invoke/VarHandle" ∧ (parseMethodDescriptor (mX25_goBack).1.desc).map (fun d => d.parameters.length) = some 0 := by decide +kernel
abbrev mX25_thrown : bM := (yX25_thrown, cX25_thrown, 1, some .int, [])
theorem hmX25_thrown : (mX25_thrown).1.cls ≠ "java/lang/invoke/MethodHandle" ∧ (mX25_thrown).1.cls ≠ "java/lang/invoke/VarHandle" ∧ (parseMethodDescriptor (mX25_thrown).1.desc).map (fun d => d.parameters.length) = some 0 := by decide +kernel
abbrev mX25_feed : bM := (yX25_feed, cX25_feed, 6, none, [])
theorem hmX25_feed : (mX25_feed).1.cls ≠ "java/lang/invoke/MethodHandle" ∧ (mX25_feed).1.cls ≠ "java/lang/invoke/VarHandle" ∧ (parseMethodDescriptor (mX25_feed).1.desc).map (fun d => d.parameters.length) = some 5 := by decide +kernel
abbrev mX25_take : bM := (yX25_take, cX25_take, 3, none, [])
theorem hmX25_take : (mX25_take).1.cls ≠ "java/lang/invoke/MethodHandle" ∧ (mX25_take).1.cls ≠ "java/lang/invoke/VarHandle" ∧ (parseMethodDescriptor (mX25_take).1.desc).map (fun d => d.parameters.length) = some 1 := by decide +kernel
abbrev mX25_end : bM := (yX25_end, cX25_end, 3, some .int, [])
theorem hmX25_end : (mX25_end).1.cls ≠ "java/lang/invoke/MethodHandle" ∧ (mX25_end).1.cls ≠ "java/lang/invoke/VarHandle" ∧ (parseMethodDescriptor (mX25_end).1.desc).map (fun d => d.parameters.length) = some 1 := by decide +kernel
abbrev mX25_check : bM := (yX25_check, cX25_check, 1, some .int, [])
theorem hmX25_check : (mX25_check).1.cls ≠ "java/lang/invoke/MethodHandle" ∧ (mX25_check).1.cls ≠ "java/lang/invoke/VarHandle" ∧ (parseMethodDescriptor (mX25_check).1.desc).map (fun d => d.parameters.length) = some 0 := by decide +kernel
abbrev mX25_isRead : bM := (yX25_isRead, cX25_isRead, 2, some .boolean, [])
theorem hmX25_isRead : (mX25_isRead).1.cls ≠ "java/lang/invoke/MethodHandle" ∧ (mX25_isRead).1.cls ≠ "java/lang/invoke/VarHandle" ∧ (parseMethodDescriptor (mX25_isRead).1.desc).map (fun d => d.parameters.length) = some 0 := by decide +kernel
abbrev mX25_place : bM := (yX25_place, cX25_place, 1, some .int, [])
theorem hmX25_place : (mX25_place).1.cls ≠ "java/lang/invoke/MethodHandle" ∧ (mX25_place).1.cls ≠ "java/lang/invoke/VarHandle" ∧ (parseMethodDescriptor (mX25_place).1.desc).map (fun d => d.parameters.length) = some 0 := by decide +kernel
abbrev mX25_form : bM := (yX25_form, cX25_form, 3, some .int, [])
theorem hmX25_form : (mX25_form).1.cls ≠ "java/lang/invoke/MethodHandle" ∧ (mX25_form).1.cls ≠ "java/lang/invoke/VarHandle" ∧ (parseMethodDescriptor (mX25_form).1.desc).map (fun d => d.parameters.length) = some 0 := by decide +kernel
abbrev mX25_shown : bM := (yX25_shown, cX25_shown, 3, some .int, [])
theorem hmX25_shown : (mX25_shown).1.cls ≠ "java/lang/invoke/MethodHandle" ∧ (mX25_shown).1.cls ≠ "java/lang/invoke/VarHandle" ∧ (parseMethodDescriptor (mX25_shown).1.desc).map (fun d => d.parameters.length) = some 1 := by decide +kernel
abbrev mX25_account : bM := (yX25_account, cX25_account, 3, some .int, [])
theorem hmX25_account : (mX25_account).1.cls ≠ "java/lang/invoke/MethodHandle" ∧ (mX25_account).1.cls ≠ "java/lang/invoke/VarHandle" ∧ (parseMethodDescriptor (mX25_account).1.desc).map (fun d => d.parameters.length) = some 1 := by decide +kernel
abbrev mX25_now : bM := (yX25_now, cX25_now, 4, some .boolean, [])
theorem hmX25_now : (mX25_now).1.cls ≠ "java/lang/invoke/MethodHandle" ∧ (mX25_now).1.cls ≠ "java/lang/invoke/VarHandle" ∧ (parseMethodDescriptor (mX25_now).1.desc).map (fun d => d.parameters.length) = some 2 := by decide +kernel
abbrev mX25_batch : bM := (yX25_batch, cX25_batch, 3, some .boolean, [])
theorem hmX25_batch : (mX25_batch).1.cls ≠ "java/lang/invoke/MethodHandle" ∧ (mX25_batch).1.cls ≠ "java/lang/invoke/VarHandle" ∧ (parseMethodDescriptor (mX25_batch).1.desc).map (fun d => d.parameters.length) = some 2 := by decide +kernel
abbrev mX25_limits : bM := (yX25_limits, cX25_limits, 5, some .boolean, [])
theorem hmX25_limits : (mX25_limits).1.cls ≠ "java/lang/invoke/MethodHandle" ∧ (mX25_limits).1.cls ≠ "java/lang/invoke/VarHandle" ∧ (parseMethodDescriptor (mX25_limits).1.desc).map (fun d => d.parameters.length) = some 3 := by decide +kernel
abbrev mX25_content : bM := (yX25_content, cX25_content, 5, some .int, [])
theorem hmX25_content : (mX25_content).1.cls ≠ "java/lang/invoke/MethodHandle" ∧ (mX25_content).1.cls ≠ "java/lang/invoke/VarHandle" ∧ (parseMethodDescriptor (mX25_content).1.desc).map (fun d => d.parameters.length) = some 2 := by decide +kernel
abbrev mX25_receipt : bM := (yX25_receipt, cX25_receipt, 3, some .int, [])
theorem hmX25_receipt : (mX25_receipt).1.cls ≠ "java/lang/invoke/MethodHandle" ∧ (mX25_receipt).1.cls ≠ "java/lang/invoke/VarHandle" ∧ (parseMethodDescriptor (mX25_receipt).1.desc).map (fun d => d.parameters.length) = some 2 := by decide +kernel
abbrev mX25_accounts : bM := (yX25_accounts, cX25_accounts, 1, some .int, [])
theorem hmX25_accounts : (mX25_accounts).1.cls ≠ "java/lang/invoke/MethodHandle" ∧ (mX25_accounts).1.cls ≠ "java/lang/invoke/VarHandle" ∧ (parseMethodDescriptor (mX25_accounts).1.desc).map (fun d => d.parameters.length) = some 0 := by decide +kernel
abbrev mX25_contracts : bM := (yX25_contracts, cX25_contracts, 1, some .int, [])
theorem hmX25_contracts : (mX25_contracts).1.cls ≠ "java/lang/invoke/MethodHandle" ∧ (mX25_contracts).1.cls ≠ "java/lang/invoke/VarHandle" ∧ (parseMethodDescriptor (mX25_contracts).1.desc).map (fun d => d.parameters.length) = some 0 := by decide +kernel
abbrev mX25_balance : bM := (yX25_balance, cX25_balance, 4, some .long, [])
theorem hmX25_balance : (mX25_balance).1.cls ≠ "java/lang/invoke/MethodHandle" ∧ (mX25_balance).1.cls ≠ "java/lang/invoke/VarHandle" ∧ (parseMethodDescriptor (mX25_balance).1.desc).map (fun d => d.parameters.length) = some 2 := by decide +kernel
abbrev mX25_isContract : bM := (yX25_isContract, cX25_isContract, 2, some .boolean, [])
theorem hmX25_isContract : (mX25_isContract).1.cls ≠ "java/lang/invoke/MethodHandle" ∧ (mX25_isContract).1.cls ≠ "java/lang/invoke/VarHandle" ∧ (parseMethodDescriptor (mX25_isContract).1.desc).map (fun d => d.parameters.length) = some 1 := by decide +kernel
abbrev mX25_counter : bM := (yX25_counter, cX25_counter, 2, some .int, [])
theorem hmX25_counter : (mX25_counter).1.cls ≠ "java/lang/invoke/MethodHandle" ∧ (mX25_counter).1.cls ≠ "java/lang/invoke/VarHandle" ∧ (parseMethodDescriptor (mX25_counter).1.desc).map (fun d => d.parameters.length) = some 1 := by decide +kernel
abbrev mX25_paid : bM := (yX25_paid, cX25_paid, 2, some .int, [])
theorem hmX25_paid : (mX25_paid).1.cls ≠ "java/lang/invoke/MethodHandle" ∧ (mX25_paid).1.cls ≠ "java/lang/invoke/VarHandle" ∧ (parseMethodDescriptor (mX25_paid).1.desc).map (fun d => d.parameters.length) = some 1 := by decide +kernel
abbrev mX25_money : bM := (yX25_money, cX25_money, 2, some .long, [])
theorem hmX25_money : (mX25_money).1.cls ≠ "java/lang/invoke/MethodHandle" ∧ (mX25_money).1.cls ≠ "java/lang/invoke/VarHandle" ∧ (parseMethodDescriptor (mX25_money).1.desc).map (fun d => d.parameters.length) = some 1 := by decide +kernel
abbrev mX25_stored : bM := (yX25_stored, cX25_stored, 1, some .int, [])
theorem hmX25_stored : (mX25_stored).1.cls ≠ "java/lang/invoke/MethodHandle" ∧ (mX25_stored).1.cls ≠ "java/lang/invoke/VarHandle" ∧ (parseMethodDescriptor (mX25_stored).1.desc).map (fun d => d.parameters.length) = some 0 := by decide +kernel
abbrev mX25_storage : bM := (yX25_storage, cX25_storage, 2, some .int, [])
theorem hmX25_storage : (mX25_storage).1.cls ≠ "java/lang/invoke/MethodHandle" ∧ (mX25_storage).1.cls ≠ "java/lang/invoke/VarHandle" ∧ (parseMethodDescriptor (mX25_storage).1.desc).map (fun d => d.parameters.length) = some 1 := by decide +kernel
abbrev mX25_failure : bM := (yX25_failure, cX25_failure, 1, some .int, [])
theorem hmX25_failure : (mX25_failure).1.cls ≠ "java/lang/invoke/MethodHandle" ∧ (mX25_failure).1.cls ≠ "java/lang/invoke/VarHandle" ∧ (parseMethodDescriptor (mX25_failure).1.desc).map (fun d => d.parameters.length) = some 0 := by decide +kernel
abbrev mX25_out : bM := (yX25_out, cX25_out, 2, some .int, [])
theorem hmX25_out : (mX25_out).1.cls ≠ "java/lang/invoke/MethodHandle" ∧ (mX25_out).1.cls ≠ "java/lang/invoke/VarHandle" ∧ (parseMethodDescriptor (mX25_out).1.desc).map (fun d => d.parameters.length) = some 1 := by decide +kernel
abbrev mX25_wrongs : bM := (yX25_wrongs, cX25_wrongs, 1, some .int, [])
theorem hmX25_wrongs : (mX25_wrongs).1.cls ≠ "java/lang/invoke/MethodHandle" ∧ (mX25_wrongs).1.cls ≠ "java/lang/invoke/VarHandle" ∧ (parseMethodDescriptor (mX25_wrongs).1.desc).map (fun d => d.parameters.length) = some 0 := by decide +kernel
abbrev mX25_isWhole_2 : bM := (yX25_isWhole_2, cX25_isWhole_2, 4, some .boolean, [])
theorem hmX25_isWhole_2 : (mX25_isWhole_2).1.cls ≠ "java/lang/invoke/MethodHandle" ∧ (mX25_isWhole_2).1.cls ≠ "java/lang/invoke/VarHandle" ∧ (parseMethodDescriptor (mX25_isWhole_2).1.desc).map (fun d => d.parameters.length) = some 0 := by decide +kernel
abbrev mX26_read : bM := (yX26_read, cX26_read, 6, some .boolean, [])
theorem hmX26_read : (mX26_read).1.cls ≠ "java/lang/invoke/MethodHandle" ∧ (mX26_read).1.cls ≠ "java/lang/invoke/VarHandle" ∧ (parseMethodDescriptor (mX26_read).1.desc).map (fun d => d.parameters.length) = some 3 := by decide +kernel
abbrev mX26_zero : bM := (yX26_zero, cX26_zero, 1, none, [])
theorem hmX26_zero : (mX26_zero).1.cls ≠ "java/lang/invoke/MethodHandle" ∧ (mX26_zero).1.cls ≠ "java/lang/invoke/VarHandle" ∧ (parseMethodDescriptor (mX26_zero).1.desc).map (fun d => d.parameters.length) = some 0 := by decide +kernel
abbrev mX26_tenth : bM := (yX26_tenth, cX26_tenth, 5, none, [])
theorem hmX26_tenth : (mX26_tenth).1.cls ≠ "java/lang/invoke/MethodHandle" ∧ (mX26_tenth).1.cls ≠ "java/lang/invoke/VarHandle" ∧ (parseMethodDescriptor (mX26_tenth).1.desc).map (fun d => d.parameters.length) = some 1 := by decide +kernel
abbrev mX26_trim : bM := (yX26_trim, cX26_trim, 1, none, [])
theorem hmX26_trim : (mX26_trim).1.cls ≠ "java/lang/invoke/MethodHandle" ∧ (mX26_trim).1.cls ≠ "java/lang/invoke/VarHandle" ∧ (parseMethodDescriptor (mX26_trim).1.desc).map (fun d => d.parameters.length) = some 0 := by decide +kernel
abbrev mX26_isLarge : bM := (yX26_isLarge, cX26_isLarge, 1, some .boolean, [])
theorem hmX26_isLarge : (mX26_isLarge).1.cls ≠ "java/lang/invoke/MethodHandle" ∧ (mX26_isLarge).1.cls ≠ "java/lang/invoke/VarHandle" ∧ (parseMethodDescriptor (mX26_isLarge).1.desc).map (fun d => d.parameters.length) = some 0 := by decide +kernel
abbrev mX26_bits : bM := (yX26_bits, cX26_bits, 3, some .int, [])
theorem hmX26_bits : (mX26_bits).1.cls ≠ "java/lang/invoke/MethodHandle" ∧ (mX26_bits).1.cls ≠ "java/lang/invoke/VarHandle" ∧ (parseMethodDescriptor (mX26_bits).1.desc).map (fun d => d.parameters.length) = some 0 := by decide +kernel
abbrev mX26_value : bM := (yX26_value, cX26_value, 4, some .long, [])
theorem hmX26_value : (mX26_value).1.cls ≠ "java/lang/invoke/MethodHandle" ∧ (mX26_value).1.cls ≠ "java/lang/invoke/VarHandle" ∧ (parseMethodDescriptor (mX26_value).1.desc).map (fun d => d.parameters.length) = some 0 := by decide +kernel
abbrev mX26_isMutez : bM := (yX26_isMutez, cX26_isMutez, 1, some .boolean, [])
theorem hmX26_isMutez : (mX26_isMutez).1.cls ≠ "java/lang/invoke/MethodHandle" ∧ (mX26_isMutez).1.cls ≠ "java/lang/invoke/VarHandle" ∧ (parseMethodDescriptor (mX26_isMutez).1.desc).map (fun d => d.parameters.length) = some 0 := by decide +kernel
abbrev mX26_length : bM := (yX26_length, cX26_length, 2, some .int, [])
theorem hmX26_length : (mX26_length).1.cls ≠ "java/lang/invoke/MethodHandle" ∧ (mX26_length).1.cls ≠ "java/lang/invoke/VarHandle" ∧ (parseMethodDescriptor (mX26_length).1.desc).map (fun d => d.parameters.length) = some 0 := by decide +kernel
abbrev mX26_compare : bM := (yX26_compare, cX26_compare, 3, some .int, [])
theorem hmX26_compare : (mX26_compare).1.cls ≠ "java/lang/invoke/MethodHandle" ∧ (mX26_compare).1.cls ≠ "java/lang/invoke/VarHandle" ∧ (parseMethodDescriptor (mX26_compare).1.desc).map (fun d => d.parameters.length) = some 1 := by decide +kernel
abbrev mX26_compareSize : bM := (yX26_compareSize, cX26_compareSize, 3, some .int, [])
theorem hmX26_compareSize : (mX26_compareSize).1.cls ≠ "java/lang/invoke/MethodHandle" ∧ (mX26_compareSize).1.cls ≠ "java/lang/invoke/VarHandle" ∧ (parseMethodDescriptor (mX26_compareSize).1.desc).map (fun d => d.parameters.length) = some 1 := by decide +kernel
abbrev mX26_small : bM := (yX26_small, cX26_small, 7, none, [])
theorem hmX26_small : (mX26_small).1.cls ≠ "java/lang/invoke/MethodHandle" ∧ (mX26_small).1.cls ≠ "java/lang/invoke/VarHandle" ∧ (parseMethodDescriptor (mX26_small).1.desc).map (fun d => d.parameters.length) = some 1 := by decide +kernel
abbrev mX26_copy : bM := (yX26_copy, cX26_copy, 3, none, [])
theorem hmX26_copy : (mX26_copy).1.cls ≠ "java/lang/invoke/MethodHandle" ∧ (mX26_copy).1.cls ≠ "java/lang/invoke/VarHandle" ∧ (parseMethodDescriptor (mX26_copy).1.desc).map (fun d => d.parameters.length) = some 1 := by decide +kernel
abbrev mX26_sum : bM := (yX26_sum, cX26_sum, 13, none, [])
theorem hmX26_sum : (mX26_sum).1.cls ≠ "java/lang/invoke/MethodHandle" ∧ (mX26_sum).1.cls ≠ "java/lang/invoke/VarHandle" ∧ (parseMethodDescriptor (mX26_sum).1.desc).map (fun d => d.parameters.length) = some 3 := by decide +kernel
abbrev mX26_digit : bM := (yX26_digit, cX26_digit, 2, some .int, [])
theorem hmX26_digit : (mX26_digit).1.cls ≠ "java/lang/invoke/MethodHandle" ∧ (mX26_digit).1.cls ≠ "java/lang/invoke/VarHandle" ∧ (parseMethodDescriptor (mX26_digit).1.desc).map (fun d => d.parameters.length) = some 1 := by decide +kernel
abbrev mX26_product : bM := (yX26_product, cX26_product, 9, none, [])
theorem hmX26_product : (mX26_product).1.cls ≠ "java/lang/invoke/MethodHandle" ∧ (mX26_product).1.cls ≠ "java/lang/invoke/VarHandle" ∧ (parseMethodDescriptor (mX26_product).1.desc).map (fun d => d.parameters.length) = some 2 := by decide +kernel
abbrev mX26_divide : bM := (yX26_divide, cX26_divide, 6, none, [])
theorem hmX26_divide : (mX26_divide).1.cls ≠ "java/lang/invoke/MethodHandle" ∧ (mX26_divide).1.cls ≠ "java/lang/invoke/VarHandle" ∧ (parseMethodDescriptor (mX26_divide).1.desc).map (fun d => d.parameters.length) = some 3 := by decide +kernel
abbrev mX26_guess : bM := (yX26_guess, cX26_guess, 12, some .int, [])
theorem hmX26_guess : (mX26_guess).1.cls ≠ "java/lang/invoke/MethodHandle" ∧ (mX26_guess).1.cls ≠ "java/lang/invoke/VarHandle" ∧ (parseMethodDescriptor (mX26_guess).1.desc).map (fun d => d.parameters.length) = some 2 := by decide +kernel
abbrev mX26_isLess : bM := (yX26_isLess, cX26_isLess, 9, some .boolean, [])
theorem hmX26_isLess : (mX26_isLess).1.cls ≠ "java/lang/invoke/MethodHandle" ∧ (mX26_isLess).1.cls ≠ "java/lang/invoke/VarHandle" ∧ (parseMethodDescriptor (mX26_isLess).1.desc).map (fun d => d.parameters.length) = some 3 := by decide +kernel
abbrev mX26_join : bM := (yX26_join, cX26_join, 8, none, [])
theorem hmX26_join : (mX26_join).1.cls ≠ "java/lang/invoke/MethodHandle" ∧ (mX26_join).1.cls ≠ "java/lang/invoke/VarHandle" ∧ (parseMethodDescriptor (mX26_join).1.desc).map (fun d => d.parameters.length) = some 3 := by decide +kernel
abbrev mX26_up : bM := (yX26_up, cX26_up, 7, none, [])
theorem hmX26_up : (mX26_up).1.cls ≠ "java/lang/invoke/MethodHandle" ∧ (mX26_up).1.cls ≠ "java/lang/invoke/VarHandle" ∧ (parseMethodDescriptor (mX26_up).1.desc).map (fun d => d.parameters.length) = some 2 := by decide +kernel
abbrev mX26_down : bM := (yX26_down, cX26_down, 6, none, [])
theorem hmX26_down : (mX26_down).1.cls ≠ "java/lang/invoke/MethodHandle" ∧ (mX26_down).1.cls ≠ "java/lang/invoke/VarHandle" ∧ (parseMethodDescriptor (mX26_down).1.desc).map (fun d => d.parameters.length) = some 2 := by decide +kernel
abbrev mX26_part : bM := (yX26_part, cX26_part, 6, some .int, [])
theorem hmX26_part : (mX26_part).1.cls ≠ "java/lang/invoke/MethodHandle" ∧ (mX26_part).1.cls ≠ "java/lang/invoke/VarHandle" ∧ (parseMethodDescriptor (mX26_part).1.desc).map (fun d => d.parameters.length) = some 2 := by decide +kernel
abbrev mX26_setPart : bM := (yX26_setPart, cX26_setPart, 6, none, [])
theorem hmX26_setPart : (mX26_setPart).1.cls ≠ "java/lang/invoke/MethodHandle" ∧ (mX26_setPart).1.cls ≠ "java/lang/invoke/VarHandle" ∧ (parseMethodDescriptor (mX26_setPart).1.desc).map (fun d => d.parameters.length) = some 3 := by decide +kernel
abbrev mX27_clear : bM := (yX27_clear, cX27_clear, 3, none, [])
theorem hmX27_clear : (mX27_clear).1.cls ≠ "java/lang/invoke/MethodHandle" ∧ (mX27_clear).1.cls ≠ "java/lang/invoke/VarHandle" ∧ (parseMethodDescriptor (mX27_clear).1.desc).map (fun d => d.parameters.length) = some 0 := by decide +kernel
abbrev mX27_make : bM := (yX27_make, cX27_make, 7, some .int, [])
theorem hmX27_make : (mX27_make).1.cls ≠ "java/lang/invoke/MethodHandle" ∧ (mX27_make).1.cls ≠ "java/lang/invoke/VarHandle" ∧ (parseMethodDescriptor (mX27_make).1.desc).map (fun d => d.parameters.length) = some 3 := by decide +kernel
abbrev mX27_marksOf : bM := (yX27_marksOf, cX27_marksOf, 5, some .int, [])
theorem hmX27_marksOf : (mX27_marksOf).1.cls ≠ "java/lang/invoke/MethodHandle" ∧ (mX27_marksOf).1.cls ≠ "java/lang/invoke/VarHandle" ∧ (parseMethodDescriptor (mX27_marksOf).1.desc).map (fun d => d.parameters.length) = some 3 := by decide +kernel
abbrev mX27_tell : bM := (yX27_tell, cX27_tell, 8, some .int, [])
theorem hmX27_tell : (mX27_tell).1.cls ≠ "java/lang/invoke/MethodHandle" ∧ (mX27_tell).1.cls ≠ "java/lang/invoke/VarHandle" ∧ (parseMethodDescriptor (mX27_tell).1.desc).map (fun d => d.parameters.length) = some 2 := by decide +kernel
abbrev mX27_comb : bM := (yX27_comb, cX27_comb, 7, some .int, [])
theorem hmX27_comb : (mX27_comb).1.cls ≠ "java/lang/invoke/MethodHandle" ∧ (mX27_comb).1.cls ≠ "java/lang/invoke/VarHandle" ∧ (parseMethodDescriptor (mX27_comb).1.desc).map (fun d => d.parameters.length) = some 3 := by decide +kernel
abbrev mX27_is : bM := (yX27_is, cX27_is, 3, some .boolean, [])
theorem hmX27_is : (mX27_is).1.cls ≠ "java/lang/invoke/MethodHandle" ∧ (mX27_is).1.cls ≠ "java/lang/invoke/VarHandle" ∧ (parseMethodDescriptor (mX27_is).1.desc).map (fun d => d.parameters.length) = some 2 := by decide +kernel
abbrev mX27_one : bM := (yX27_one, cX27_one, 3, some .int, [])
theorem hmX27_one : (mX27_one).1.cls ≠ "java/lang/invoke/MethodHandle" ∧ (mX27_one).1.cls ≠ "java/lang/invoke/VarHandle" ∧ (parseMethodDescriptor (mX27_one).1.desc).map (fun d => d.parameters.length) = some 2 := by decide +kernel
abbrev mX27_isKind : bM := (yX27_isKind, cX27_isKind, 3, some .boolean, [])
theorem hmX27_isKind : (mX27_isKind).1.cls ≠ "java/lang/invoke/MethodHandle" ∧ (mX27_isKind).1.cls ≠ "java/lang/invoke/VarHandle" ∧ (parseMethodDescriptor (mX27_isKind).1.desc).map (fun d => d.parameters.length) = some 2 := by decide +kernel
abbrev mX28_read : bM := (yX28_read, cX28_read, 1, some .boolean, [])
theorem hmX28_read : (mX28_read).1.cls ≠ "java/lang/invoke/MethodHandle" ∧ (mX28_read).1.cls ≠ "java/lang/invoke/VarHandle" ∧ (parseMethodDescriptor (mX28_read).1.desc).map (fun d => d.parameters.length) = some 0 := by decide +kernel
abbrev mX28_next : bM := (yX28_next, cX28_next, 3, none, [])
theorem hmX28_next : (mX28_next).1.cls ≠ "java/lang/invoke/MethodHandle" ∧ (mX28_next).1.cls ≠ "java/lang/invoke/VarHandle" ∧ (parseMethodDescriptor (mX28_next).1.desc).map (fun d => d.parameters.length) = some 0 := by decide +kernel
abbrev mX28_look : bM := (yX28_look, cX28_look, 2, some .int, [])
theorem hmX28_look : (mX28_look).1.cls ≠ "java/lang/invoke/MethodHandle" ∧ (mX28_look).1.cls ≠ "java/lang/invoke/VarHandle" ∧ (parseMethodDescriptor (mX28_look).1.desc).map (fun d => d.parameters.length) = some 1 := by decide +kernel
abbrev mX28_bytes : bM := (yX28_bytes, cX28_bytes, 3, none, [])
theorem hmX28_bytes : (mX28_bytes).1.cls ≠ "java/lang/invoke/MethodHandle" ∧ (mX28_bytes).1.cls ≠ "java/lang/invoke/VarHandle" ∧ (parseMethodDescriptor (mX28_bytes).1.desc).map (fun d => d.parameters.length) = some 1 := by decide +kernel
abbrev mX28_hex : bM := (yX28_hex, cX28_hex, 1, some .int, [])
theorem hmX28_hex : (mX28_hex).1.cls ≠ "java/lang/invoke/MethodHandle" ∧ (mX28_hex).1.cls ≠ "java/lang/invoke/VarHandle" ∧ (parseMethodDescriptor (mX28_hex).1.desc).map (fun d => d.parameters.length) = some 1 := by decide +kernel
abbrev mX28_isDigit : bM := (yX28_isDigit, cX28_isDigit, 1, some .boolean, [])
theorem hmX28_isDigit : (mX28_isDigit).1.cls ≠ "java/lang/invoke/MethodHandle" ∧ (mX28_isDigit).1.cls ≠ "java/lang/invoke/VarHandle" ∧ (parseMethodDescriptor (mX28_isDigit).1.desc).map (fun d => d.parameters.length) = some 1 := by decide +kernel
abbrev mX28_digits : bM := (yX28_digits, cX28_digits, 3, none, [])
theorem hmX28_digits : (mX28_digits).1.cls ≠ "java/lang/invoke/MethodHandle" ∧ (mX28_digits).1.cls ≠ "java/lang/invoke/VarHandle" ∧ (parseMethodDescriptor (mX28_digits).1.desc).map (fun d => d.parameters.length) = some 1 := by decide +kernel
abbrev mX28_string : bM := (yX28_string, cX28_string, 6, none, [])
theorem hmX28_string : (mX28_string).1.cls ≠ "java/lang/invoke/MethodHandle" ∧ (mX28_string).1.cls ≠ "java/lang/invoke/VarHandle" ∧ (parseMethodDescriptor (mX28_string).1.desc).map (fun d => d.parameters.length) = some 1 := by decide +kernel
abbrev mX28_isLetter : bM := (yX28_isLetter, cX28_isLetter, 1, some .boolean, [])
theorem hmX28_isLetter : (mX28_isLetter).1.cls ≠ "java/lang/invoke/MethodHandle" ∧ (mX28_isLetter).1.cls ≠ "java/lang/invoke/VarHandle" ∧ (parseMethodDescriptor (mX28_isLetter).1.desc).map (fun d => d.parameters.length) = some 1 := by decide +kernel
abbrev mX28_named : bM := (yX28_named, cX28_named, 4, some .int, [])
theorem hmX28_named : (mX28_named).1.cls ≠ "java/lang/invoke/MethodHandle" ∧ (mX28_named).1.cls ≠ "java/lang/invoke/VarHandle" ∧ (parseMethodDescriptor (mX28_named).1.desc).map (fun d => d.parameters.length) = some 2 := by decide +kernel
abbrev mX28_item : bM := (yX28_item, cX28_item, 3, some .boolean, [])
theorem hmX28_item : (mX28_item).1.cls ≠ "java/lang/invoke/MethodHandle" ∧ (mX28_item).1.cls ≠ "java/lang/invoke/VarHandle" ∧ (parseMethodDescriptor (mX28_item).1.desc).map (fun d => d.parameters.length) = some 2 := by decide +kernel
abbrev mX28_leaf : bM := (yX28_leaf, cX28_leaf, 4, some .boolean, [])
theorem hmX28_leaf : (mX28_leaf).1.cls ≠ "java/lang/invoke/MethodHandle" ∧ (mX28_leaf).1.cls ≠ "java/lang/invoke/VarHandle" ∧ (parseMethodDescriptor (mX28_leaf).1.desc).map (fun d => d.parameters.length) = some 2 := by decide +kernel
abbrev mX28_term : bM := (yX28_term, cX28_term, 5, some .int, [])
theorem hmX28_term : (mX28_term).1.cls ≠ "java/lang/invoke/MethodHandle" ∧ (mX28_term).1.cls ≠ "java/lang/invoke/VarHandle" ∧ (parseMethodDescriptor (mX28_term).1.desc).map (fun d => d.parameters.length) = some 3 := by decide +kernel
abbrev mX28_sequence : bM := (yX28_sequence, cX28_sequence, 4, some .boolean, [])
theorem hmX28_sequence : (mX28_sequence).1.cls ≠ "java/lang/invoke/MethodHandle" ∧ (mX28_sequence).1.cls ≠ "java/lang/invoke/VarHandle" ∧ (parseMethodDescriptor (mX28_sequence).1.desc).map (fun d => d.parameters.length) = some 2 := by decide +kernel
abbrev mX28_fail : bM := (yX28_fail, cX28_fail, 1, some .boolean, [])
theorem hmX28_fail : (mX28_fail).1.cls ≠ "java/lang/invoke/MethodHandle" ∧ (mX28_fail).1.cls ≠ "java/lang/invoke/VarHandle" ∧ (parseMethodDescriptor (mX28_fail).1.desc).map (fun d => d.parameters.length) = some 0 := by decide +kernel
abbrev mX28_application : bM := (yX28_application, cX28_application, 6, some .boolean, [])
theorem hmX28_application : (mX28_application).1.cls ≠ "java/lang/invoke/MethodHandle" ∧ (mX28_application).1.cls ≠ "java/lang/invoke/VarHandle" ∧ (parseMethodDescriptor (mX28_application).1.desc).map (fun d => d.parameters.length) = some 2 := by decide +kernel
abbrev mX28_isSequence : bM := (yX28_isSequence, cX28_isSequence, 2, some .boolean, [])
theorem hmX28_isSequence : (mX28_isSequence).1.cls ≠ "java/lang/invoke/MethodHandle" ∧ (mX28_isSequence).1.cls ≠ "java/lang/invoke/VarHandle" ∧ (parseMethodDescriptor (mX28_isSequence).1.desc).map (fun d => d.parameters.length) = some 1 := by decide +kernel
abbrev mX28_child : bM := (yX28_child, cX28_child, 5, some .int, [])
theorem hmX28_child : (mX28_child).1.cls ≠ "java/lang/invoke/MethodHandle" ∧ (mX28_child).1.cls ≠ "java/lang/invoke/VarHandle" ∧ (parseMethodDescriptor (mX28_child).1.desc).map (fun d => d.parameters.length) = some 2 := by decide +kernel
abbrev mX28_hasMark : bM := (yX28_hasMark, cX28_hasMark, 2, some .boolean, [])
theorem hmX28_hasMark : (mX28_hasMark).1.cls ≠ "java/lang/invoke/MethodHandle" ∧ (mX28_hasMark).1.cls ≠ "java/lang/invoke/VarHandle" ∧ (parseMethodDescriptor (mX28_hasMark).1.desc).map (fun d => d.parameters.length) = some 1 := by decide +kernel
abbrev mX28_isWord : bM := (yX28_isWord, cX28_isWord, 3, some .boolean, [])
theorem hmX28_isWord : (mX28_isWord).1.cls ≠ "java/lang/invoke/MethodHandle" ∧ (mX28_isWord).1.cls ≠ "java/lang/invoke/VarHandle" ∧ (parseMethodDescriptor (mX28_isWord).1.desc).map (fun d => d.parameters.length) = some 2 := by decide +kernel
abbrev mX28_isMark : bM := (yX28_isMark, cX28_isMark, 6, some .boolean, [])
theorem hmX28_isMark : (mX28_isMark).1.cls ≠ "java/lang/invoke/MethodHandle" ∧ (mX28_isMark).1.cls ≠ "java/lang/invoke/VarHandle" ∧ (parseMethodDescriptor (mX28_isMark).1.desc).map (fun d => d.parameters.length) = some 4 := by decide +kernel
abbrev mX28_small : bM := (yX28_small, cX28_small, 2, some .int, [])
theorem hmX28_small : (mX28_small).1.cls ≠ "java/lang/invoke/MethodHandle" ∧ (mX28_small).1.cls ≠ "java/lang/invoke/VarHandle" ∧ (parseMethodDescriptor (mX28_small).1.desc).map (fun d => d.parameters.length) = some 1 := by decide +kernel
abbrev mX29_find : bM := (yX29_find, cX29_find, 7, some .int, [])
theorem hmX29_find : (mX29_find).1.cls ≠ "java/lang/invoke/MethodHandle" ∧ (mX29_find).1.cls ≠ "java/lang/invoke/VarHandle" ∧ (parseMethodDescriptor (mX29_find).1.desc).map (fun d => d.parameters.length) = some 3 := by decide +kernel
abbrev mX3_find : bM := (yX3_find, cX3_find, 5, some .int, [])
theorem hmX3_find : (mX3_find).1.cls ≠ "java/lang/invoke/MethodHandle" ∧ (mX3_find).1.cls ≠ "java/lang/invoke/VarHandle" ∧ (parseMethodDescriptor (mX3_find).1.desc).map (fun d => d.parameters.length) = some 3 := by decide +kernel
abbrev mX3_is : bM := (yX3_is, cX3_is, 7, some .boolean, [])
theorem hmX3_is : (mX3_is).1.cls ≠ "java/lang/invoke/MethodHandle" ∧ (mX3_is).1.cls ≠ "java/lang/invoke/VarHandle" ∧ (parseMethodDescriptor (mX3_is).1.desc).map (fun d => d.parameters.length) = some 4 := by decide +kernel
abbrev mX30_isBlank : bM := (yX30_isBlank, cX30_isBlank, 1, some .boolean, [])
theorem hmX30_isBlank : (mX30_isBlank).1.cls ≠ "java/lang/invoke/MethodHandle" ∧ (mX30_isBlank).1.cls ≠ "java/lang/invoke/VarHandle" ∧ (parseMethodDescriptor (mX30_isBlank).1.desc).map (fun d => d.parameters.length) = some 1 := by decide +kernel
abbrev mX30_hex : bM := (yX30_hex, cX30_hex, 1, some .int, [])
theorem hmX30_hex : (mX30_hex).1.cls ≠ "java/lang/invoke/MethodHandle" ∧ (mX30_hex).1.cls ≠ "java/lang/invoke/VarHandle" ∧ (parseMethodDescriptor (mX30_hex).1.desc).map (fun d => d.parameters.length) = some 1 := by decide +kernel
abbrev mX30_isDigit : bM := (yX30_isDigit, cX30_isDigit, 1, some .boolean, [])
theorem hmX30_isDigit : (mX30_isDigit).1.cls ≠ "java/lang/invoke/MethodHandle" ∧ (mX30_isDigit).1.cls ≠ "java/lang/invoke/VarHandle" ∧ (parseMethodDescriptor (mX30_isDigit).1.desc).map (fun d => d.parameters.length) = some 1 := by decide +kernel
abbrev mX30_isPlain : bM := (yX30_isPlain, cX30_isPlain, 1, some .boolean, [])
theorem hmX30_isPlain : (mX30_isPlain).1.cls ≠ "java/lang/invoke/MethodHandle" ∧ (mX30_isPlain).1.cls ≠ "java/lang/invoke/VarHandle" ∧ (parseMethodDescriptor (mX30_isPlain).1.desc).map (fun d => d.parameters.length) = some 1 := by decide +kernel
abbrev mX30_isLetter : bM := (yX30_isLetter, cX30_isLetter, 1, some .boolean, [])
theorem hmX30_isLetter : (mX30_isLetter).1.cls ≠ "java/lang/invoke/MethodHandle" ∧ (mX30_isLetter).1.cls ≠ "java/lang/invoke/VarHandle" ∧ (parseMethodDescriptor (mX30_isLetter).1.desc).map (fun d => d.parameters.length) = some 1 := by decide +kernel
abbrev mX30_isPart : bM := (yX30_isPart, cX30_isPart, 1, some .boolean, [])
theorem hmX30_isPart : (mX30_isPart).1.cls ≠ "java/lang/invoke/MethodHandle" ∧ (mX30_isPart).1.cls ≠ "java/lang/invoke/VarHandle" ∧ (parseMethodDescriptor (mX30_isPart).1.desc).map (fun d => d.parameters.length) = some 1 := by decide +kernel
abbrev mX4_read : bM := (yX4_read, cX4_read, 3, some .boolean, [])
theorem hmX4_read : (mX4_read).1.cls ≠ "java/lang/invoke/MethodHandle" ∧ (mX4_read).1.cls ≠ "java/lang/invoke/VarHandle" ∧ (parseMethodDescriptor (mX4_read).1.desc).map (fun d => d.parameters.length) = some 2 := by decide +kernel
abbrev mX4_item : bM := (yX4_item, cX4_item, 2, some .int, [])
theorem hmX4_item : (mX4_item).1.cls ≠ "java/lang/invoke/MethodHandle" ∧ (mX4_item).1.cls ≠ "java/lang/invoke/VarHandle" ∧ (parseMethodDescriptor (mX4_item).1.desc).map (fun d => d.parameters.length) = some 1 := by decide +kernel
abbrev mX4_leaf : bM := (yX4_leaf, cX4_leaf, 3, some .int, [])
theorem hmX4_leaf : (mX4_leaf).1.cls ≠ "java/lang/invoke/MethodHandle" ∧ (mX4_leaf).1.cls ≠ "java/lang/invoke/VarHandle" ∧ (parseMethodDescriptor (mX4_leaf).1.desc).map (fun d => d.parameters.length) = some 1 := by decide +kernel
abbrev mX4_number : bM := (yX4_number, cX4_number, 6, none, [])
theorem hmX4_number : (mX4_number).1.cls ≠ "java/lang/invoke/MethodHandle" ∧ (mX4_number).1.cls ≠ "java/lang/invoke/VarHandle" ∧ (parseMethodDescriptor (mX4_number).1.desc).map (fun d => d.parameters.length) = some 4 := by decide +kernel
abbrev mX4_timesTen : bM := (yX4_timesTen, cX4_timesTen, 5, none, [])
theorem hmX4_timesTen : (mX4_timesTen).1.cls ≠ "java/lang/invoke/MethodHandle" ∧ (mX4_timesTen).1.cls ≠ "java/lang/invoke/VarHandle" ∧ (parseMethodDescriptor (mX4_timesTen).1.desc).map (fun d => d.parameters.length) = some 2 := by decide +kernel
abbrev mX4_refuse : bM := (yX4_refuse, cX4_refuse, 1, some .int, [])
theorem hmX4_refuse : (mX4_refuse).1.cls ≠ "java/lang/invoke/MethodHandle" ∧ (mX4_refuse).1.cls ≠ "java/lang/invoke/VarHandle" ∧ (parseMethodDescriptor (mX4_refuse).1.desc).map (fun d => d.parameters.length) = some 0 := by decide +kernel
abbrev mX4_begin : bM := (yX4_begin, cX4_begin, 4, some .int, [])
theorem hmX4_begin : (mX4_begin).1.cls ≠ "java/lang/invoke/MethodHandle" ∧ (mX4_begin).1.cls ≠ "java/lang/invoke/VarHandle" ∧ (parseMethodDescriptor (mX4_begin).1.desc).map (fun d => d.parameters.length) = some 2 := by decide +kernel
abbrev mX4_application : bM := (yX4_application, cX4_application, 4, some .int, [])
theorem hmX4_application : (mX4_application).1.cls ≠ "java/lang/invoke/MethodHandle" ∧ (mX4_application).1.cls ≠ "java/lang/invoke/VarHandle" ∧ (parseMethodDescriptor (mX4_application).1.desc).map (fun d => d.parameters.length) = some 1 := by decide +kernel
abbrev mX4_word : bM := (yX4_word, cX4_word, 3, some .int, [])
theorem hmX4_word : (mX4_word).1.cls ≠ "java/lang/invoke/MethodHandle" ∧ (mX4_word).1.cls ≠ "java/lang/invoke/VarHandle" ∧ (parseMethodDescriptor (mX4_word).1.desc).map (fun d => d.parameters.length) = some 1 := by decide +kernel
abbrev mX4_isArgument : bM := (yX4_isArgument, cX4_isArgument, 2, some .boolean, [])
theorem hmX4_isArgument : (mX4_isArgument).1.cls ≠ "java/lang/invoke/MethodHandle" ∧ (mX4_isArgument).1.cls ≠ "java/lang/invoke/VarHandle" ∧ (parseMethodDescriptor (mX4_isArgument).1.desc).map (fun d => d.parameters.length) = some 0 := by decide +kernel
abbrev mX4_argument : bM := (yX4_argument, cX4_argument, 3, some .int, [])
theorem hmX4_argument : (mX4_argument).1.cls ≠ "java/lang/invoke/MethodHandle" ∧ (mX4_argument).1.cls ≠ "java/lang/invoke/VarHandle" ∧ (parseMethodDescriptor (mX4_argument).1.desc).map (fun d => d.parameters.length) = some 1 := by decide +kernel
abbrev mX4_link : bM := (yX4_link, cX4_link, 4, some .int, [])
theorem hmX4_link : (mX4_link).1.cls ≠ "java/lang/invoke/MethodHandle" ∧ (mX4_link).1.cls ≠ "java/lang/invoke/VarHandle" ∧ (parseMethodDescriptor (mX4_link).1.desc).map (fun d => d.parameters.length) = some 3 := by decide +kernel
abbrev mX4_sequence : bM := (yX4_sequence, cX4_sequence, 4, some .int, [])
theorem hmX4_sequence : (mX4_sequence).1.cls ≠ "java/lang/invoke/MethodHandle" ∧ (mX4_sequence).1.cls ≠ "java/lang/invoke/VarHandle" ∧ (parseMethodDescriptor (mX4_sequence).1.desc).map (fun d => d.parameters.length) = some 1 := by decide +kernel
abbrev mX4_isSequence : bM := (yX4_isSequence, cX4_isSequence, 2, some .boolean, [])
theorem hmX4_isSequence : (mX4_isSequence).1.cls ≠ "java/lang/invoke/MethodHandle" ∧ (mX4_isSequence).1.cls ≠ "java/lang/invoke/VarHandle" ∧ (parseMethodDescriptor (mX4_isSequence).1.desc).map (fun d => d.parameters.length) = some 1 := by decide +kernel
abbrev mX4_child : bM := (yX4_child, cX4_child, 5, some .int, [])
theorem hmX4_child : (mX4_child).1.cls ≠ "java/lang/invoke/MethodHandle" ∧ (mX4_child).1.cls ≠ "java/lang/invoke/VarHandle" ∧ (parseMethodDescriptor (mX4_child).1.desc).map (fun d => d.parameters.length) = some 2 := by decide +kernel
abbrev mX4_isBare : bM := (yX4_isBare, cX4_isBare, 4, some .boolean, [])
theorem hmX4_isBare : (mX4_isBare).1.cls ≠ "java/lang/invoke/MethodHandle" ∧ (mX4_isBare).1.cls ≠ "java/lang/invoke/VarHandle" ∧ (parseMethodDescriptor (mX4_isBare).1.desc).map (fun d => d.parameters.length) = some 3 := by decide +kernel
abbrev mX4_is : bM := (yX4_is, cX4_is, 4, some .boolean, [])
theorem hmX4_is : (mX4_is).1.cls ≠ "java/lang/invoke/MethodHandle" ∧ (mX4_is).1.cls ≠ "java/lang/invoke/VarHandle" ∧ (parseMethodDescriptor (mX4_is).1.desc).map (fun d => d.parameters.length) = some 3 := by decide +kernel
abbrev mX4_text : bM := (yX4_text, cX4_text, 1, some (.array .byte), [])
theorem hmX4_text : (mX4_text).1.cls ≠ "java/lang/invoke/MethodHandle" ∧ (mX4_text).1.cls ≠ "java/lang/invoke/VarHandle" ∧ (parseMethodDescriptor (mX4_text).1.desc).map (fun d => d.parameters.length) = some 0 := by decide +kernel
abbrev mX4_size : bM := (yX4_size, cX4_size, 4, some .int, [])
theorem hmX4_size : (mX4_size).1.cls ≠ "java/lang/invoke/MethodHandle" ∧ (mX4_size).1.cls ≠ "java/lang/invoke/VarHandle" ∧ (parseMethodDescriptor (mX4_size).1.desc).map (fun d => d.parameters.length) = some 1 := by decide +kernel
abbrev mX5_begin : bM := (yX5_begin, cX5_begin, 3, none, [])
theorem hmX5_begin : (mX5_begin).1.cls ≠ "java/lang/invoke/MethodHandle" ∧ (mX5_begin).1.cls ≠ "java/lang/invoke/VarHandle" ∧ (parseMethodDescriptor (mX5_begin).1.desc).map (fun d => d.parameters.length) = some 2 := by decide +kernel
abbrev mX5_next : bM := (yX5_next, cX5_next, 3, none, [])
theorem hmX5_next : (mX5_next).1.cls ≠ "java/lang/invoke/MethodHandle" ∧ (mX5_next).1.cls ≠ "java/lang/invoke/VarHandle" ∧ (parseMethodDescriptor (mX5_next).1.desc).map (fun d => d.parameters.length) = some 0 := by decide +kernel
abbrev mX5_skip : bM := (yX5_skip, cX5_skip, 2, none, [])
theorem hmX5_skip : (mX5_skip).1.cls ≠ "java/lang/invoke/MethodHandle" ∧ (mX5_skip).1.cls ≠ "java/lang/invoke/VarHandle" ∧ (parseMethodDescriptor (mX5_skip).1.desc).map (fun d => d.parameters.length) = some 0 := by decide +kernel
abbrev mX5_at : bM := (yX5_at, cX5_at, 2, some .int, [])
theorem hmX5_at : (mX5_at).1.cls ≠ "java/lang/invoke/MethodHandle" ∧ (mX5_at).1.cls ≠ "java/lang/invoke/VarHandle" ∧ (parseMethodDescriptor (mX5_at).1.desc).map (fun d => d.parameters.length) = some 1 := by decide +kernel
abbrev mX5_bytes : bM := (yX5_bytes, cX5_bytes, 1, none, [])
theorem hmX5_bytes : (mX5_bytes).1.cls ≠ "java/lang/invoke/MethodHandle" ∧ (mX5_bytes).1.cls ≠ "java/lang/invoke/VarHandle" ∧ (parseMethodDescriptor (mX5_bytes).1.desc).map (fun d => d.parameters.length) = some 0 := by decide +kernel
abbrev mX5_number : bM := (yX5_number, cX5_number, 1, none, [])
theorem hmX5_number : (mX5_number).1.cls ≠ "java/lang/invoke/MethodHandle" ∧ (mX5_number).1.cls ≠ "java/lang/invoke/VarHandle" ∧ (parseMethodDescriptor (mX5_number).1.desc).map (fun d => d.parameters.length) = some 0 := by decide +kernel
abbrev mX5_string : bM := (yX5_string, cX5_string, 2, none, [])
theorem hmX5_string : (mX5_string).1.cls ≠ "java/lang/invoke/MethodHandle" ∧ (mX5_string).1.cls ≠ "java/lang/invoke/VarHandle" ∧ (parseMethodDescriptor (mX5_string).1.desc).map (fun d => d.parameters.length) = some 0 := by decide +kernel
abbrev mX5_mark : bM := (yX5_mark, cX5_mark, 1, none, [])
theorem hmX5_mark : (mX5_mark).1.cls ≠ "java/lang/invoke/MethodHandle" ∧ (mX5_mark).1.cls ≠ "java/lang/invoke/VarHandle" ∧ (parseMethodDescriptor (mX5_mark).1.desc).map (fun d => d.parameters.length) = some 0 := by decide +kernel
abbrev mX6_set : bM := (yX6_set, cX6_set, 5, none, [])
theorem hmX6_set : (mX6_set).1.cls ≠ "java/lang/invoke/MethodHandle" ∧ (mX6_set).1.cls ≠ "java/lang/invoke/VarHandle" ∧ (parseMethodDescriptor (mX6_set).1.desc).map (fun d => d.parameters.length) = some 1 := by decide +kernel
abbrev mX6_clear : bM := (yX6_clear, cX6_clear, 1, none, [])
theorem hmX6_clear : (mX6_clear).1.cls ≠ "java/lang/invoke/MethodHandle" ∧ (mX6_clear).1.cls ≠ "java/lang/invoke/VarHandle" ∧ (parseMethodDescriptor (mX6_clear).1.desc).map (fun d => d.parameters.length) = some 0 := by decide +kernel
abbrev mX6_bits : bM := (yX6_bits, cX6_bits, 1, some .int, [])
theorem hmX6_bits : (mX6_bits).1.cls ≠ "java/lang/invoke/MethodHandle" ∧ (mX6_bits).1.cls ≠ "java/lang/invoke/VarHandle" ∧ (parseMethodDescriptor (mX6_bits).1.desc).map (fun d => d.parameters.length) = some 0 := by decide +kernel
abbrev mX6_isZero : bM := (yX6_isZero, cX6_isZero, 1, some .boolean, [])
theorem hmX6_isZero : (mX6_isZero).1.cls ≠ "java/lang/invoke/MethodHandle" ∧ (mX6_isZero).1.cls ≠ "java/lang/invoke/VarHandle" ∧ (parseMethodDescriptor (mX6_isZero).1.desc).map (fun d => d.parameters.length) = some 0 := by decide +kernel
abbrev mX6_at : bM := (yX6_at, cX6_at, 2, some .int, [])
theorem hmX6_at : (mX6_at).1.cls ≠ "java/lang/invoke/MethodHandle" ∧ (mX6_at).1.cls ≠ "java/lang/invoke/VarHandle" ∧ (parseMethodDescriptor (mX6_at).1.desc).map (fun d => d.parameters.length) = some 1 := by decide +kernel
abbrev mX6_trim : bM := (yX6_trim, cX6_trim, 2, none, [])
theorem hmX6_trim : (mX6_trim).1.cls ≠ "java/lang/invoke/MethodHandle" ∧ (mX6_trim).1.cls ≠ "java/lang/invoke/VarHandle" ∧ (parseMethodDescriptor (mX6_trim).1.desc).map (fun d => d.parameters.length) = some 1 := by decide +kernel
abbrev mX6_compare : bM := (yX6_compare, cX6_compare, 2, some .int, [])
theorem hmX6_compare : (mX6_compare).1.cls ≠ "java/lang/invoke/MethodHandle" ∧ (mX6_compare).1.cls ≠ "java/lang/invoke/VarHandle" ∧ (parseMethodDescriptor (mX6_compare).1.desc).map (fun d => d.parameters.length) = some 1 := by decide +kernel
abbrev mX6_compareSize : bM := (yX6_compareSize, cX6_compareSize, 3, some .int, [])
theorem hmX6_compareSize : (mX6_compareSize).1.cls ≠ "java/lang/invoke/MethodHandle" ∧ (mX6_compareSize).1.cls ≠ "java/lang/invoke/VarHandle" ∧ (parseMethodDescriptor (mX6_compareSize).1.desc).map (fun d => d.parameters.length) = some 1 := by decide +kernel
abbrev mX6_copy : bM := (yX6_copy, cX6_copy, 2, none, [])
theorem hmX6_copy : (mX6_copy).1.cls ≠ "java/lang/invoke/MethodHandle" ∧ (mX6_copy).1.cls ≠ "java/lang/invoke/VarHandle" ∧ (parseMethodDescriptor (mX6_copy).1.desc).map (fun d => d.parameters.length) = some 1 := by decide +kernel
abbrev mX6_endless : bM := (yX6_endless, cX6_endless, 3, some .int, [])
theorem hmX6_endless : (mX6_endless).1.cls ≠ "java/lang/invoke/MethodHandle" ∧ (mX6_endless).1.cls ≠ "java/lang/invoke/VarHandle" ∧ (parseMethodDescriptor (mX6_endless).1.desc).map (fun d => d.parameters.length) = some 2 := by decide +kernel
abbrev mX7_make : bM := (yX7_make, cX7_make, 7, some .int, [])
theorem hmX7_make : (mX7_make).1.cls ≠ "java/lang/invoke/MethodHandle" ∧ (mX7_make).1.cls ≠ "java/lang/invoke/VarHandle" ∧ (parseMethodDescriptor (mX7_make).1.desc).map (fun d => d.parameters.length) = some 3 := by decide +kernel
abbrev mX7_partsOf : bM := (yX7_partsOf, cX7_partsOf, 2, some .int, [])
theorem hmX7_partsOf : (mX7_partsOf).1.cls ≠ "java/lang/invoke/MethodHandle" ∧ (mX7_partsOf).1.cls ≠ "java/lang/invoke/VarHandle" ∧ (parseMethodDescriptor (mX7_partsOf).1.desc).map (fun d => d.parameters.length) = some 1 := by decide +kernel
abbrev mX7_bucket : bM := (yX7_bucket, cX7_bucket, 4, some .int, [])
theorem hmX7_bucket : (mX7_bucket).1.cls ≠ "java/lang/invoke/MethodHandle" ∧ (mX7_bucket).1.cls ≠ "java/lang/invoke/VarHandle" ∧ (parseMethodDescriptor (mX7_bucket).1.desc).map (fun d => d.parameters.length) = some 3 := by decide +kernel
abbrev mX7_marksOf : bM := (yX7_marksOf, cX7_marksOf, 6, some .int, [])
theorem hmX7_marksOf : (mX7_marksOf).1.cls ≠ "java/lang/invoke/MethodHandle" ∧ (mX7_marksOf).1.cls ≠ "java/lang/invoke/VarHandle" ∧ (parseMethodDescriptor (mX7_marksOf).1.desc).map (fun d => d.parameters.length) = some 3 := by decide +kernel
abbrev mX7_is : bM := (yX7_is, cX7_is, 3, some .boolean, [])
theorem hmX7_is : (mX7_is).1.cls ≠ "java/lang/invoke/MethodHandle" ∧ (mX7_is).1.cls ≠ "java/lang/invoke/VarHandle" ∧ (parseMethodDescriptor (mX7_is).1.desc).map (fun d => d.parameters.length) = some 2 := by decide +kernel
abbrev mX7_both : bM := (yX7_both, cX7_both, 4, some .boolean, [])
theorem hmX7_both : (mX7_both).1.cls ≠ "java/lang/invoke/MethodHandle" ∧ (mX7_both).1.cls ≠ "java/lang/invoke/VarHandle" ∧ (parseMethodDescriptor (mX7_both).1.desc).map (fun d => d.parameters.length) = some 3 := by decide +kernel
abbrev mX7_of : bM := (yX7_of, cX7_of, 9, some .int, [])
theorem hmX7_of : (mX7_of).1.cls ≠ "java/lang/invoke/MethodHandle" ∧ (mX7_of).1.cls ≠ "java/lang/invoke/VarHandle" ∧ (parseMethodDescriptor (mX7_of).1.desc).map (fun d => d.parameters.length) = some 2 := by decide +kernel
abbrev mX7_arguments : bM := (yX7_arguments, cX7_arguments, 1, some .int, [])
theorem hmX7_arguments : (mX7_arguments).1.cls ≠ "java/lang/invoke/MethodHandle" ∧ (mX7_arguments).1.cls ≠ "java/lang/invoke/VarHandle" ∧ (parseMethodDescriptor (mX7_arguments).1.desc).map (fun d => d.parameters.length) = some 1 := by decide +kernel
abbrev mX7_comb : bM := (yX7_comb, cX7_comb, 6, some .int, [])
theorem hmX7_comb : (mX7_comb).1.cls ≠ "java/lang/invoke/MethodHandle" ∧ (mX7_comb).1.cls ≠ "java/lang/invoke/VarHandle" ∧ (parseMethodDescriptor (mX7_comb).1.desc).map (fun d => d.parameters.length) = some 2 := by decide +kernel
abbrev mX7_pair : bM := (yX7_pair, cX7_pair, 3, some .int, [])
theorem hmX7_pair : (mX7_pair).1.cls ≠ "java/lang/invoke/MethodHandle" ∧ (mX7_pair).1.cls ≠ "java/lang/invoke/VarHandle" ∧ (parseMethodDescriptor (mX7_pair).1.desc).map (fun d => d.parameters.length) = some 2 := by decide +kernel
abbrev mX7_option : bM := (yX7_option, cX7_option, 2, some .int, [])
theorem hmX7_option : (mX7_option).1.cls ≠ "java/lang/invoke/MethodHandle" ∧ (mX7_option).1.cls ≠ "java/lang/invoke/VarHandle" ∧ (parseMethodDescriptor (mX7_option).1.desc).map (fun d => d.parameters.length) = some 1 := by decide +kernel
abbrev mX7_drop : bM := (yX7_drop, cX7_drop, 2, none, [])
theorem hmX7_drop : (mX7_drop).1.cls ≠ "java/lang/invoke/MethodHandle" ∧ (mX7_drop).1.cls ≠ "java/lang/invoke/VarHandle" ∧ (parseMethodDescriptor (mX7_drop).1.desc).map (fun d => d.parameters.length) = some 1 := by decide +kernel
abbrev mX8_fixedTop : bM := (yX8_fixedTop, cX8_fixedTop, 1, some .int, [])
theorem hmX8_fixedTop : (mX8_fixedTop).1.cls ≠ "java/lang/invoke/MethodHandle" ∧ (mX8_fixedTop).1.cls ≠ "java/lang/invoke/VarHandle" ∧ (parseMethodDescriptor (mX8_fixedTop).1.desc).map (fun d => d.parameters.length) = some 0 := by decide +kernel
abbrev mX8_ofWhole : bM := (yX8_ofWhole, cX8_ofWhole, 6, some .int, [])
theorem hmX8_ofWhole : (mX8_ofWhole).1.cls ≠ "java/lang/invoke/MethodHandle" ∧ (mX8_ofWhole).1.cls ≠ "java/lang/invoke/VarHandle" ∧ (parseMethodDescriptor (mX8_ofWhole).1.desc).map (fun d => d.parameters.length) = some 1 := by decide +kernel
abbrev mX8_small : bM := (yX8_small, cX8_small, 1, some .int, [])
theorem hmX8_small : (mX8_small).1.cls ≠ "java/lang/invoke/MethodHandle" ∧ (mX8_small).1.cls ≠ "java/lang/invoke/VarHandle" ∧ (parseMethodDescriptor (mX8_small).1.desc).map (fun d => d.parameters.length) = some 1 := by decide +kernel
abbrev mX8_numberLength : bM := (yX8_numberLength, cX8_numberLength, 1, some .int, [])
theorem hmX8_numberLength : (mX8_numberLength).1.cls ≠ "java/lang/invoke/MethodHandle" ∧ (mX8_numberLength).1.cls ≠ "java/lang/invoke/VarHandle" ∧ (parseMethodDescriptor (mX8_numberLength).1.desc).map (fun d => d.parameters.length) = some 1 := by decide +kernel
abbrev mX8_make : bM := (yX8_make, cX8_make, 5, some .int, [])
theorem hmX8_make : (mX8_make).1.cls ≠ "java/lang/invoke/MethodHandle" ∧ (mX8_make).1.cls ≠ "java/lang/invoke/VarHandle" ∧ (parseMethodDescriptor (mX8_make).1.desc).map (fun d => d.parameters.length) = some 3 := by decide +kernel
abbrev mX8_set : bM := (yX8_set, cX8_set, 4, none, [])
theorem hmX8_set : (mX8_set).1.cls ≠ "java/lang/invoke/MethodHandle" ∧ (mX8_set).1.cls ≠ "java/lang/invoke/VarHandle" ∧ (parseMethodDescriptor (mX8_set).1.desc).map (fun d => d.parameters.length) = some 3 := by decide +kernel
abbrev mX8_ofBytes : bM := (yX8_ofBytes, cX8_ofBytes, 6, some .int, [])
theorem hmX8_ofBytes : (mX8_ofBytes).1.cls ≠ "java/lang/invoke/MethodHandle" ∧ (mX8_ofBytes).1.cls ≠ "java/lang/invoke/VarHandle" ∧ (parseMethodDescriptor (mX8_ofBytes).1.desc).map (fun d => d.parameters.length) = some 3 := by decide +kernel
abbrev mX8_bytes : bM := (yX8_bytes, cX8_bytes, 5, some .int, [])
theorem hmX8_bytes : (mX8_bytes).1.cls ≠ "java/lang/invoke/MethodHandle" ∧ (mX8_bytes).1.cls ≠ "java/lang/invoke/VarHandle" ∧ (parseMethodDescriptor (mX8_bytes).1.desc).map (fun d => d.parameters.length) = some 1 := by decide +kernel
abbrev mX8_setByte : bM := (yX8_setByte, cX8_setByte, 6, none, [])
theorem hmX8_setByte : (mX8_setByte).1.cls ≠ "java/lang/invoke/MethodHandle" ∧ (mX8_setByte).1.cls ≠ "java/lang/invoke/VarHandle" ∧ (parseMethodDescriptor (mX8_setByte).1.desc).map (fun d => d.parameters.length) = some 3 := by decide +kernel
abbrev mX8_cell : bM := (yX8_cell, cX8_cell, 3, some .int, [])
theorem hmX8_cell : (mX8_cell).1.cls ≠ "java/lang/invoke/MethodHandle" ∧ (mX8_cell).1.cls ≠ "java/lang/invoke/VarHandle" ∧ (parseMethodDescriptor (mX8_cell).1.desc).map (fun d => d.parameters.length) = some 2 := by decide +kernel
abbrev mX8_wrap : bM := (yX8_wrap, cX8_wrap, 4, some .int, [])
theorem hmX8_wrap : (mX8_wrap).1.cls ≠ "java/lang/invoke/MethodHandle" ∧ (mX8_wrap).1.cls ≠ "java/lang/invoke/VarHandle" ∧ (parseMethodDescriptor (mX8_wrap).1.desc).map (fun d => d.parameters.length) = some 2 := by decide +kernel
abbrev mX8_length : bM := (yX8_length, cX8_length, 3, some .int, [])
theorem hmX8_length : (mX8_length).1.cls ≠ "java/lang/invoke/MethodHandle" ∧ (mX8_length).1.cls ≠ "java/lang/invoke/VarHandle" ∧ (parseMethodDescriptor (mX8_length).1.desc).map (fun d => d.parameters.length) = some 1 := by decide +kernel
abbrev mX8_isSmall : bM := (yX8_isSmall, cX8_isSmall, 1, some .boolean, [])
theorem hmX8_isSmall : (mX8_isSmall).1.cls ≠ "java/lang/invoke/MethodHandle" ∧ (mX8_isSmall).1.cls ≠ "java/lang/invoke/VarHandle" ∧ (parseMethodDescriptor (mX8_isSmall).1.desc).map (fun d => d.parameters.length) = some 1 := by decide +kernel
abbrev mX8_isPlace : bM := (yX8_isPlace, cX8_isPlace, 1, some .boolean, [])
theorem hmX8_isPlace : (mX8_isPlace).1.cls ≠ "java/lang/invoke/MethodHandle" ∧ (mX8_isPlace).1.cls ≠ "java/lang/invoke/VarHandle" ∧ (parseMethodDescriptor (mX8_isPlace).1.desc).map (fun d => d.parameters.length) = some 1 := by decide +kernel
abbrev mX8_kind : bM := (yX8_kind, cX8_kind, 2, some .int, [])
theorem hmX8_kind : (mX8_kind).1.cls ≠ "java/lang/invoke/MethodHandle" ∧ (mX8_kind).1.cls ≠ "java/lang/invoke/VarHandle" ∧ (parseMethodDescriptor (mX8_kind).1.desc).map (fun d => d.parameters.length) = some 1 := by decide +kernel
abbrev mX8_sum : bM := (yX8_sum, cX8_sum, 2, some .int, [])
theorem hmX8_sum : (mX8_sum).1.cls ≠ "java/lang/invoke/MethodHandle" ∧ (mX8_sum).1.cls ≠ "java/lang/invoke/VarHandle" ∧ (parseMethodDescriptor (mX8_sum).1.desc).map (fun d => d.parameters.length) = some 2 := by decide +kernel
abbrev mX8_pair : bM := (yX8_pair, cX8_pair, 4, some .int, [])
theorem hmX8_pair : (mX8_pair).1.cls ≠ "java/lang/invoke/MethodHandle" ∧ (mX8_pair).1.cls ≠ "java/lang/invoke/VarHandle" ∧ (parseMethodDescriptor (mX8_pair).1.desc).map (fun d => d.parameters.length) = some 2 := by decide +kernel
abbrev mX8_cons : bM := (yX8_cons, cX8_cons, 4, some .int, [])
theorem hmX8_cons : (mX8_cons).1.cls ≠ "java/lang/invoke/MethodHandle" ∧ (mX8_cons).1.cls ≠ "java/lang/invoke/VarHandle" ∧ (parseMethodDescriptor (mX8_cons).1.desc).map (fun d => d.parameters.length) = some 2 := by decide +kernel
abbrev mX8_listCount : bM := (yX8_listCount, cX8_listCount, 2, some .int, [])
theorem hmX8_listCount : (mX8_listCount).1.cls ≠ "java/lang/invoke/MethodHandle" ∧ (mX8_listCount).1.cls ≠ "java/lang/invoke/VarHandle" ∧ (parseMethodDescriptor (mX8_listCount).1.desc).map (fun d => d.parameters.length) = some 1 := by decide +kernel
abbrev mX8_count : bM := (yX8_count, cX8_count, 2, some .int, [])
theorem hmX8_count : (mX8_count).1.cls ≠ "java/lang/invoke/MethodHandle" ∧ (mX8_count).1.cls ≠ "java/lang/invoke/VarHandle" ∧ (parseMethodDescriptor (mX8_count).1.desc).map (fun d => d.parameters.length) = some 1 := by decide +kernel
abbrev mX8_byteAt : bM := (yX8_byteAt, cX8_byteAt, 3, some .int, [])
theorem hmX8_byteAt : (mX8_byteAt).1.cls ≠ "java/lang/invoke/MethodHandle" ∧ (mX8_byteAt).1.cls ≠ "java/lang/invoke/VarHandle" ∧ (parseMethodDescriptor (mX8_byteAt).1.desc).map (fun d => d.parameters.length) = some 2 := by decide +kernel
abbrev mX8_load : bM := (yX8_load, cX8_load, 5, none, [])
theorem hmX8_load : (mX8_load).1.cls ≠ "java/lang/invoke/MethodHandle" ∧ (mX8_load).1.cls ≠ "java/lang/invoke/VarHandle" ∧ (parseMethodDescriptor (mX8_load).1.desc).map (fun d => d.parameters.length) = some 2 := by decide +kernel
abbrev mX8_node : bM := (yX8_node, cX8_node, 7, some .int, [])
theorem hmX8_node : (mX8_node).1.cls ≠ "java/lang/invoke/MethodHandle" ∧ (mX8_node).1.cls ≠ "java/lang/invoke/VarHandle" ∧ (parseMethodDescriptor (mX8_node).1.desc).map (fun d => d.parameters.length) = some 4 := by decide +kernel
abbrev mX8_total : bM := (yX8_total, cX8_total, 2, some .int, [])
theorem hmX8_total : (mX8_total).1.cls ≠ "java/lang/invoke/MethodHandle" ∧ (mX8_total).1.cls ≠ "java/lang/invoke/VarHandle" ∧ (parseMethodDescriptor (mX8_total).1.desc).map (fun d => d.parameters.length) = some 1 := by decide +kernel
abbrev mX8_many : bM := (yX8_many, cX8_many, 2, some .int, [])
theorem hmX8_many : (mX8_many).1.cls ≠ "java/lang/invoke/MethodHandle" ∧ (mX8_many).1.cls ≠ "java/lang/invoke/VarHandle" ∧ (parseMethodDescriptor (mX8_many).1.desc).map (fun d => d.parameters.length) = some 1 := by decide +kernel
abbrev mX8_height : bM := (yX8_height, cX8_height, 2, some .int, [])
theorem hmX8_height : (mX8_height).1.cls ≠ "java/lang/invoke/MethodHandle" ∧ (mX8_height).1.cls ≠ "java/lang/invoke/VarHandle" ∧ (parseMethodDescriptor (mX8_height).1.desc).map (fun d => d.parameters.length) = some 1 := by decide +kernel
abbrev mX8_dropFixed : bM := (yX8_dropFixed, cX8_dropFixed, 2, none, [])
theorem hmX8_dropFixed : (mX8_dropFixed).1.cls ≠ "java/lang/invoke/MethodHandle" ∧ (mX8_dropFixed).1.cls ≠ "java/lang/invoke/VarHandle" ∧ (parseMethodDescriptor (mX8_dropFixed).1.desc).map (fun d => d.parameters.length) = some 1 := by decide +kernel
abbrev mX8_tidy : bM := (yX8_tidy, cX8_tidy, 5, none, [])
theorem hmX8_tidy : (mX8_tidy).1.cls ≠ "java/lang/invoke/MethodHandle" ∧ (mX8_tidy).1.cls ≠ "java/lang/invoke/VarHandle" ∧ (parseMethodDescriptor (mX8_tidy).1.desc).map (fun d => d.parameters.length) = some 2 := by decide +kernel
abbrev mX8_keep : bM := (yX8_keep, cX8_keep, 5, some .int, [])
theorem hmX8_keep : (mX8_keep).1.cls ≠ "java/lang/invoke/MethodHandle" ∧ (mX8_keep).1.cls ≠ "java/lang/invoke/VarHandle" ∧ (parseMethodDescriptor (mX8_keep).1.desc).map (fun d => d.parameters.length) = some 1 := by decide +kernel
abbrev mX8_sizeOf : bM := (yX8_sizeOf, cX8_sizeOf, 3, some .int, [])
theorem hmX8_sizeOf : (mX8_sizeOf).1.cls ≠ "java/lang/invoke/MethodHandle" ∧ (mX8_sizeOf).1.cls ≠ "java/lang/invoke/VarHandle" ∧ (parseMethodDescriptor (mX8_sizeOf).1.desc).map (fun d => d.parameters.length) = some 1 := by decide +kernel
abbrev mX8_keepParts : bM := (yX8_keepParts, cX8_keepParts, 5, none, [])
theorem hmX8_keepParts : (mX8_keepParts).1.cls ≠ "java/lang/invoke/MethodHandle" ∧ (mX8_keepParts).1.cls ≠ "java/lang/invoke/VarHandle" ∧ (parseMethodDescriptor (mX8_keepParts).1.desc).map (fun d => d.parameters.length) = some 1 := by decide +kernel
abbrev mX8_sizeHere : bM := (yX8_sizeHere, cX8_sizeHere, 3, some .int, [])
theorem hmX8_sizeHere : (mX8_sizeHere).1.cls ≠ "java/lang/invoke/MethodHandle" ∧ (mX8_sizeHere).1.cls ≠ "java/lang/invoke/VarHandle" ∧ (parseMethodDescriptor (mX8_sizeHere).1.desc).map (fun d => d.parameters.length) = some 1 := by decide +kernel
abbrev mX8_lambda : bM := (yX8_lambda, cX8_lambda, 5, some .int, [])
theorem hmX8_lambda : (mX8_lambda).1.cls ≠ "java/lang/invoke/MethodHandle" ∧ (mX8_lambda).1.cls ≠ "java/lang/invoke/VarHandle" ∧ (parseMethodDescriptor (mX8_lambda).1.desc).map (fun d => d.parameters.length) = some 3 := by decide +kernel
abbrev mX8_isNegative : bM := (yX8_isNegative, cX8_isNegative, 2, some .boolean, [])
theorem hmX8_isNegative : (mX8_isNegative).1.cls ≠ "java/lang/invoke/MethodHandle" ∧ (mX8_isNegative).1.cls ≠ "java/lang/invoke/VarHandle" ∧ (parseMethodDescriptor (mX8_isNegative).1.desc).map (fun d => d.parameters.length) = some 1 := by decide +kernel
abbrev mX8_ofLong : bM := (yX8_ofLong, cX8_ofLong, 3, some .int, [])
theorem hmX8_ofLong : (mX8_ofLong).1.cls ≠ "java/lang/invoke/MethodHandle" ∧ (mX8_ofLong).1.cls ≠ "java/lang/invoke/VarHandle" ∧ (parseMethodDescriptor (mX8_ofLong).1.desc).map (fun d => d.parameters.length) = some 1 := by decide +kernel
abbrev mX8_contract : bM := (yX8_contract, cX8_contract, 4, some .int, [])
theorem hmX8_contract : (mX8_contract).1.cls ≠ "java/lang/invoke/MethodHandle" ∧ (mX8_contract).1.cls ≠ "java/lang/invoke/VarHandle" ∧ (parseMethodDescriptor (mX8_contract).1.desc).map (fun d => d.parameters.length) = some 2 := by decide +kernel
abbrev mX8_operation : bM := (yX8_operation, cX8_operation, 7, some .int, [])
theorem hmX8_operation : (mX8_operation).1.cls ≠ "java/lang/invoke/MethodHandle" ∧ (mX8_operation).1.cls ≠ "java/lang/invoke/VarHandle" ∧ (parseMethodDescriptor (mX8_operation).1.desc).map (fun d => d.parameters.length) = some 5 := by decide +kernel
abbrev mX8_begin : bM := (yX8_begin, cX8_begin, 3, some .boolean, [])
theorem hmX8_begin : (mX8_begin).1.cls ≠ "java/lang/invoke/MethodHandle" ∧ (mX8_begin).1.cls ≠ "java/lang/invoke/VarHandle" ∧ (parseMethodDescriptor (mX8_begin).1.desc).map (fun d => d.parameters.length) = some 1 := by decide +kernel
abbrev mX8_toLong : bM := (yX8_toLong, cX8_toLong, 5, some .long, [])
theorem hmX8_toLong : (mX8_toLong).1.cls ≠ "java/lang/invoke/MethodHandle" ∧ (mX8_toLong).1.cls ≠ "java/lang/invoke/VarHandle" ∧ (parseMethodDescriptor (mX8_toLong).1.desc).map (fun d => d.parameters.length) = some 1 := by decide +kernel
abbrev mX9_compare : bM := (yX9_compare, cX9_compare, 5, some .int, [])
theorem hmX9_compare : (mX9_compare).1.cls ≠ "java/lang/invoke/MethodHandle" ∧ (mX9_compare).1.cls ≠ "java/lang/invoke/VarHandle" ∧ (parseMethodDescriptor (mX9_compare).1.desc).map (fun d => d.parameters.length) = some 3 := by decide +kernel
abbrev mX9_sign : bM := (yX9_sign, cX9_sign, 1, some .int, [])
theorem hmX9_sign : (mX9_sign).1.cls ≠ "java/lang/invoke/MethodHandle" ∧ (mX9_sign).1.cls ≠ "java/lang/invoke/VarHandle" ∧ (parseMethodDescriptor (mX9_sign).1.desc).map (fun d => d.parameters.length) = some 1 := by decide +kernel
abbrev mX9_bytes : bM := (yX9_bytes, cX9_bytes, 5, some .int, [])
theorem hmX9_bytes : (mX9_bytes).1.cls ≠ "java/lang/invoke/MethodHandle" ∧ (mX9_bytes).1.cls ≠ "java/lang/invoke/VarHandle" ∧ (parseMethodDescriptor (mX9_bytes).1.desc).map (fun d => d.parameters.length) = some 2 := by decide +kernel
abbrev mX9_numbers : bM := (yX9_numbers, cX9_numbers, 3, some .int, [])
theorem hmX9_numbers : (mX9_numbers).1.cls ≠ "java/lang/invoke/MethodHandle" ∧ (mX9_numbers).1.cls ≠ "java/lang/invoke/VarHandle" ∧ (parseMethodDescriptor (mX9_numbers).1.desc).map (fun d => d.parameters.length) = some 2 := by decide +kernel
end BridgeM
