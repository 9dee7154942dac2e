set_option maxRecDepth 100000
def RX1 : String := "ContractLedger"
def TX1 : u_T := fun k => match k with
  | 0 => ("ContractLedger", "coming", "[B", true)
  | 1 => ("ContractLedger", "size", "I", false)
  | 2 => ("ContractLedger", "failing", "LContractLedger$Failing;", true)
  | 3 => ("ContractLedger", "words", "LContractLedger$Word;", true)
  | 4 => ("ContractLedger", "terms", "LContractLedger$Terms;", true)
  | 5 => ("ContractLedger", "types", "LContractLedger$Types;", true)
  | 6 => ("ContractLedger", "memory", "LContractLedger$Memory;", true)
  | 7 => ("ContractLedger", "order", "LContractLedger$Order;", true)
  | 8 => ("ContractLedger", "trees", "LContractLedger$Trees;", true)
  | 9 => ("ContractLedger", "addresses", "LContractLedger$Addresses;", true)
  | 10 => ("ContractLedger", "data", "LContractLedger$Data;", true)
  | 11 => ("ContractLedger", "forms", "LContractLedger$Forms;", true)
  | 12 => ("ContractLedger", "names", "LContractLedger$Names;", true)
  | 13 => ("ContractLedger", "scripts", "LContractLedger$Scripts;", true)
  | 14 => ("ContractLedger", "typer", "LContractLedger$Typer;", true)
  | 15 => ("ContractLedger", "world", "LContractLedger$World;", true)
  | 16 => ("ContractLedger", "gas", "LContractLedger$Gas;", true)
  | 17 => ("ContractLedger", "machine", "LContractLedger$Machine;", true)
  | 18 => ("ContractLedger", "doing", "LContractLedger$Doing;", true)
  | 19 => ("ContractLedger", "product", "[B", true)
  | 20 => ("ContractLedger", "produced", "I", false)
  | 21 => ("ContractLedger", "hasBatch", "Z", false)
  | 22 => ("ContractLedger", "account", "I", false)
  | 23 => ("ContractLedger", "counter", "I", false)
  | 24 => ("ContractLedger", "fee", "J", false)
  | 25 => ("ContractLedger", "gasLimit", "I", false)
  | 26 => ("ContractLedger", "bytesLimit", "I", false)
  | 27 => ("ContractLedger", "contents", "[LContractLedger$Content;", true)
  | 28 => ("ContractLedger", "count", "I", false)
  | 29 => ("ContractLedger", "texts", "[B", true)
  | 30 => ("ContractLedger", "textTop", "I", false)
  | 31 => ("ContractLedger", "receipts", "[LContractLedger$Receipt;", true)
  | _ => ("ContractLedger", "receiptCount", "I", false)
def tyX1 : Nat → FieldType := fun k => match k with
  | 0 => .array .byte
  | 1 => .int
  | 2 => .object "ContractLedger$Failing"
  | 3 => .object "ContractLedger$Word"
  | 4 => .object "ContractLedger$Terms"
  | 5 => .object "ContractLedger$Types"
  | 6 => .object "ContractLedger$Memory"
  | 7 => .object "ContractLedger$Order"
  | 8 => .object "ContractLedger$Trees"
  | 9 => .object "ContractLedger$Addresses"
  | 10 => .object "ContractLedger$Data"
  | 11 => .object "ContractLedger$Forms"
  | 12 => .object "ContractLedger$Names"
  | 13 => .object "ContractLedger$Scripts"
  | 14 => .object "ContractLedger$Typer"
  | 15 => .object "ContractLedger$World"
  | 16 => .object "ContractLedger$Gas"
  | 17 => .object "ContractLedger$Machine"
  | 18 => .object "ContractLedger$Doing"
  | 19 => .array .byte
  | 20 => .int
  | 21 => .boolean
  | 22 => .int
  | 23 => .int
  | 24 => .long
  | 25 => .int
  | 26 => .int
  | 27 => .array (.object "ContractLedger$Content")
  | 28 => .int
  | 29 => .array .byte
  | 30 => .int
  | 31 => .array (.object "ContractLedger$Receipt")
  | _ => .int
abbrev wsX10 : List Cond := u_ws RX1 TX1 33
set_option maxRecDepth 100000 in
theorem nmX1 : ∀ a, a < 33 → ∀ b, b < 33 → a ≠ b → (TX1 a).2.1 ≠ (TX1 b).2.1 := by decide +kernel
set_option maxRecDepth 100000 in
theorem tyX1_ok : ∀ k, k < 33 → parseFieldDescriptor (TX1 k).2.2.1 = some (tyX1 k) := by decide +kernel
def RX2 : String := "ContractLedger$Failing"
def TX2 : u_T := fun k => match k with
  | 0 => ("ContractLedger$Failing", "why", "I", false)
  | _ => ("ContractLedger$Failing", "stop", "Ljava/lang/IllegalStateException;", true)
def tyX2 : Nat → FieldType := fun k => match k with
  | 0 => .int
  | _ => .object "java/lang/IllegalStateException"
abbrev wsX20 : List Cond := u_ws RX2 TX2 2
theorem nmX2 : ∀ a, a < 2 → ∀ b, b < 2 → a ≠ b → (TX2 a).2.1 ≠ (TX2 b).2.1 := by decide +kernel
theorem tyX2_ok : ∀ k, k < 2 → parseFieldDescriptor (TX2 k).2.2.1 = some (tyX2 k) := by decide +kernel
def RX3 : String := "ContractLedger$Word"
def TX3 : u_T := fun k => match k with
  | 0 => ("ContractLedger$Word", "starts", "[I", true)
  | _ => ("ContractLedger$Word", "count", "I", false)
def tyX3 : Nat → FieldType := fun k => match k with
  | 0 => .array .int
  | _ => .int
abbrev wsX30 : List Cond := u_ws RX3 TX3 2
theorem nmX3 : ∀ a, a < 2 → ∀ b, b < 2 → a ≠ b → (TX3 a).2.1 ≠ (TX3 b).2.1 := by decide +kernel
theorem tyX3_ok : ∀ k, k < 2 → parseFieldDescriptor (TX3 k).2.2.1 = some (tyX3 k) := by decide +kernel
def RX4 : String := "ContractLedger$Terms"
def TX4 : u_T := fun k => match k with
  | 0 => ("ContractLedger$Terms", "words", "LContractLedger$Word;", true)
  | 1 => ("ContractLedger$Terms", "tokens", "LContractLedger$Tokens;", true)
  | 2 => ("ContractLedger$Terms", "number", "LContractLedger$Whole;", true)
  | 3 => ("ContractLedger$Terms", "kinds", "[B", true)
  | 4 => ("ContractLedger$Terms", "names", "[B", true)
  | 5 => ("ContractLedger$Terms", "starts", "[I", true)
  | 6 => ("ContractLedger$Terms", "ends", "[I", true)
  | 7 => ("ContractLedger$Terms", "marks", "[I", true)
  | 8 => ("ContractLedger$Terms", "markEnds", "[I", true)
  | 9 => ("ContractLedger$Terms", "firsts", "[I", true)
  | 10 => ("ContractLedger$Terms", "nexts", "[I", true)
  | 11 => ("ContractLedger$Terms", "counts", "[I", true)
  | 12 => ("ContractLedger$Terms", "count", "I", false)
  | _ => ("ContractLedger$Terms", "wrong", "I", false)
def tyX4 : Nat → FieldType := fun k => match k with
  | 0 => .object "ContractLedger$Word"
  | 1 => .object "ContractLedger$Tokens"
  | 2 => .object "ContractLedger$Whole"
  | 3 => .array .byte
  | 4 => .array .byte
  | 5 => .array .int
  | 6 => .array .int
  | 7 => .array .int
  | 8 => .array .int
  | 9 => .array .int
  | 10 => .array .int
  | 11 => .array .int
  | 12 => .int
  | _ => .int
abbrev wsX40 : List Cond := u_ws RX4 TX4 14
set_option maxRecDepth 100000 in
theorem nmX4 : ∀ a, a < 14 → ∀ b, b < 14 → a ≠ b → (TX4 a).2.1 ≠ (TX4 b).2.1 := by decide +kernel
set_option maxRecDepth 100000 in
theorem tyX4_ok : ∀ k, k < 14 → parseFieldDescriptor (TX4 k).2.2.1 = some (tyX4 k) := by decide +kernel
def RX5 : String := "ContractLedger$Tokens"
def TX5 : u_T := fun k => match k with
  | 0 => ("ContractLedger$Tokens", "text", "[B", false)
  | 1 => ("ContractLedger$Tokens", "length", "I", false)
  | 2 => ("ContractLedger$Tokens", "kind", "I", false)
  | 3 => ("ContractLedger$Tokens", "start", "I", false)
  | _ => ("ContractLedger$Tokens", "end", "I", false)
def tyX5 : Nat → FieldType := fun k => match k with
  | 0 => .array .byte
  | 1 => .int
  | 2 => .int
  | 3 => .int
  | _ => .int
abbrev wsX50 : List Cond := u_ws RX5 TX5 5
theorem nmX5 : ∀ a, a < 5 → ∀ b, b < 5 → a ≠ b → (TX5 a).2.1 ≠ (TX5 b).2.1 := by decide +kernel
theorem tyX5_ok : ∀ k, k < 5 → parseFieldDescriptor (TX5 k).2.2.1 = some (tyX5 k) := by decide +kernel
def RX6 : String := "ContractLedger$Whole"
def TX6 : u_T := fun k => match k with
  | 0 => ("ContractLedger$Whole", "digits", "[I", true)
  | 1 => ("ContractLedger$Whole", "count", "I", false)
  | _ => ("ContractLedger$Whole", "negative", "Z", false)
def tyX6 : Nat → FieldType := fun k => match k with
  | 0 => .array .int
  | 1 => .int
  | _ => .boolean
abbrev wsX60 : List Cond := u_ws RX6 TX6 3
theorem nmX6 : ∀ a, a < 3 → ∀ b, b < 3 → a ≠ b → (TX6 a).2.1 ≠ (TX6 b).2.1 := by decide +kernel
theorem tyX6_ok : ∀ k, k < 3 → parseFieldDescriptor (TX6 k).2.2.1 = some (tyX6 k) := by decide +kernel
def RX7 : String := "ContractLedger$Types"
def TX7 : u_T := fun k => match k with
  | 0 => ("ContractLedger$Types", "words", "[B", true)
  | 1 => ("ContractLedger$Types", "lefts", "[I", true)
  | 2 => ("ContractLedger$Types", "rights", "[I", true)
  | 3 => ("ContractLedger$Types", "parts", "[S", true)
  | 4 => ("ContractLedger$Types", "marks", "[B", true)
  | 5 => ("ContractLedger$Types", "others", "[I", true)
  | 6 => ("ContractLedger$Types", "buckets", "[I", true)
  | _ => ("ContractLedger$Types", "count", "I", false)
def tyX7 : Nat → FieldType := fun k => match k with
  | 0 => .array .byte
  | 1 => .array .int
  | 2 => .array .int
  | 3 => .array .short
  | 4 => .array .byte
  | 5 => .array .int
  | 6 => .array .int
  | _ => .int
abbrev wsX70 : List Cond := u_ws RX7 TX7 8
theorem nmX7 : ∀ a, a < 8 → ∀ b, b < 8 → a ≠ b → (TX7 a).2.1 ≠ (TX7 b).2.1 := by decide +kernel
theorem tyX7_ok : ∀ k, k < 8 → parseFieldDescriptor (TX7 k).2.2.1 = some (tyX7 k) := by decide +kernel
def RX8 : String := "ContractLedger$Memory"
def TX8 : u_T := fun k => match k with
  | 0 => ("ContractLedger$Memory", "space", "[I", false)
  | 1 => ("ContractLedger$Memory", "other", "[I", false)
  | 2 => ("ContractLedger$Memory", "top", "I", false)
  | 3 => ("ContractLedger$Memory", "fixed", "[I", true)
  | 4 => ("ContractLedger$Memory", "fixedTop", "I", false)
  | 5 => ("ContractLedger$Memory", "stays", "Z", false)
  | 6 => ("ContractLedger$Memory", "failing", "LContractLedger$Failing;", true)
  | _ => ("ContractLedger$Memory", "number", "LContractLedger$Whole;", true)
def tyX8 : Nat → FieldType := fun k => match k with
  | 0 => .array .int
  | 1 => .array .int
  | 2 => .int
  | 3 => .array .int
  | 4 => .int
  | 5 => .boolean
  | 6 => .object "ContractLedger$Failing"
  | _ => .object "ContractLedger$Whole"
abbrev wsX80 : List Cond := u_ws RX8 TX8 8
theorem nmX8 : ∀ a, a < 8 → ∀ b, b < 8 → a ≠ b → (TX8 a).2.1 ≠ (TX8 b).2.1 := by decide +kernel
theorem tyX8_ok : ∀ k, k < 8 → parseFieldDescriptor (TX8 k).2.2.1 = some (tyX8 k) := by decide +kernel
def RX9 : String := "ContractLedger$Order"
def TX9 : u_T := fun k => match k with
  | 0 => ("ContractLedger$Order", "memory", "LContractLedger$Memory;", true)
  | 1 => ("ContractLedger$Order", "types", "LContractLedger$Types;", true)
  | 2 => ("ContractLedger$Order", "left", "LContractLedger$Whole;", true)
  | _ => ("ContractLedger$Order", "right", "LContractLedger$Whole;", true)
def tyX9 : Nat → FieldType := fun k => match k with
  | 0 => .object "ContractLedger$Memory"
  | 1 => .object "ContractLedger$Types"
  | 2 => .object "ContractLedger$Whole"
  | _ => .object "ContractLedger$Whole"
abbrev wsX90 : List Cond := u_ws RX9 TX9 4
theorem nmX9 : ∀ a, a < 4 → ∀ b, b < 4 → a ≠ b → (TX9 a).2.1 ≠ (TX9 b).2.1 := by decide +kernel
theorem tyX9_ok : ∀ k, k < 4 → parseFieldDescriptor (TX9 k).2.2.1 = some (tyX9 k) := by decide +kernel
def RX10 : String := "ContractLedger$Trees"
def TX10 : u_T := fun k => match k with
  | 0 => ("ContractLedger$Trees", "memory", "LContractLedger$Memory;", true)
  | _ => ("ContractLedger$Trees", "order", "LContractLedger$Order;", true)
def tyX10 : Nat → FieldType := fun k => match k with
  | 0 => .object "ContractLedger$Memory"
  | _ => .object "ContractLedger$Order"
abbrev wsX100 : List Cond := u_ws RX10 TX10 2
theorem nmX10 : ∀ a, a < 2 → ∀ b, b < 2 → a ≠ b → (TX10 a).2.1 ≠ (TX10 b).2.1 := by decide +kernel
theorem tyX10_ok : ∀ k, k < 2 → parseFieldDescriptor (TX10 k).2.2.1 = some (tyX10 k) := by decide +kernel
def RX11 : String := "ContractLedger$Addresses"
def TX11 : u_T := fun k => match k with
  | 0 => ("ContractLedger$Addresses", "mark", "I", false)
  | _ => ("ContractLedger$Addresses", "text", "[B", true)
def tyX11 : Nat → FieldType := fun k => match k with
  | 0 => .int
  | _ => .array .byte
abbrev wsX110 : List Cond := u_ws RX11 TX11 2
theorem nmX11 : ∀ a, a < 2 → ∀ b, b < 2 → a ≠ b → (TX11 a).2.1 ≠ (TX11 b).2.1 := by decide +kernel
theorem tyX11_ok : ∀ k, k < 2 → parseFieldDescriptor (TX11 k).2.2.1 = some (tyX11 k) := by decide +kernel
def RX12 : String := "ContractLedger$Data"
def TX12 : u_T := fun k => match k with
  | 0 => ("ContractLedger$Data", "terms", "LContractLedger$Terms;", true)
  | 1 => ("ContractLedger$Data", "types", "LContractLedger$Types;", true)
  | 2 => ("ContractLedger$Data", "memory", "LContractLedger$Memory;", true)
  | 3 => ("ContractLedger$Data", "order", "LContractLedger$Order;", true)
  | 4 => ("ContractLedger$Data", "trees", "LContractLedger$Trees;", true)
  | 5 => ("ContractLedger$Data", "addresses", "LContractLedger$Addresses;", true)
  | 6 => ("ContractLedger$Data", "number", "LContractLedger$Whole;", true)
  | 7 => ("ContractLedger$Data", "bytes", "[B", true)
  | 8 => ("ContractLedger$Data", "count", "I", false)
  | 9 => ("ContractLedger$Data", "row", "[I", true)
  | _ => ("ContractLedger$Data", "rowTop", "I", false)
def tyX12 : Nat → FieldType := fun k => match k with
  | 0 => .object "ContractLedger$Terms"
  | 1 => .object "ContractLedger$Types"
  | 2 => .object "ContractLedger$Memory"
  | 3 => .object "ContractLedger$Order"
  | 4 => .object "ContractLedger$Trees"
  | 5 => .object "ContractLedger$Addresses"
  | 6 => .object "ContractLedger$Whole"
  | 7 => .array .byte
  | 8 => .int
  | 9 => .array .int
  | _ => .int
abbrev wsX120 : List Cond := u_ws RX12 TX12 11
theorem nmX12 : ∀ a, a < 11 → ∀ b, b < 11 → a ≠ b → (TX12 a).2.1 ≠ (TX12 b).2.1 := by decide +kernel
theorem tyX12_ok : ∀ k, k < 11 → parseFieldDescriptor (TX12 k).2.2.1 = some (tyX12 k) := by decide +kernel
def RX13 : String := "ContractLedger$Forms"
def TX13 : u_T := fun k => match k with
  | 0 => ("ContractLedger$Forms", "types", "LContractLedger$Types;", true)
  | 1 => ("ContractLedger$Forms", "memory", "LContractLedger$Memory;", true)
  | 2 => ("ContractLedger$Forms", "order", "LContractLedger$Order;", true)
  | 3 => ("ContractLedger$Forms", "trees", "LContractLedger$Trees;", true)
  | 4 => ("ContractLedger$Forms", "addresses", "LContractLedger$Addresses;", true)
  | 5 => ("ContractLedger$Forms", "number", "LContractLedger$Whole;", true)
  | 6 => ("ContractLedger$Forms", "to", "[B", false)
  | 7 => ("ContractLedger$Forms", "size", "I", false)
  | 8 => ("ContractLedger$Forms", "from", "I", false)
  | 9 => ("ContractLedger$Forms", "at", "I", false)
  | 10 => ("ContractLedger$Forms", "end", "I", false)
  | 11 => ("ContractLedger$Forms", "row", "[I", true)
  | _ => ("ContractLedger$Forms", "rowTop", "I", false)
def tyX13 : Nat → FieldType := fun k => match k with
  | 0 => .object "ContractLedger$Types"
  | 1 => .object "ContractLedger$Memory"
  | 2 => .object "ContractLedger$Order"
  | 3 => .object "ContractLedger$Trees"
  | 4 => .object "ContractLedger$Addresses"
  | 5 => .object "ContractLedger$Whole"
  | 6 => .array .byte
  | 7 => .int
  | 8 => .int
  | 9 => .int
  | 10 => .int
  | 11 => .array .int
  | _ => .int
abbrev wsX130 : List Cond := u_ws RX13 TX13 13
set_option maxRecDepth 100000 in
theorem nmX13 : ∀ a, a < 13 → ∀ b, b < 13 → a ≠ b → (TX13 a).2.1 ≠ (TX13 b).2.1 := by decide +kernel
set_option maxRecDepth 100000 in
theorem tyX13_ok : ∀ k, k < 13 → parseFieldDescriptor (TX13 k).2.2.1 = some (tyX13 k) := by decide +kernel
def RX14 : String := "ContractLedger$Names"
def TX14 : u_T := fun k => match k with
  | 0 => ("ContractLedger$Names", "bytes", "[B", true)
  | 1 => ("ContractLedger$Names", "starts", "[I", true)
  | _ => ("ContractLedger$Names", "count", "I", false)
def tyX14 : Nat → FieldType := fun k => match k with
  | 0 => .array .byte
  | 1 => .array .int
  | _ => .int
abbrev wsX140 : List Cond := u_ws RX14 TX14 3
theorem nmX14 : ∀ a, a < 3 → ∀ b, b < 3 → a ≠ b → (TX14 a).2.1 ≠ (TX14 b).2.1 := by decide +kernel
theorem tyX14_ok : ∀ k, k < 3 → parseFieldDescriptor (TX14 k).2.2.1 = some (tyX14 k) := by decide +kernel
def RX15 : String := "ContractLedger$Scripts"
def TX15 : u_T := fun k => match k with
  | 0 => ("ContractLedger$Scripts", "parameters", "[I", true)
  | 1 => ("ContractLedger$Scripts", "storages", "[I", true)
  | 2 => ("ContractLedger$Scripts", "codes", "[I", true)
  | 3 => ("ContractLedger$Scripts", "firsts", "[I", true)
  | 4 => ("ContractLedger$Scripts", "terms", "[I", true)
  | 5 => ("ContractLedger$Scripts", "bytes", "[I", true)
  | 6 => ("ContractLedger$Scripts", "count", "I", false)
  | 7 => ("ContractLedger$Scripts", "names", "[I", true)
  | 8 => ("ContractLedger$Scripts", "types", "[I", true)
  | 9 => ("ContractLedger$Scripts", "ways", "[J", true)
  | 10 => ("ContractLedger$Scripts", "depths", "[B", true)
  | 11 => ("ContractLedger$Scripts", "entries", "I", false)
  | 12 => ("ContractLedger$Scripts", "code", "[I", true)
  | _ => ("ContractLedger$Scripts", "top", "I", false)
def tyX15 : Nat → FieldType := fun k => match k with
  | 0 => .array .int
  | 1 => .array .int
  | 2 => .array .int
  | 3 => .array .int
  | 4 => .array .int
  | 5 => .array .int
  | 6 => .int
  | 7 => .array .int
  | 8 => .array .int
  | 9 => .array .long
  | 10 => .array .byte
  | 11 => .int
  | 12 => .array .int
  | _ => .int
abbrev wsX150 : List Cond := u_ws RX15 TX15 14
set_option maxRecDepth 100000 in
theorem nmX15 : ∀ a, a < 14 → ∀ b, b < 14 → a ≠ b → (TX15 a).2.1 ≠ (TX15 b).2.1 := by decide +kernel
set_option maxRecDepth 100000 in
theorem tyX15_ok : ∀ k, k < 14 → parseFieldDescriptor (TX15 k).2.2.1 = some (tyX15 k) := by decide +kernel
def RX16 : String := "ContractLedger$Typer"
def TX16 : u_T := fun k => match k with
  | 0 => ("ContractLedger$Typer", "terms", "LContractLedger$Terms;", true)
  | 1 => ("ContractLedger$Typer", "types", "LContractLedger$Types;", true)
  | 2 => ("ContractLedger$Typer", "names", "LContractLedger$Names;", true)
  | 3 => ("ContractLedger$Typer", "scripts", "LContractLedger$Scripts;", true)
  | 4 => ("ContractLedger$Typer", "data", "LContractLedger$Data;", true)
  | 5 => ("ContractLedger$Typer", "memory", "LContractLedger$Memory;", true)
  | 6 => ("ContractLedger$Typer", "number", "LContractLedger$Whole;", true)
  | 7 => ("ContractLedger$Typer", "stack", "[I", true)
  | 8 => ("ContractLedger$Typer", "height", "I", false)
  | 9 => ("ContractLedger$Typer", "aside", "[I", true)
  | 10 => ("ContractLedger$Typer", "asideTop", "I", false)
  | 11 => ("ContractLedger$Typer", "ended", "Z", false)
  | 12 => ("ContractLedger$Typer", "last", "I", false)
  | 13 => ("ContractLedger$Typer", "script", "I", false)
  | 14 => ("ContractLedger$Typer", "lambdas", "I", false)
  | 15 => ("ContractLedger$Typer", "place", "I", false)
  | _ => ("ContractLedger$Typer", "kind", "I", false)
def tyX16 : Nat → FieldType := fun k => match k with
  | 0 => .object "ContractLedger$Terms"
  | 1 => .object "ContractLedger$Types"
  | 2 => .object "ContractLedger$Names"
  | 3 => .object "ContractLedger$Scripts"
  | 4 => .object "ContractLedger$Data"
  | 5 => .object "ContractLedger$Memory"
  | 6 => .object "ContractLedger$Whole"
  | 7 => .array .int
  | 8 => .int
  | 9 => .array .int
  | 10 => .int
  | 11 => .boolean
  | 12 => .int
  | 13 => .int
  | 14 => .int
  | 15 => .int
  | _ => .int
abbrev wsX160 : List Cond := u_ws RX16 TX16 17
set_option maxRecDepth 100000 in
theorem nmX16 : ∀ a, a < 17 → ∀ b, b < 17 → a ≠ b → (TX16 a).2.1 ≠ (TX16 b).2.1 := by decide +kernel
set_option maxRecDepth 100000 in
theorem tyX16_ok : ∀ k, k < 17 → parseFieldDescriptor (TX16 k).2.2.1 = some (tyX16 k) := by decide +kernel
def RX17 : String := "ContractLedger$World"
def TX17 : u_T := fun k => match k with
  | 0 => ("ContractLedger$World", "balances", "[J", true)
  | 1 => ("ContractLedger$World", "exists", "[Z", true)
  | 2 => ("ContractLedger$World", "scripts", "[I", true)
  | 3 => ("ContractLedger$World", "storages", "[I", true)
  | 4 => ("ContractLedger$World", "paid", "[I", true)
  | 5 => ("ContractLedger$World", "counters", "[I", true)
  | 6 => ("ContractLedger$World", "accounts", "I", false)
  | 7 => ("ContractLedger$World", "next", "I", false)
  | 8 => ("ContractLedger$World", "stored", "I", false)
  | 9 => ("ContractLedger$World", "collected", "J", false)
  | 10 => ("ContractLedger$World", "burnt", "J", false)
  | 11 => ("ContractLedger$World", "made", "J", false)
  | 12 => ("ContractLedger$World", "time", "J", false)
  | 13 => ("ContractLedger$World", "level", "I", false)
  | 14 => ("ContractLedger$World", "oldBalances", "[J", true)
  | 15 => ("ContractLedger$World", "oldExists", "[Z", true)
  | 16 => ("ContractLedger$World", "oldScripts", "[I", true)
  | 17 => ("ContractLedger$World", "oldStorages", "[I", true)
  | 18 => ("ContractLedger$World", "oldPaid", "[I", true)
  | 19 => ("ContractLedger$World", "oldNext", "I", false)
  | 20 => ("ContractLedger$World", "oldStored", "I", false)
  | _ => ("ContractLedger$World", "oldBurnt", "J", false)
def tyX17 : Nat → FieldType := fun k => match k with
  | 0 => .array .long
  | 1 => .array .boolean
  | 2 => .array .int
  | 3 => .array .int
  | 4 => .array .int
  | 5 => .array .int
  | 6 => .int
  | 7 => .int
  | 8 => .int
  | 9 => .long
  | 10 => .long
  | 11 => .long
  | 12 => .long
  | 13 => .int
  | 14 => .array .long
  | 15 => .array .boolean
  | 16 => .array .int
  | 17 => .array .int
  | 18 => .array .int
  | 19 => .int
  | 20 => .int
  | _ => .long
abbrev wsX170 : List Cond := u_ws RX17 TX17 22
set_option maxRecDepth 100000 in
theorem nmX17 : ∀ a, a < 22 → ∀ b, b < 22 → a ≠ b → (TX17 a).2.1 ≠ (TX17 b).2.1 := by decide +kernel
set_option maxRecDepth 100000 in
theorem tyX17_ok : ∀ k, k < 22 → parseFieldDescriptor (TX17 k).2.2.1 = some (tyX17 k) := by decide +kernel
def RX18 : String := "ContractLedger$Gas"
def TX18 : u_T := fun k => match k with
  | 0 => ("ContractLedger$Gas", "failing", "LContractLedger$Failing;", true)
  | 1 => ("ContractLedger$Gas", "limit", "I", false)
  | _ => ("ContractLedger$Gas", "used", "I", false)
def tyX18 : Nat → FieldType := fun k => match k with
  | 0 => .object "ContractLedger$Failing"
  | 1 => .int
  | _ => .int
abbrev wsX180 : List Cond := u_ws RX18 TX18 3
theorem nmX18 : ∀ a, a < 3 → ∀ b, b < 3 → a ≠ b → (TX18 a).2.1 ≠ (TX18 b).2.1 := by decide +kernel
theorem tyX18_ok : ∀ k, k < 3 → parseFieldDescriptor (TX18 k).2.2.1 = some (tyX18 k) := by decide +kernel
def RX19 : String := "ContractLedger$Machine"
def TX19 : u_T := fun k => match k with
  | 0 => ("ContractLedger$Machine", "memory", "LContractLedger$Memory;", true)
  | 1 => ("ContractLedger$Machine", "types", "LContractLedger$Types;", true)
  | 2 => ("ContractLedger$Machine", "scripts", "LContractLedger$Scripts;", true)
  | 3 => ("ContractLedger$Machine", "names", "LContractLedger$Names;", true)
  | 4 => ("ContractLedger$Machine", "order", "LContractLedger$Order;", true)
  | 5 => ("ContractLedger$Machine", "trees", "LContractLedger$Trees;", true)
  | 6 => ("ContractLedger$Machine", "forms", "LContractLedger$Forms;", true)
  | 7 => ("ContractLedger$Machine", "addresses", "LContractLedger$Addresses;", true)
  | 8 => ("ContractLedger$Machine", "world", "LContractLedger$World;", true)
  | 9 => ("ContractLedger$Machine", "failing", "LContractLedger$Failing;", true)
  | 10 => ("ContractLedger$Machine", "gas", "LContractLedger$Gas;", true)
  | 11 => ("ContractLedger$Machine", "reckoner", "LContractLedger$Reckoner;", true)
  | 12 => ("ContractLedger$Machine", "left", "LContractLedger$Whole;", true)
  | 13 => ("ContractLedger$Machine", "right", "LContractLedger$Whole;", true)
  | 14 => ("ContractLedger$Machine", "made", "LContractLedger$Whole;", true)
  | 15 => ("ContractLedger$Machine", "rest", "LContractLedger$Whole;", true)
  | 16 => ("ContractLedger$Machine", "values", "[I", true)
  | 17 => ("ContractLedger$Machine", "top", "I", false)
  | 18 => ("ContractLedger$Machine", "aside", "[I", true)
  | 19 => ("ContractLedger$Machine", "asideTop", "I", false)
  | 20 => ("ContractLedger$Machine", "frames", "[I", true)
  | 21 => ("ContractLedger$Machine", "frameTop", "I", false)
  | 22 => ("ContractLedger$Machine", "pc", "I", false)
  | 23 => ("ContractLedger$Machine", "packed", "[B", true)
  | 24 => ("ContractLedger$Machine", "row", "[I", true)
  | 25 => ("ContractLedger$Machine", "self", "I", false)
  | 26 => ("ContractLedger$Machine", "sender", "I", false)
  | 27 => ("ContractLedger$Machine", "source", "I", false)
  | 28 => ("ContractLedger$Machine", "amount", "J", false)
  | 29 => ("ContractLedger$Machine", "balance", "J", false)
  | 30 => ("ContractLedger$Machine", "failed", "I", false)
  | _ => ("ContractLedger$Machine", "failedType", "I", false)
def tyX19 : Nat → FieldType := fun k => match k with
  | 0 => .object "ContractLedger$Memory"
  | 1 => .object "ContractLedger$Types"
  | 2 => .object "ContractLedger$Scripts"
  | 3 => .object "ContractLedger$Names"
  | 4 => .object "ContractLedger$Order"
  | 5 => .object "ContractLedger$Trees"
  | 6 => .object "ContractLedger$Forms"
  | 7 => .object "ContractLedger$Addresses"
  | 8 => .object "ContractLedger$World"
  | 9 => .object "ContractLedger$Failing"
  | 10 => .object "ContractLedger$Gas"
  | 11 => .object "ContractLedger$Reckoner"
  | 12 => .object "ContractLedger$Whole"
  | 13 => .object "ContractLedger$Whole"
  | 14 => .object "ContractLedger$Whole"
  | 15 => .object "ContractLedger$Whole"
  | 16 => .array .int
  | 17 => .int
  | 18 => .array .int
  | 19 => .int
  | 20 => .array .int
  | 21 => .int
  | 22 => .int
  | 23 => .array .byte
  | 24 => .array .int
  | 25 => .int
  | 26 => .int
  | 27 => .int
  | 28 => .long
  | 29 => .long
  | 30 => .int
  | _ => .int
abbrev wsX190 : List Cond := u_ws RX19 TX19 32
set_option maxRecDepth 100000 in
theorem nmX19 : ∀ a, a < 32 → ∀ b, b < 32 → a ≠ b → (TX19 a).2.1 ≠ (TX19 b).2.1 := by decide +kernel
set_option maxRecDepth 100000 in
theorem tyX19_ok : ∀ k, k < 32 → parseFieldDescriptor (TX19 k).2.2.1 = some (tyX19 k) := by decide +kernel
def RX20 : String := "ContractLedger$Reckoner"
def TX20 : u_T := fun k => match k with
  | 0 => ("ContractLedger$Reckoner", "rest", "[I", true)
  | 1 => ("ContractLedger$Reckoner", "by", "[I", true)
  | _ => ("ContractLedger$Reckoner", "three", "LContractLedger$Whole;", true)
def tyX20 : Nat → FieldType := fun k => match k with
  | 0 => .array .int
  | 1 => .array .int
  | _ => .object "ContractLedger$Whole"
abbrev wsX200 : List Cond := u_ws RX20 TX20 3
theorem nmX20 : ∀ a, a < 3 → ∀ b, b < 3 → a ≠ b → (TX20 a).2.1 ≠ (TX20 b).2.1 := by decide +kernel
theorem tyX20_ok : ∀ k, k < 3 → parseFieldDescriptor (TX20 k).2.2.1 = some (tyX20 k) := by decide +kernel
def RX22 : String := "ContractLedger$Doing"
def TX22 : u_T := fun k => match k with
  | 0 => ("ContractLedger$Doing", "terms", "LContractLedger$Terms;", true)
  | 1 => ("ContractLedger$Doing", "types", "LContractLedger$Types;", true)
  | 2 => ("ContractLedger$Doing", "names", "LContractLedger$Names;", true)
  | 3 => ("ContractLedger$Doing", "scripts", "LContractLedger$Scripts;", true)
  | 4 => ("ContractLedger$Doing", "typer", "LContractLedger$Typer;", true)
  | 5 => ("ContractLedger$Doing", "data", "LContractLedger$Data;", true)
  | 6 => ("ContractLedger$Doing", "memory", "LContractLedger$Memory;", true)
  | 7 => ("ContractLedger$Doing", "forms", "LContractLedger$Forms;", true)
  | 8 => ("ContractLedger$Doing", "world", "LContractLedger$World;", true)
  | 9 => ("ContractLedger$Doing", "failing", "LContractLedger$Failing;", true)
  | 10 => ("ContractLedger$Doing", "gas", "LContractLedger$Gas;", true)
  | 11 => ("ContractLedger$Doing", "machine", "LContractLedger$Machine;", true)
  | 12 => ("ContractLedger$Doing", "text", "[B", true)
  | 13 => ("ContractLedger$Doing", "failed", "[B", true)
  | 14 => ("ContractLedger$Doing", "failedSize", "I", false)
  | 15 => ("ContractLedger$Doing", "place", "I", false)
  | 16 => ("ContractLedger$Doing", "account", "I", false)
  | 17 => ("ContractLedger$Doing", "content", "LContractLedger$Content;", false)
  | 18 => ("ContractLedger$Doing", "receipt", "LContractLedger$Receipt;", false)
  | 19 => ("ContractLedger$Doing", "lists", "[I", true)
  | 20 => ("ContractLedger$Doing", "sources", "[I", true)
  | 21 => ("ContractLedger$Doing", "listTop", "I", false)
  | 22 => ("ContractLedger$Doing", "oldTypes", "I", false)
  | 23 => ("ContractLedger$Doing", "oldNames", "I", false)
  | 24 => ("ContractLedger$Doing", "oldScripts", "I", false)
  | 25 => ("ContractLedger$Doing", "oldEntries", "I", false)
  | 26 => ("ContractLedger$Doing", "oldCode", "I", false)
  | _ => ("ContractLedger$Doing", "oldFixed", "I", false)
def tyX22 : Nat → FieldType := fun k => match k with
  | 0 => .object "ContractLedger$Terms"
  | 1 => .object "ContractLedger$Types"
  | 2 => .object "ContractLedger$Names"
  | 3 => .object "ContractLedger$Scripts"
  | 4 => .object "ContractLedger$Typer"
  | 5 => .object "ContractLedger$Data"
  | 6 => .object "ContractLedger$Memory"
  | 7 => .object "ContractLedger$Forms"
  | 8 => .object "ContractLedger$World"
  | 9 => .object "ContractLedger$Failing"
  | 10 => .object "ContractLedger$Gas"
  | 11 => .object "ContractLedger$Machine"
  | 12 => .array .byte
  | 13 => .array .byte
  | 14 => .int
  | 15 => .int
  | 16 => .int
  | 17 => .object "ContractLedger$Content"
  | 18 => .object "ContractLedger$Receipt"
  | 19 => .array .int
  | 20 => .array .int
  | 21 => .int
  | 22 => .int
  | 23 => .int
  | 24 => .int
  | 25 => .int
  | 26 => .int
  | _ => .int
abbrev wsX220 : List Cond := u_ws RX22 TX22 28
set_option maxRecDepth 100000 in
theorem nmX22 : ∀ a, a < 28 → ∀ b, b < 28 → a ≠ b → (TX22 a).2.1 ≠ (TX22 b).2.1 := by decide +kernel
set_option maxRecDepth 100000 in
theorem tyX22_ok : ∀ k, k < 28 → parseFieldDescriptor (TX22 k).2.2.1 = some (tyX22 k) := by decide +kernel
def RX23 : String := "ContractLedger$Content"
def TX23 : u_T := fun k => match k with
  | 0 => ("ContractLedger$Content", "origination", "Z", false)
  | 1 => ("ContractLedger$Content", "fee", "J", false)
  | 2 => ("ContractLedger$Content", "gas", "I", false)
  | 3 => ("ContractLedger$Content", "bytes", "I", false)
  | 4 => ("ContractLedger$Content", "amount", "J", false)
  | 5 => ("ContractLedger$Content", "start", "I", false)
  | _ => ("ContractLedger$Content", "end", "I", false)
def tyX23 : Nat → FieldType := fun k => match k with
  | 0 => .boolean
  | 1 => .long
  | 2 => .int
  | 3 => .int
  | 4 => .long
  | 5 => .int
  | _ => .int
abbrev wsX230 : List Cond := u_ws RX23 TX23 7
theorem nmX23 : ∀ a, a < 7 → ∀ b, b < 7 → a ≠ b → (TX23 a).2.1 ≠ (TX23 b).2.1 := by decide +kernel
theorem tyX23_ok : ∀ k, k < 7 → parseFieldDescriptor (TX23 k).2.2.1 = some (tyX23 k) := by decide +kernel
def RX24 : String := "ContractLedger$Receipt"
def TX24 : u_T := fun k => match k with
  | 0 => ("ContractLedger$Receipt", "what", "I", false)
  | 1 => ("ContractLedger$Receipt", "why", "I", false)
  | 2 => ("ContractLedger$Receipt", "gas", "I", false)
  | 3 => ("ContractLedger$Receipt", "operations", "I", false)
  | 4 => ("ContractLedger$Receipt", "bytes", "I", false)
  | _ => ("ContractLedger$Receipt", "contract", "I", false)
def tyX24 : Nat → FieldType := fun k => match k with
  | 0 => .int
  | 1 => .int
  | 2 => .int
  | 3 => .int
  | 4 => .int
  | _ => .int
abbrev wsX240 : List Cond := u_ws RX24 TX24 6
theorem nmX24 : ∀ a, a < 6 → ∀ b, b < 6 → a ≠ b → (TX24 a).2.1 ≠ (TX24 b).2.1 := by decide +kernel
theorem tyX24_ok : ∀ k, k < 6 → parseFieldDescriptor (TX24 k).2.2.1 = some (tyX24 k) := by decide +kernel
def RX25 : String := "ContractLedgerModel"
def TX25 : u_T := fun k => match k with
  | 0 => ("ContractLedgerModel", "heap", "[I", false)
  | 1 => ("ContractLedgerModel", "other", "[I", false)
  | 2 => ("ContractLedgerModel", "top", "I", false)
  | 3 => ("ContractLedgerModel", "stack", "[I", true)
  | 4 => ("ContractLedgerModel", "height", "I", false)
  | 5 => ("ContractLedgerModel", "aside", "[I", true)
  | 6 => ("ContractLedgerModel", "asides", "I", false)
  | 7 => ("ContractLedgerModel", "storages", "[I", true)
  | 8 => ("ContractLedgerModel", "kept", "[I", true)
  | 9 => ("ContractLedgerModel", "constants", "[I", true)
  | 10 => ("ContractLedgerModel", "pending", "[I", true)
  | 11 => ("ContractLedgerModel", "pendingFrom", "[I", true)
  | 12 => ("ContractLedgerModel", "pendings", "I", false)
  | 13 => ("ContractLedgerModel", "failed", "I", false)
  | 14 => ("ContractLedgerModel", "held", "I", false)
  | 15 => ("ContractLedgerModel", "x", "LContractLedgerModel$Num;", true)
  | 16 => ("ContractLedgerModel", "y", "LContractLedgerModel$Num;", true)
  | 17 => ("ContractLedgerModel", "z", "LContractLedgerModel$Num;", true)
  | 18 => ("ContractLedgerModel", "w", "LContractLedgerModel$Num;", true)
  | 19 => ("ContractLedgerModel", "atBlock", "I", false)
  | 20 => ("ContractLedgerModel", "atEntry", "I", false)
  | 21 => ("ContractLedgerModel", "isThere", "Z", false)
  | 22 => ("ContractLedgerModel", "laid", "[I", true)
  | 23 => ("ContractLedgerModel", "laids", "I", false)
  | 24 => ("ContractLedgerModel", "ofContract", "Z", false)
  | 25 => ("ContractLedgerModel", "partner", "I", false)
  | 26 => ("ContractLedgerModel", "markBegin", "I", false)
  | 27 => ("ContractLedgerModel", "markEnd", "I", false)
  | 28 => ("ContractLedgerModel", "addressText", "[B", true)
  | 29 => ("ContractLedgerModel", "types", "LContractLedgerModel$Types;", true)
  | 30 => ("ContractLedgerModel", "buffer", "[B", true)
  | 31 => ("ContractLedgerModel", "form", "[B", true)
  | 32 => ("ContractLedgerModel", "formSize", "I", false)
  | 33 => ("ContractLedgerModel", "formAt", "I", false)
  | 34 => ("ContractLedgerModel", "path", "[Z", true)
  | 35 => ("ContractLedgerModel", "pathLength", "I", false)
  | 36 => ("ContractLedgerModel", "defaultName", "[B", true)
  | 37 => ("ContractLedgerModel", "entryTerms", "[I", true)
  | 38 => ("ContractLedgerModel", "entryCount", "I", false)
  | 39 => ("ContractLedgerModel", "stackTypes", "[I", true)
  | 40 => ("ContractLedgerModel", "typed", "I", false)
  | 41 => ("ContractLedgerModel", "saves", "[I", true)
  | 42 => ("ContractLedgerModel", "saved", "I", false)
  | 43 => ("ContractLedgerModel", "badTerm", "I", false)
  | 44 => ("ContractLedgerModel", "parameterTerm", "I", false)
  | 45 => ("ContractLedgerModel", "parameterType", "I", false)
  | 46 => ("ContractLedgerModel", "storageType", "I", false)
  | 47 => ("ContractLedgerModel", "inLambda", "Z", false)
  | 48 => ("ContractLedgerModel", "running", "LContractLedgerModel$Terms;", true)
  | 49 => ("ContractLedgerModel", "own", "LContractLedgerModel$Terms;", true)
  | 50 => ("ContractLedgerModel", "others", "LContractLedgerModel$Terms;", true)
  | 51 => ("ContractLedgerModel", "othersOf", "I", false)
  | 52 => ("ContractLedgerModel", "frames", "[I", true)
  | 53 => ("ContractLedgerModel", "frameTop", "I", false)
  | 54 => ("ContractLedgerModel", "used", "I", false)
  | 55 => ("ContractLedgerModel", "limit", "I", false)
  | 56 => ("ContractLedgerModel", "fault", "I", false)
  | 57 => ("ContractLedgerModel", "wrongs", "I", false)
  | 58 => ("ContractLedgerModel", "operations", "I", false)
  | 59 => ("ContractLedgerModel", "wasDone", "[Z", true)
  | 60 => ("ContractLedgerModel", "self", "I", false)
  | 61 => ("ContractLedgerModel", "sent", "J", false)
  | 62 => ("ContractLedgerModel", "had", "J", false)
  | 63 => ("ContractLedgerModel", "fromContract", "Z", false)
  | 64 => ("ContractLedgerModel", "sender", "I", false)
  | 65 => ("ContractLedgerModel", "accounts", "I", false)
  | 66 => ("ContractLedgerModel", "accountMoney", "[J", true)
  | 67 => ("ContractLedgerModel", "counters", "[I", true)
  | 68 => ("ContractLedgerModel", "contracts", "I", false)
  | 69 => ("ContractLedgerModel", "there", "[Z", true)
  | 70 => ("ContractLedgerModel", "contractMoney", "[J", true)
  | 71 => ("ContractLedgerModel", "paidBytes", "[I", true)
  | 72 => ("ContractLedgerModel", "scriptAt", "[I", true)
  | 73 => ("ContractLedgerModel", "scriptSize", "[I", true)
  | 74 => ("ContractLedgerModel", "scripts", "[B", true)
  | 75 => ("ContractLedgerModel", "scriptsEnd", "I", false)
  | 76 => ("ContractLedgerModel", "made", "J", false)
  | 77 => ("ContractLedgerModel", "collected", "J", false)
  | 78 => ("ContractLedgerModel", "burnt", "J", false)
  | 79 => ("ContractLedgerModel", "time", "J", false)
  | 80 => ("ContractLedgerModel", "level", "I", false)
  | 81 => ("ContractLedgerModel", "keptAccounts", "[J", true)
  | 82 => ("ContractLedgerModel", "keptContracts", "[J", true)
  | 83 => ("ContractLedgerModel", "keptThere", "[Z", true)
  | 84 => ("ContractLedgerModel", "keptPaid", "[I", true)
  | 85 => ("ContractLedgerModel", "keptCount", "I", false)
  | 86 => ("ContractLedgerModel", "keptEnd", "I", false)
  | 87 => ("ContractLedgerModel", "keptBurnt", "J", false)
  | 88 => ("ContractLedgerModel", "batchAccount", "I", false)
  | 89 => ("ContractLedgerModel", "batchCounter", "I", false)
  | 90 => ("ContractLedgerModel", "contents", "I", false)
  | 91 => ("ContractLedgerModel", "nextFee", "J", false)
  | 92 => ("ContractLedgerModel", "nextGas", "I", false)
  | 93 => ("ContractLedgerModel", "nextBytes", "I", false)
  | 94 => ("ContractLedgerModel", "fees", "[J", true)
  | 95 => ("ContractLedgerModel", "gasLimits", "[I", true)
  | 96 => ("ContractLedgerModel", "byteLimits", "[I", true)
  | 97 => ("ContractLedgerModel", "amounts", "[J", true)
  | 98 => ("ContractLedgerModel", "originates", "[Z", true)
  | 99 => ("ContractLedgerModel", "textAt", "[I", true)
  | 100 => ("ContractLedgerModel", "texts", "[B", true)
  | 101 => ("ContractLedgerModel", "bytesPaid", "I", false)
  | 102 => ("ContractLedgerModel", "bytesLimit", "I", false)
  | 103 => ("ContractLedgerModel", "begun", "I", false)
  | 104 => ("ContractLedgerModel", "madeContract", "I", false)
  | 105 => ("ContractLedgerModel", "entryName", "[B", true)
  | 106 => ("ContractLedgerModel", "entrySize", "I", false)
  | 107 => ("ContractLedgerModel", "applied", "I", false)
  | 108 => ("ContractLedgerModel", "receipts", "[I", true)
  | 109 => ("ContractLedgerModel", "code", "I", false)
  | 110 => ("ContractLedgerModel", "came", "[B", true)
  | 111 => ("ContractLedgerModel", "size", "I", false)
  | 112 => ("ContractLedgerModel", "placeTold", "I", false)
  | 113 => ("ContractLedgerModel", "product", "[B", true)
  | _ => ("ContractLedgerModel", "produced", "I", false)
def tyX25 : Nat → FieldType := fun k => match k with
  | 0 => .array .int
  | 1 => .array .int
  | 2 => .int
  | 3 => .array .int
  | 4 => .int
  | 5 => .array .int
  | 6 => .int
  | 7 => .array .int
  | 8 => .array .int
  | 9 => .array .int
  | 10 => .array .int
  | 11 => .array .int
  | 12 => .int
  | 13 => .int
  | 14 => .int
  | 15 => .object "ContractLedgerModel$Num"
  | 16 => .object "ContractLedgerModel$Num"
  | 17 => .object "ContractLedgerModel$Num"
  | 18 => .object "ContractLedgerModel$Num"
  | 19 => .int
  | 20 => .int
  | 21 => .boolean
  | 22 => .array .int
  | 23 => .int
  | 24 => .boolean
  | 25 => .int
  | 26 => .int
  | 27 => .int
  | 28 => .array .byte
  | 29 => .object "ContractLedgerModel$Types"
  | 30 => .array .byte
  | 31 => .array .byte
  | 32 => .int
  | 33 => .int
  | 34 => .array .boolean
  | 35 => .int
  | 36 => .array .byte
  | 37 => .array .int
  | 38 => .int
  | 39 => .array .int
  | 40 => .int
  | 41 => .array .int
  | 42 => .int
  | 43 => .int
  | 44 => .int
  | 45 => .int
  | 46 => .int
  | 47 => .boolean
  | 48 => .object "ContractLedgerModel$Terms"
  | 49 => .object "ContractLedgerModel$Terms"
  | 50 => .object "ContractLedgerModel$Terms"
  | 51 => .int
  | 52 => .array .int
  | 53 => .int
  | 54 => .int
  | 55 => .int
  | 56 => .int
  | 57 => .int
  | 58 => .int
  | 59 => .array .boolean
  | 60 => .int
  | 61 => .long
  | 62 => .long
  | 63 => .boolean
  | 64 => .int
  | 65 => .int
  | 66 => .array .long
  | 67 => .array .int
  | 68 => .int
  | 69 => .array .boolean
  | 70 => .array .long
  | 71 => .array .int
  | 72 => .array .int
  | 73 => .array .int
  | 74 => .array .byte
  | 75 => .int
  | 76 => .long
  | 77 => .long
  | 78 => .long
  | 79 => .long
  | 80 => .int
  | 81 => .array .long
  | 82 => .array .long
  | 83 => .array .boolean
  | 84 => .array .int
  | 85 => .int
  | 86 => .int
  | 87 => .long
  | 88 => .int
  | 89 => .int
  | 90 => .int
  | 91 => .long
  | 92 => .int
  | 93 => .int
  | 94 => .array .long
  | 95 => .array .int
  | 96 => .array .int
  | 97 => .array .long
  | 98 => .array .boolean
  | 99 => .array .int
  | 100 => .array .byte
  | 101 => .int
  | 102 => .int
  | 103 => .int
  | 104 => .int
  | 105 => .array .byte
  | 106 => .int
  | 107 => .int
  | 108 => .array .int
  | 109 => .int
  | 110 => .array .byte
  | 111 => .int
  | 112 => .int
  | 113 => .array .byte
  | _ => .int
abbrev wsX250 : List Cond := u_ws RX25 TX25 115
set_option maxRecDepth 100000 in
theorem nmX25 : ∀ a, a < 115 → ∀ b, b < 115 → a ≠ b → (TX25 a).2.1 ≠ (TX25 b).2.1 := by decide +kernel
set_option maxRecDepth 100000 in
theorem tyX25_ok : ∀ k, k < 115 → parseFieldDescriptor (TX25 k).2.2.1 = some (tyX25 k) := by decide +kernel
def RX26 : String := "ContractLedgerModel$Num"
def TX26 : u_T := fun k => match k with
  | 0 => ("ContractLedgerModel$Num", "d", "[I", true)
  | 1 => ("ContractLedgerModel$Num", "n", "I", false)
  | _ => ("ContractLedgerModel$Num", "minus", "Z", false)
def tyX26 : Nat → FieldType := fun k => match k with
  | 0 => .array .int
  | 1 => .int
  | _ => .boolean
abbrev wsX260 : List Cond := u_ws RX26 TX26 3
theorem nmX26 : ∀ a, a < 3 → ∀ b, b < 3 → a ≠ b → (TX26 a).2.1 ≠ (TX26 b).2.1 := by decide +kernel
theorem tyX26_ok : ∀ k, k < 3 → parseFieldDescriptor (TX26 k).2.2.1 = some (tyX26 k) := by decide +kernel
def RX27 : String := "ContractLedgerModel$Types"
def TX27 : u_T := fun k => match k with
  | 0 => ("ContractLedgerModel$Types", "kinds", "[B", true)
  | 1 => ("ContractLedgerModel$Types", "lefts", "[I", true)
  | 2 => ("ContractLedgerModel$Types", "rights", "[I", true)
  | 3 => ("ContractLedgerModel$Types", "parts", "[S", true)
  | 4 => ("ContractLedgerModel$Types", "marks", "[B", true)
  | 5 => ("ContractLedgerModel$Types", "others", "[I", true)
  | 6 => ("ContractLedgerModel$Types", "heads", "[I", true)
  | _ => ("ContractLedgerModel$Types", "count", "I", false)
def tyX27 : Nat → FieldType := fun k => match k with
  | 0 => .array .byte
  | 1 => .array .int
  | 2 => .array .int
  | 3 => .array .short
  | 4 => .array .byte
  | 5 => .array .int
  | 6 => .array .int
  | _ => .int
abbrev wsX270 : List Cond := u_ws RX27 TX27 8
theorem nmX27 : ∀ a, a < 8 → ∀ b, b < 8 → a ≠ b → (TX27 a).2.1 ≠ (TX27 b).2.1 := by decide +kernel
theorem tyX27_ok : ∀ k, k < 8 → parseFieldDescriptor (TX27 k).2.2.1 = some (tyX27 k) := by decide +kernel
def RX28 : String := "ContractLedgerModel$Terms"
def TX28 : u_T := fun k => match k with
  | 0 => ("ContractLedgerModel$Terms", "text", "[B", true)
  | 1 => ("ContractLedgerModel$Terms", "size", "I", false)
  | 2 => ("ContractLedgerModel$Terms", "kinds", "[B", true)
  | 3 => ("ContractLedgerModel$Terms", "begins", "[I", true)
  | 4 => ("ContractLedgerModel$Terms", "ends", "[I", true)
  | 5 => ("ContractLedgerModel$Terms", "markBegins", "[I", true)
  | 6 => ("ContractLedgerModel$Terms", "markEnds", "[I", true)
  | 7 => ("ContractLedgerModel$Terms", "firsts", "[I", true)
  | 8 => ("ContractLedgerModel$Terms", "nexts", "[I", true)
  | 9 => ("ContractLedgerModel$Terms", "lasts", "[I", true)
  | 10 => ("ContractLedgerModel$Terms", "many", "[I", true)
  | 11 => ("ContractLedgerModel$Terms", "codes", "[I", true)
  | 12 => ("ContractLedgerModel$Terms", "ofBytes", "[Z", true)
  | 13 => ("ContractLedgerModel$Terms", "count", "I", false)
  | 14 => ("ContractLedgerModel$Terms", "place", "I", false)
  | 15 => ("ContractLedgerModel$Terms", "token", "I", false)
  | 16 => ("ContractLedgerModel$Terms", "from", "I", false)
  | 17 => ("ContractLedgerModel$Terms", "to", "I", false)
  | 18 => ("ContractLedgerModel$Terms", "words", "LContractLedgerModel$Words;", true)
  | _ => ("ContractLedgerModel$Terms", "number", "LContractLedgerModel$Num;", true)
def tyX28 : Nat → FieldType := fun k => match k with
  | 0 => .array .byte
  | 1 => .int
  | 2 => .array .byte
  | 3 => .array .int
  | 4 => .array .int
  | 5 => .array .int
  | 6 => .array .int
  | 7 => .array .int
  | 8 => .array .int
  | 9 => .array .int
  | 10 => .array .int
  | 11 => .array .int
  | 12 => .array .boolean
  | 13 => .int
  | 14 => .int
  | 15 => .int
  | 16 => .int
  | 17 => .int
  | 18 => .object "ContractLedgerModel$Words"
  | _ => .object "ContractLedgerModel$Num"
abbrev wsX280 : List Cond := u_ws RX28 TX28 20
set_option maxRecDepth 100000 in
theorem nmX28 : ∀ a, a < 20 → ∀ b, b < 20 → a ≠ b → (TX28 a).2.1 ≠ (TX28 b).2.1 := by decide +kernel
set_option maxRecDepth 100000 in
theorem tyX28_ok : ∀ k, k < 20 → parseFieldDescriptor (TX28 k).2.2.1 = some (tyX28 k) := by decide +kernel
def RX29 : String := "ContractLedgerModel$Words"
def TX29 : u_T := fun k => match k with
  | _ => ("ContractLedgerModel$Words", "begins", "[I", true)
def tyX29 : Nat → FieldType := fun k => match k with
  | _ => .array .int
abbrev wsX290 : List Cond := u_ws RX29 TX29 1
theorem nmX29 : ∀ a, a < 1 → ∀ b, b < 1 → a ≠ b → (TX29 a).2.1 ≠ (TX29 b).2.1 := by decide +kernel
theorem tyX29_ok : ∀ k, k < 1 → parseFieldDescriptor (TX29 k).2.2.1 = some (tyX29 k) := by decide +kernel
def RX0 : String := "ContractLedgerLaw"
def RX21 : String := "ContractLedger$Roots"
def RX30 : String := "ContractLedger$Signs"
def RJ0 : String := "java/lang/Throwable"
def RJ1 : String := "java/lang/Exception"
def RJ2 : String := "java/lang/RuntimeException"
def RJ3 : String := "java/lang/IllegalStateException"
def TJ3 : u_T := fun k => match k with
  | 0 => ("java/lang/Throwable", "cause", "Ljava/lang/Throwable;", false)
  | 1 => ("java/lang/Throwable", "stackTrace", "[Ljava/lang/StackTraceElement;", false)
  | 2 => ("java/lang/Throwable", "suppressedExceptions", "Ljava/util/List;", false)
  | 3 => ("java/lang/Throwable", "detailMessage", "Ljava/lang/String;", false)
  | 4 => ("java/lang/Throwable", "backtrace", "Ljava/lang/Object;", false)
  | _ => ("java/lang/Throwable", "depth", "I", false)
def tyJ3 : Nat → FieldType := fun k => match k with
  | 0 => .object "java/lang/Throwable"
  | 1 => .array (.object "java/lang/StackTraceElement")
  | 2 => .object "java/util/List"
  | 3 => .object "java/lang/String"
  | 4 => .object "java/lang/Object"
  | _ => .int
abbrev wsJ30 : List Cond := u_ws RJ3 TJ3 6
theorem nmJ3 : ∀ a, a < 6 → ∀ b, b < 6 → a ≠ b → (TJ3 a).2.1 ≠ (TJ3 b).2.1 := by decide +kernel
theorem tyJ3_ok : ∀ k, k < 6 → parseFieldDescriptor (TJ3 k).2.2.1 = some (tyJ3 k) := by decide +kernel
def RJ4 : String := "java/lang/String"
def RJ5 : String := "java/lang/StringLatin1"
def RJ6 : String := "java/lang/Math"
def RJ7 : String := "java/lang/StringUTF16"
def RJ8 : String := "jdk/internal/util/Preconditions"
def RJ9 : String := "java/lang/Character"
def RJ10 : String := "java/lang/IllegalArgumentException"
def RJ11 : String := "java/lang/Integer"
def RJ12 : String := "java/lang/Object"
theorem in_X1 : ∀ w ∈ wsX10, w ∈ lw_all := lw_in wsX10 [1600, 1602, 1604, 1606, 1608, 1610, 1612, 1614, 1616, 1618, 1620, 1622, 1624, 1626, 1628, 1630, 1632, 1634, 1636, 1638, 1640, 1642, 1644, 1646, 1648, 1650, 1652, 1654, 1656, 1658, 1660, 1662, 1664] (by decide +kernel) (by decide +kernel)
theorem in_X2 : ∀ w ∈ wsX20, w ∈ lw_all := lw_in wsX20 [485, 487] (by decide +kernel) (by decide +kernel)
theorem in_X3 : ∀ w ∈ wsX30, w ∈ lw_all := lw_in wsX30 [582, 584] (by decide +kernel) (by decide +kernel)
theorem in_X4 : ∀ w ∈ wsX40, w ∈ lw_all := lw_in wsX40 [691, 693, 695, 697, 699, 701, 703, 705, 707, 709, 711, 713, 715, 717] (by decide +kernel) (by decide +kernel)
theorem in_X5 : ∀ w ∈ wsX50, w ∈ lw_all := lw_in wsX50 [609, 611, 613, 615, 617] (by decide +kernel) (by decide +kernel)
theorem in_X6 : ∀ w ∈ wsX60, w ∈ lw_all := lw_in wsX60 [643, 645, 647] (by decide +kernel) (by decide +kernel)
theorem in_X7 : ∀ w ∈ wsX70, w ∈ lw_all := lw_in wsX70 [775, 777, 779, 781, 783, 785, 787, 789] (by decide +kernel) (by decide +kernel)
theorem in_X8 : ∀ w ∈ wsX80, w ∈ lw_all := lw_in wsX80 [813, 815, 817, 819, 821, 823, 825, 827] (by decide +kernel) (by decide +kernel)
theorem in_X9 : ∀ w ∈ wsX90, w ∈ lw_all := lw_in wsX90 [842, 844, 846, 848] (by decide +kernel) (by decide +kernel)
theorem in_X10 : ∀ w ∈ wsX100, w ∈ lw_all := lw_in wsX100 [859, 861] (by decide +kernel) (by decide +kernel)
theorem in_X11 : ∀ w ∈ wsX110, w ∈ lw_all := lw_in wsX110 [874, 876] (by decide +kernel) (by decide +kernel)
theorem in_X12 : ∀ w ∈ wsX120, w ∈ lw_all := lw_in wsX120 [898, 900, 902, 904, 906, 908, 910, 912, 914, 916, 918] (by decide +kernel) (by decide +kernel)
theorem in_X13 : ∀ w ∈ wsX130, w ∈ lw_all := lw_in wsX130 [944, 946, 948, 950, 952, 954, 956, 958, 960, 962, 964, 966, 968] (by decide +kernel) (by decide +kernel)
theorem in_X14 : ∀ w ∈ wsX140, w ∈ lw_all := lw_in wsX140 [1006, 1008, 1010] (by decide +kernel) (by decide +kernel)
theorem in_X15 : ∀ w ∈ wsX150, w ∈ lw_all := lw_in wsX150 [1060, 1062, 1064, 1066, 1068, 1070, 1072, 1074, 1076, 1078, 1080, 1082, 1084, 1086] (by decide +kernel) (by decide +kernel)
theorem in_X16 : ∀ w ∈ wsX160, w ∈ lw_all := lw_in wsX160 [1118, 1120, 1122, 1124, 1126, 1128, 1130, 1132, 1134, 1136, 1138, 1140, 1142, 1144, 1146, 1148, 1150] (by decide +kernel) (by decide +kernel)
theorem in_X17 : ∀ w ∈ wsX170, w ∈ lw_all := lw_in wsX170 [1203, 1205, 1207, 1209, 1211, 1213, 1215, 1217, 1219, 1221, 1223, 1225, 1227, 1229, 1231, 1233, 1235, 1237, 1239, 1241, 1243, 1245] (by decide +kernel) (by decide +kernel)
theorem in_X18 : ∀ w ∈ wsX180, w ∈ lw_all := lw_in wsX180 [1258, 1260, 1262] (by decide +kernel) (by decide +kernel)
theorem in_X19 : ∀ w ∈ wsX190, w ∈ lw_all := lw_in wsX190 [1331, 1333, 1335, 1337, 1339, 1341, 1343, 1345, 1347, 1349, 1351, 1353, 1355, 1357, 1359, 1361, 1363, 1365, 1367, 1369, 1371, 1373, 1375, 1377, 1379, 1381, 1383, 1385, 1387, 1389, 1391, 1393] (by decide +kernel) (by decide +kernel)
theorem in_X20 : ∀ w ∈ wsX200, w ∈ lw_all := lw_in wsX200 [1282, 1284, 1286] (by decide +kernel) (by decide +kernel)
theorem in_X22 : ∀ w ∈ wsX220, w ∈ lw_all := lw_in wsX220 [1436, 1438, 1440, 1442, 1444, 1446, 1448, 1450, 1452, 1454, 1456, 1458, 1460, 1462, 1464, 1466, 1468, 1470, 1472, 1474, 1476, 1478, 1480, 1482, 1484, 1486, 1488, 1490] (by decide +kernel) (by decide +kernel)
theorem in_X23 : ∀ w ∈ wsX230, w ∈ lw_all := lw_in wsX230 [1516, 1518, 1520, 1522, 1524, 1526, 1528] (by decide +kernel) (by decide +kernel)
theorem in_X24 : ∀ w ∈ wsX240, w ∈ lw_all := lw_in wsX240 [1554, 1556, 1558, 1560, 1562, 1564] (by decide +kernel) (by decide +kernel)
theorem in_X25 : ∀ w ∈ wsX250, w ∈ lw_all := lw_in wsX250 [4350, 4352, 4354, 4356, 4358, 4360, 4362, 4364, 4366, 4368, 4370, 4372, 4374, 4376, 4378, 4380, 4382, 4384, 4386, 4388, 4390, 4392, 4394, 4396, 4398, 4400, 4402, 4404, 4406, 4408, 4410, 4412, 4414, 4416, 4418, 4420, 4422, 4424, 4426, 4428, 4430, 4432, 4434, 4436, 4438, 4440, 4442, 4444, 4446, 4448, 4450, 4452, 4454, 4456, 4458, 4460, 4462, 4464, 4466, 4468, 4470, 4472, 4474, 4476, 4478, 4480, 4482, 4484, 4486, 4488, 4490, 4492, 4494, 4496, 4498, 4500, 4502, 4504, 4506, 4508, 4510, 4512, 4514, 4516, 4518, 4520, 4522, 4524, 4526, 4528, 4530, 4532, 4534, 4536, 4538, 4540, 4542, 4544, 4546, 4548, 4550, 4552, 4554, 4556, 4558, 4560, 4562, 4564, 4566, 4568, 4570, 4572, 4574, 4576, 4578] (by decide +kernel) (by decide +kernel)
theorem in_X26 : ∀ w ∈ wsX260, w ∈ lw_all := lw_in wsX260 [4092, 4094, 4096] (by decide +kernel) (by decide +kernel)
theorem in_X27 : ∀ w ∈ wsX270, w ∈ lw_all := lw_in wsX270 [4117, 4119, 4121, 4123, 4125, 4127, 4129, 4131] (by decide +kernel) (by decide +kernel)
theorem in_X28 : ∀ w ∈ wsX280, w ∈ lw_all := lw_in wsX280 [4193, 4195, 4197, 4199, 4201, 4203, 4205, 4207, 4209, 4211, 4213, 4215, 4217, 4219, 4221, 4223, 4225, 4227, 4229, 4231] (by decide +kernel) (by decide +kernel)
theorem in_X29 : ∀ w ∈ wsX290, w ∈ lw_all := lw_in wsX290 [4145] (by decide +kernel) (by decide +kernel)
theorem in_J3 : ∀ w ∈ wsJ30, w ∈ lw_all := lw_in wsJ30 [426, 428, 430, 432, 434, 477] (by decide +kernel) (by decide +kernel)
