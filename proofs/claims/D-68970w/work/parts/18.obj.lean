section BridgeObj
set_option maxRecDepth 100000
theorem iz0 {n : Nat} (h : 1 ≤ n) : b_is n 0 0 0 33 := ⟨by decide, Nat.lt_of_lt_of_le (Nat.le_of_ble_eq_true rfl) h, rfl⟩
theorem iz1 {n : Nat} (h : 2 ≤ n) : b_is n 1 1 1 16384 := ⟨by decide, Nat.lt_of_lt_of_le (Nat.le_of_ble_eq_true rfl) h, rfl⟩
theorem iz2 {n : Nat} (h : 3 ≤ n) : b_is n 2 0 1 2 := ⟨by decide, Nat.lt_of_lt_of_le (Nat.le_of_ble_eq_true rfl) h, rfl⟩
theorem iz3 {n : Nat} (h : 4 ≤ n) : b_is n 3 0 28 0 := ⟨by decide, Nat.lt_of_lt_of_le (Nat.le_of_ble_eq_true rfl) h, rfl⟩
theorem iz4 {n : Nat} (h : 5 ≤ n) : b_is n 4 0 2 2 := ⟨by decide, Nat.lt_of_lt_of_le (Nat.le_of_ble_eq_true rfl) h, rfl⟩
theorem iz5 {n : Nat} (h : 6 ≤ n) : b_is n 5 1 0 128 := ⟨by decide, Nat.lt_of_lt_of_le (Nat.le_of_ble_eq_true rfl) h, rfl⟩
theorem iz6 {n : Nat} (h : 7 ≤ n) : b_is n 6 0 3 14 := ⟨by decide, Nat.lt_of_lt_of_le (Nat.le_of_ble_eq_true rfl) h, rfl⟩
theorem iz7 {n : Nat} (h : 8 ≤ n) : b_is n 7 0 4 5 := ⟨by decide, Nat.lt_of_lt_of_le (Nat.le_of_ble_eq_true rfl) h, rfl⟩
theorem iz8 {n : Nat} (h : 9 ≤ n) : b_is n 8 0 5 3 := ⟨by decide, Nat.lt_of_lt_of_le (Nat.le_of_ble_eq_true rfl) h, rfl⟩
theorem iz9 {n : Nat} (h : 10 ≤ n) : b_is n 9 1 0 200 := ⟨by decide, Nat.lt_of_lt_of_le (Nat.le_of_ble_eq_true rfl) h, rfl⟩
theorem iz10 {n : Nat} (h : 11 ≤ n) : b_is n 10 1 1 4096 := ⟨by decide, Nat.lt_of_lt_of_le (Nat.le_of_ble_eq_true rfl) h, rfl⟩
theorem iz11 {n : Nat} (h : 12 ≤ n) : b_is n 11 1 1 4096 := ⟨by decide, Nat.lt_of_lt_of_le (Nat.le_of_ble_eq_true rfl) h, rfl⟩
theorem iz12 {n : Nat} (h : 13 ≤ n) : b_is n 12 1 0 4096 := ⟨by decide, Nat.lt_of_lt_of_le (Nat.le_of_ble_eq_true rfl) h, rfl⟩
theorem iz13 {n : Nat} (h : 14 ≤ n) : b_is n 13 1 0 4096 := ⟨by decide, Nat.lt_of_lt_of_le (Nat.le_of_ble_eq_true rfl) h, rfl⟩
theorem iz14 {n : Nat} (h : 15 ≤ n) : b_is n 14 1 0 4096 := ⟨by decide, Nat.lt_of_lt_of_le (Nat.le_of_ble_eq_true rfl) h, rfl⟩
theorem iz15 {n : Nat} (h : 16 ≤ n) : b_is n 15 1 0 4096 := ⟨by decide, Nat.lt_of_lt_of_le (Nat.le_of_ble_eq_true rfl) h, rfl⟩
theorem iz16 {n : Nat} (h : 17 ≤ n) : b_is n 16 1 0 4096 := ⟨by decide, Nat.lt_of_lt_of_le (Nat.le_of_ble_eq_true rfl) h, rfl⟩
theorem iz17 {n : Nat} (h : 18 ≤ n) : b_is n 17 1 0 4096 := ⟨by decide, Nat.lt_of_lt_of_le (Nat.le_of_ble_eq_true rfl) h, rfl⟩
theorem iz18 {n : Nat} (h : 19 ≤ n) : b_is n 18 1 0 4096 := ⟨by decide, Nat.lt_of_lt_of_le (Nat.le_of_ble_eq_true rfl) h, rfl⟩
theorem iz19 {n : Nat} (h : 20 ≤ n) : b_is n 19 0 6 8 := ⟨by decide, Nat.lt_of_lt_of_le (Nat.le_of_ble_eq_true rfl) h, rfl⟩
theorem iz20 {n : Nat} (h : 21 ≤ n) : b_is n 20 1 1 60000 := ⟨by decide, Nat.lt_of_lt_of_le (Nat.le_of_ble_eq_true rfl) h, rfl⟩
theorem iz21 {n : Nat} (h : 22 ≤ n) : b_is n 21 1 0 60000 := ⟨by decide, Nat.lt_of_lt_of_le (Nat.le_of_ble_eq_true rfl) h, rfl⟩
theorem iz22 {n : Nat} (h : 23 ≤ n) : b_is n 22 1 0 60000 := ⟨by decide, Nat.lt_of_lt_of_le (Nat.le_of_ble_eq_true rfl) h, rfl⟩
theorem iz23 {n : Nat} (h : 24 ≤ n) : b_is n 23 1 4 60000 := ⟨by decide, Nat.lt_of_lt_of_le (Nat.le_of_ble_eq_true rfl) h, rfl⟩
theorem iz24 {n : Nat} (h : 25 ≤ n) : b_is n 24 1 1 60000 := ⟨by decide, Nat.lt_of_lt_of_le (Nat.le_of_ble_eq_true rfl) h, rfl⟩
theorem iz25 {n : Nat} (h : 26 ≤ n) : b_is n 25 1 0 60000 := ⟨by decide, Nat.lt_of_lt_of_le (Nat.le_of_ble_eq_true rfl) h, rfl⟩
theorem iz26 {n : Nat} (h : 27 ≤ n) : b_is n 26 1 0 4096 := ⟨by decide, Nat.lt_of_lt_of_le (Nat.le_of_ble_eq_true rfl) h, rfl⟩
theorem iz27 {n : Nat} (h : 28 ≤ n) : b_is n 27 0 7 8 := ⟨by decide, Nat.lt_of_lt_of_le (Nat.le_of_ble_eq_true rfl) h, rfl⟩
theorem iz28 {n : Nat} (h : 29 ≤ n) : b_is n 28 1 0 800000 := ⟨by decide, Nat.lt_of_lt_of_le (Nat.le_of_ble_eq_true rfl) h, rfl⟩
theorem iz29 {n : Nat} (h : 30 ≤ n) : b_is n 29 1 0 800000 := ⟨by decide, Nat.lt_of_lt_of_le (Nat.le_of_ble_eq_true rfl) h, rfl⟩
theorem iz30 {n : Nat} (h : 31 ≤ n) : b_is n 30 1 0 280000 := ⟨by decide, Nat.lt_of_lt_of_le (Nat.le_of_ble_eq_true rfl) h, rfl⟩
theorem iz31 {n : Nat} (h : 32 ≤ n) : b_is n 31 0 5 3 := ⟨by decide, Nat.lt_of_lt_of_le (Nat.le_of_ble_eq_true rfl) h, rfl⟩
theorem iz32 {n : Nat} (h : 33 ≤ n) : b_is n 32 1 0 200 := ⟨by decide, Nat.lt_of_lt_of_le (Nat.le_of_ble_eq_true rfl) h, rfl⟩
theorem iz33 {n : Nat} (h : 34 ≤ n) : b_is n 33 0 8 4 := ⟨by decide, Nat.lt_of_lt_of_le (Nat.le_of_ble_eq_true rfl) h, rfl⟩
theorem iz34 {n : Nat} (h : 35 ≤ n) : b_is n 34 0 5 3 := ⟨by decide, Nat.lt_of_lt_of_le (Nat.le_of_ble_eq_true rfl) h, rfl⟩
theorem iz35 {n : Nat} (h : 36 ≤ n) : b_is n 35 1 0 200 := ⟨by decide, Nat.lt_of_lt_of_le (Nat.le_of_ble_eq_true rfl) h, rfl⟩
theorem iz36 {n : Nat} (h : 37 ≤ n) : b_is n 36 0 5 3 := ⟨by decide, Nat.lt_of_lt_of_le (Nat.le_of_ble_eq_true rfl) h, rfl⟩
theorem iz37 {n : Nat} (h : 38 ≤ n) : b_is n 37 1 0 200 := ⟨by decide, Nat.lt_of_lt_of_le (Nat.le_of_ble_eq_true rfl) h, rfl⟩
theorem iz38 {n : Nat} (h : 39 ≤ n) : b_is n 38 0 9 2 := ⟨by decide, Nat.lt_of_lt_of_le (Nat.le_of_ble_eq_true rfl) h, rfl⟩
theorem iz39 {n : Nat} (h : 40 ≤ n) : b_is n 39 0 10 2 := ⟨by decide, Nat.lt_of_lt_of_le (Nat.le_of_ble_eq_true rfl) h, rfl⟩
theorem iz40 {n : Nat} (h : 41 ≤ n) : b_is n 40 1 1 40 := ⟨by decide, Nat.lt_of_lt_of_le (Nat.le_of_ble_eq_true rfl) h, rfl⟩
theorem iz41 {n : Nat} (h : 42 ≤ n) : b_is n 41 0 11 11 := ⟨by decide, Nat.lt_of_lt_of_le (Nat.le_of_ble_eq_true rfl) h, rfl⟩
theorem iz42 {n : Nat} (h : 43 ≤ n) : b_is n 42 0 5 3 := ⟨by decide, Nat.lt_of_lt_of_le (Nat.le_of_ble_eq_true rfl) h, rfl⟩
theorem iz43 {n : Nat} (h : 44 ≤ n) : b_is n 43 1 0 200 := ⟨by decide, Nat.lt_of_lt_of_le (Nat.le_of_ble_eq_true rfl) h, rfl⟩
theorem iz44 {n : Nat} (h : 45 ≤ n) : b_is n 44 1 1 8200 := ⟨by decide, Nat.lt_of_lt_of_le (Nat.le_of_ble_eq_true rfl) h, rfl⟩
theorem iz45 {n : Nat} (h : 46 ≤ n) : b_is n 45 1 0 8400 := ⟨by decide, Nat.lt_of_lt_of_le (Nat.le_of_ble_eq_true rfl) h, rfl⟩
theorem iz46 {n : Nat} (h : 47 ≤ n) : b_is n 46 0 12 13 := ⟨by decide, Nat.lt_of_lt_of_le (Nat.le_of_ble_eq_true rfl) h, rfl⟩
theorem iz47 {n : Nat} (h : 48 ≤ n) : b_is n 47 0 5 3 := ⟨by decide, Nat.lt_of_lt_of_le (Nat.le_of_ble_eq_true rfl) h, rfl⟩
theorem iz48 {n : Nat} (h : 49 ≤ n) : b_is n 48 1 0 200 := ⟨by decide, Nat.lt_of_lt_of_le (Nat.le_of_ble_eq_true rfl) h, rfl⟩
theorem iz49 {n : Nat} (h : 50 ≤ n) : b_is n 49 1 0 18000 := ⟨by decide, Nat.lt_of_lt_of_le (Nat.le_of_ble_eq_true rfl) h, rfl⟩
theorem iz50 {n : Nat} (h : 51 ≤ n) : b_is n 50 0 13 3 := ⟨by decide, Nat.lt_of_lt_of_le (Nat.le_of_ble_eq_true rfl) h, rfl⟩
theorem iz51 {n : Nat} (h : 52 ≤ n) : b_is n 51 1 1 90000 := ⟨by decide, Nat.lt_of_lt_of_le (Nat.le_of_ble_eq_true rfl) h, rfl⟩
theorem iz52 {n : Nat} (h : 53 ≤ n) : b_is n 52 1 0 12001 := ⟨by decide, Nat.lt_of_lt_of_le (Nat.le_of_ble_eq_true rfl) h, rfl⟩
theorem iz53 {n : Nat} (h : 54 ≤ n) : b_is n 53 0 14 14 := ⟨by decide, Nat.lt_of_lt_of_le (Nat.le_of_ble_eq_true rfl) h, rfl⟩
theorem iz54 {n : Nat} (h : 55 ≤ n) : b_is n 54 1 0 2000 := ⟨by decide, Nat.lt_of_lt_of_le (Nat.le_of_ble_eq_true rfl) h, rfl⟩
theorem iz55 {n : Nat} (h : 56 ≤ n) : b_is n 55 1 0 2000 := ⟨by decide, Nat.lt_of_lt_of_le (Nat.le_of_ble_eq_true rfl) h, rfl⟩
theorem iz56 {n : Nat} (h : 57 ≤ n) : b_is n 56 1 0 2000 := ⟨by decide, Nat.lt_of_lt_of_le (Nat.le_of_ble_eq_true rfl) h, rfl⟩
theorem iz57 {n : Nat} (h : 58 ≤ n) : b_is n 57 1 0 2001 := ⟨by decide, Nat.lt_of_lt_of_le (Nat.le_of_ble_eq_true rfl) h, rfl⟩
theorem iz58 {n : Nat} (h : 59 ≤ n) : b_is n 58 1 0 2000 := ⟨by decide, Nat.lt_of_lt_of_le (Nat.le_of_ble_eq_true rfl) h, rfl⟩
theorem iz59 {n : Nat} (h : 60 ≤ n) : b_is n 59 1 0 2000 := ⟨by decide, Nat.lt_of_lt_of_le (Nat.le_of_ble_eq_true rfl) h, rfl⟩
theorem iz60 {n : Nat} (h : 61 ≤ n) : b_is n 60 1 0 12000 := ⟨by decide, Nat.lt_of_lt_of_le (Nat.le_of_ble_eq_true rfl) h, rfl⟩
theorem iz61 {n : Nat} (h : 62 ≤ n) : b_is n 61 1 0 12000 := ⟨by decide, Nat.lt_of_lt_of_le (Nat.le_of_ble_eq_true rfl) h, rfl⟩
theorem iz62 {n : Nat} (h : 63 ≤ n) : b_is n 62 2 3 12000 := ⟨by decide, Nat.lt_of_lt_of_le (Nat.le_of_ble_eq_true rfl) h, rfl⟩
theorem iz63 {n : Nat} (h : 64 ≤ n) : b_is n 63 1 1 12000 := ⟨by decide, Nat.lt_of_lt_of_le (Nat.le_of_ble_eq_true rfl) h, rfl⟩
theorem iz64 {n : Nat} (h : 65 ≤ n) : b_is n 64 1 0 160000 := ⟨by decide, Nat.lt_of_lt_of_le (Nat.le_of_ble_eq_true rfl) h, rfl⟩
theorem iz65 {n : Nat} (h : 66 ≤ n) : b_is n 65 0 15 17 := ⟨by decide, Nat.lt_of_lt_of_le (Nat.le_of_ble_eq_true rfl) h, rfl⟩
theorem iz66 {n : Nat} (h : 67 ≤ n) : b_is n 66 0 5 3 := ⟨by decide, Nat.lt_of_lt_of_le (Nat.le_of_ble_eq_true rfl) h, rfl⟩
theorem iz67 {n : Nat} (h : 68 ≤ n) : b_is n 67 1 0 200 := ⟨by decide, Nat.lt_of_lt_of_le (Nat.le_of_ble_eq_true rfl) h, rfl⟩
theorem iz68 {n : Nat} (h : 69 ≤ n) : b_is n 68 1 0 310 := ⟨by decide, Nat.lt_of_lt_of_le (Nat.le_of_ble_eq_true rfl) h, rfl⟩
theorem iz69 {n : Nat} (h : 70 ≤ n) : b_is n 69 1 0 48000 := ⟨by decide, Nat.lt_of_lt_of_le (Nat.le_of_ble_eq_true rfl) h, rfl⟩
theorem iz70 {n : Nat} (h : 71 ≤ n) : b_is n 70 0 16 22 := ⟨by decide, Nat.lt_of_lt_of_le (Nat.le_of_ble_eq_true rfl) h, rfl⟩
theorem iz71 {n : Nat} (h : 72 ≤ n) : b_is n 71 2 3 200 := ⟨by decide, Nat.lt_of_lt_of_le (Nat.le_of_ble_eq_true rfl) h, rfl⟩
theorem iz72 {n : Nat} (h : 73 ≤ n) : b_is n 72 1 2 200 := ⟨by decide, Nat.lt_of_lt_of_le (Nat.le_of_ble_eq_true rfl) h, rfl⟩
theorem iz73 {n : Nat} (h : 74 ≤ n) : b_is n 73 1 0 200 := ⟨by decide, Nat.lt_of_lt_of_le (Nat.le_of_ble_eq_true rfl) h, rfl⟩
theorem iz74 {n : Nat} (h : 75 ≤ n) : b_is n 74 1 0 200 := ⟨by decide, Nat.lt_of_lt_of_le (Nat.le_of_ble_eq_true rfl) h, rfl⟩
theorem iz75 {n : Nat} (h : 76 ≤ n) : b_is n 75 1 0 200 := ⟨by decide, Nat.lt_of_lt_of_le (Nat.le_of_ble_eq_true rfl) h, rfl⟩
theorem iz76 {n : Nat} (h : 77 ≤ n) : b_is n 76 1 0 100 := ⟨by decide, Nat.lt_of_lt_of_le (Nat.le_of_ble_eq_true rfl) h, rfl⟩
theorem iz77 {n : Nat} (h : 78 ≤ n) : b_is n 77 2 3 200 := ⟨by decide, Nat.lt_of_lt_of_le (Nat.le_of_ble_eq_true rfl) h, rfl⟩
theorem iz78 {n : Nat} (h : 79 ≤ n) : b_is n 78 1 2 200 := ⟨by decide, Nat.lt_of_lt_of_le (Nat.le_of_ble_eq_true rfl) h, rfl⟩
theorem iz79 {n : Nat} (h : 80 ≤ n) : b_is n 79 1 0 200 := ⟨by decide, Nat.lt_of_lt_of_le (Nat.le_of_ble_eq_true rfl) h, rfl⟩
theorem iz80 {n : Nat} (h : 81 ≤ n) : b_is n 80 1 0 200 := ⟨by decide, Nat.lt_of_lt_of_le (Nat.le_of_ble_eq_true rfl) h, rfl⟩
theorem iz81 {n : Nat} (h : 82 ≤ n) : b_is n 81 1 0 200 := ⟨by decide, Nat.lt_of_lt_of_le (Nat.le_of_ble_eq_true rfl) h, rfl⟩
theorem iz82 {n : Nat} (h : 83 ≤ n) : b_is n 82 0 17 3 := ⟨by decide, Nat.lt_of_lt_of_le (Nat.le_of_ble_eq_true rfl) h, rfl⟩
theorem iz83 {n : Nat} (h : 84 ≤ n) : b_is n 83 0 18 32 := ⟨by decide, Nat.lt_of_lt_of_le (Nat.le_of_ble_eq_true rfl) h, rfl⟩
theorem iz84 {n : Nat} (h : 85 ≤ n) : b_is n 84 0 19 3 := ⟨by decide, Nat.lt_of_lt_of_le (Nat.le_of_ble_eq_true rfl) h, rfl⟩
theorem iz85 {n : Nat} (h : 86 ≤ n) : b_is n 85 1 0 204 := ⟨by decide, Nat.lt_of_lt_of_le (Nat.le_of_ble_eq_true rfl) h, rfl⟩
theorem iz86 {n : Nat} (h : 87 ≤ n) : b_is n 86 1 0 204 := ⟨by decide, Nat.lt_of_lt_of_le (Nat.le_of_ble_eq_true rfl) h, rfl⟩
theorem iz87 {n : Nat} (h : 88 ≤ n) : b_is n 87 0 5 3 := ⟨by decide, Nat.lt_of_lt_of_le (Nat.le_of_ble_eq_true rfl) h, rfl⟩
theorem iz88 {n : Nat} (h : 89 ≤ n) : b_is n 88 1 0 200 := ⟨by decide, Nat.lt_of_lt_of_le (Nat.le_of_ble_eq_true rfl) h, rfl⟩
theorem iz89 {n : Nat} (h : 90 ≤ n) : b_is n 89 0 5 3 := ⟨by decide, Nat.lt_of_lt_of_le (Nat.le_of_ble_eq_true rfl) h, rfl⟩
theorem iz90 {n : Nat} (h : 91 ≤ n) : b_is n 90 1 0 200 := ⟨by decide, Nat.lt_of_lt_of_le (Nat.le_of_ble_eq_true rfl) h, rfl⟩
theorem iz91 {n : Nat} (h : 92 ≤ n) : b_is n 91 0 5 3 := ⟨by decide, Nat.lt_of_lt_of_le (Nat.le_of_ble_eq_true rfl) h, rfl⟩
theorem iz92 {n : Nat} (h : 93 ≤ n) : b_is n 92 1 0 200 := ⟨by decide, Nat.lt_of_lt_of_le (Nat.le_of_ble_eq_true rfl) h, rfl⟩
theorem iz93 {n : Nat} (h : 94 ≤ n) : b_is n 93 0 5 3 := ⟨by decide, Nat.lt_of_lt_of_le (Nat.le_of_ble_eq_true rfl) h, rfl⟩
theorem iz94 {n : Nat} (h : 95 ≤ n) : b_is n 94 1 0 200 := ⟨by decide, Nat.lt_of_lt_of_le (Nat.le_of_ble_eq_true rfl) h, rfl⟩
theorem iz95 {n : Nat} (h : 96 ≤ n) : b_is n 95 0 5 3 := ⟨by decide, Nat.lt_of_lt_of_le (Nat.le_of_ble_eq_true rfl) h, rfl⟩
theorem iz96 {n : Nat} (h : 97 ≤ n) : b_is n 96 1 0 200 := ⟨by decide, Nat.lt_of_lt_of_le (Nat.le_of_ble_eq_true rfl) h, rfl⟩
theorem iz97 {n : Nat} (h : 98 ≤ n) : b_is n 97 1 0 16000 := ⟨by decide, Nat.lt_of_lt_of_le (Nat.le_of_ble_eq_true rfl) h, rfl⟩
theorem iz98 {n : Nat} (h : 99 ≤ n) : b_is n 98 1 0 32000 := ⟨by decide, Nat.lt_of_lt_of_le (Nat.le_of_ble_eq_true rfl) h, rfl⟩
theorem iz99 {n : Nat} (h : 100 ≤ n) : b_is n 99 1 0 90000 := ⟨by decide, Nat.lt_of_lt_of_le (Nat.le_of_ble_eq_true rfl) h, rfl⟩
theorem iz100 {n : Nat} (h : 101 ≤ n) : b_is n 100 1 1 8300 := ⟨by decide, Nat.lt_of_lt_of_le (Nat.le_of_ble_eq_true rfl) h, rfl⟩
theorem iz101 {n : Nat} (h : 102 ≤ n) : b_is n 101 1 0 24000 := ⟨by decide, Nat.lt_of_lt_of_le (Nat.le_of_ble_eq_true rfl) h, rfl⟩
theorem iz102 {n : Nat} (h : 103 ≤ n) : b_is n 102 0 20 28 := ⟨by decide, Nat.lt_of_lt_of_le (Nat.le_of_ble_eq_true rfl) h, rfl⟩
theorem iz103 {n : Nat} (h : 104 ≤ n) : b_is n 103 1 1 16384 := ⟨by decide, Nat.lt_of_lt_of_le (Nat.le_of_ble_eq_true rfl) h, rfl⟩
theorem iz104 {n : Nat} (h : 105 ≤ n) : b_is n 104 1 1 16400 := ⟨by decide, Nat.lt_of_lt_of_le (Nat.le_of_ble_eq_true rfl) h, rfl⟩
theorem iz105 {n : Nat} (h : 106 ≤ n) : b_is n 105 1 0 80 := ⟨by decide, Nat.lt_of_lt_of_le (Nat.le_of_ble_eq_true rfl) h, rfl⟩
theorem iz106 {n : Nat} (h : 107 ≤ n) : b_is n 106 1 0 80 := ⟨by decide, Nat.lt_of_lt_of_le (Nat.le_of_ble_eq_true rfl) h, rfl⟩
theorem iz107 {n : Nat} (h : 108 ≤ n) : b_is n 107 1 1 65536 := ⟨by decide, Nat.lt_of_lt_of_le (Nat.le_of_ble_eq_true rfl) h, rfl⟩
theorem iz108 {n : Nat} (h : 109 ≤ n) : b_is n 108 3 5 16 := ⟨by decide, Nat.lt_of_lt_of_le (Nat.le_of_ble_eq_true rfl) h, rfl⟩
theorem iz109 {n : Nat} (h : 110 ≤ n) : b_is n 109 1 1 16384 := ⟨by decide, Nat.lt_of_lt_of_le (Nat.le_of_ble_eq_true rfl) h, rfl⟩
theorem iz110 {n : Nat} (h : 111 ≤ n) : b_is n 110 3 6 16 := ⟨by decide, Nat.lt_of_lt_of_le (Nat.le_of_ble_eq_true rfl) h, rfl⟩
theorem iz111 {n : Nat} (h : 112 ≤ n) : b_is n 111 0 21 7 := ⟨by decide, Nat.lt_of_lt_of_le (Nat.le_of_ble_eq_true rfl) h, rfl⟩
theorem iz112 {n : Nat} (h : 113 ≤ n) : b_is n 112 0 22 6 := ⟨by decide, Nat.lt_of_lt_of_le (Nat.le_of_ble_eq_true rfl) h, rfl⟩
theorem iz113 {n : Nat} (h : 114 ≤ n) : b_is n 113 0 21 7 := ⟨by decide, Nat.lt_of_lt_of_le (Nat.le_of_ble_eq_true rfl) h, rfl⟩
theorem iz114 {n : Nat} (h : 115 ≤ n) : b_is n 114 0 22 6 := ⟨by decide, Nat.lt_of_lt_of_le (Nat.le_of_ble_eq_true rfl) h, rfl⟩
theorem iz115 {n : Nat} (h : 116 ≤ n) : b_is n 115 0 21 7 := ⟨by decide, Nat.lt_of_lt_of_le (Nat.le_of_ble_eq_true rfl) h, rfl⟩
theorem iz116 {n : Nat} (h : 117 ≤ n) : b_is n 116 0 22 6 := ⟨by decide, Nat.lt_of_lt_of_le (Nat.le_of_ble_eq_true rfl) h, rfl⟩
theorem iz117 {n : Nat} (h : 118 ≤ n) : b_is n 117 0 21 7 := ⟨by decide, Nat.lt_of_lt_of_le (Nat.le_of_ble_eq_true rfl) h, rfl⟩
theorem iz118 {n : Nat} (h : 119 ≤ n) : b_is n 118 0 22 6 := ⟨by decide, Nat.lt_of_lt_of_le (Nat.le_of_ble_eq_true rfl) h, rfl⟩
theorem iz119 {n : Nat} (h : 120 ≤ n) : b_is n 119 0 21 7 := ⟨by decide, Nat.lt_of_lt_of_le (Nat.le_of_ble_eq_true rfl) h, rfl⟩
theorem iz120 {n : Nat} (h : 121 ≤ n) : b_is n 120 0 22 6 := ⟨by decide, Nat.lt_of_lt_of_le (Nat.le_of_ble_eq_true rfl) h, rfl⟩
theorem iz121 {n : Nat} (h : 122 ≤ n) : b_is n 121 0 21 7 := ⟨by decide, Nat.lt_of_lt_of_le (Nat.le_of_ble_eq_true rfl) h, rfl⟩
theorem iz122 {n : Nat} (h : 123 ≤ n) : b_is n 122 0 22 6 := ⟨by decide, Nat.lt_of_lt_of_le (Nat.le_of_ble_eq_true rfl) h, rfl⟩
theorem iz123 {n : Nat} (h : 124 ≤ n) : b_is n 123 0 21 7 := ⟨by decide, Nat.lt_of_lt_of_le (Nat.le_of_ble_eq_true rfl) h, rfl⟩
theorem iz124 {n : Nat} (h : 125 ≤ n) : b_is n 124 0 22 6 := ⟨by decide, Nat.lt_of_lt_of_le (Nat.le_of_ble_eq_true rfl) h, rfl⟩
theorem iz125 {n : Nat} (h : 126 ≤ n) : b_is n 125 0 21 7 := ⟨by decide, Nat.lt_of_lt_of_le (Nat.le_of_ble_eq_true rfl) h, rfl⟩
theorem iz126 {n : Nat} (h : 127 ≤ n) : b_is n 126 0 22 6 := ⟨by decide, Nat.lt_of_lt_of_le (Nat.le_of_ble_eq_true rfl) h, rfl⟩
theorem iz127 {n : Nat} (h : 128 ≤ n) : b_is n 127 0 21 7 := ⟨by decide, Nat.lt_of_lt_of_le (Nat.le_of_ble_eq_true rfl) h, rfl⟩
theorem iz128 {n : Nat} (h : 129 ≤ n) : b_is n 128 0 22 6 := ⟨by decide, Nat.lt_of_lt_of_le (Nat.le_of_ble_eq_true rfl) h, rfl⟩
theorem iz129 {n : Nat} (h : 130 ≤ n) : b_is n 129 0 21 7 := ⟨by decide, Nat.lt_of_lt_of_le (Nat.le_of_ble_eq_true rfl) h, rfl⟩
theorem iz130 {n : Nat} (h : 131 ≤ n) : b_is n 130 0 22 6 := ⟨by decide, Nat.lt_of_lt_of_le (Nat.le_of_ble_eq_true rfl) h, rfl⟩
theorem iz131 {n : Nat} (h : 132 ≤ n) : b_is n 131 0 21 7 := ⟨by decide, Nat.lt_of_lt_of_le (Nat.le_of_ble_eq_true rfl) h, rfl⟩
theorem iz132 {n : Nat} (h : 133 ≤ n) : b_is n 132 0 22 6 := ⟨by decide, Nat.lt_of_lt_of_le (Nat.le_of_ble_eq_true rfl) h, rfl⟩
theorem iz133 {n : Nat} (h : 134 ≤ n) : b_is n 133 0 21 7 := ⟨by decide, Nat.lt_of_lt_of_le (Nat.le_of_ble_eq_true rfl) h, rfl⟩
theorem iz134 {n : Nat} (h : 135 ≤ n) : b_is n 134 0 22 6 := ⟨by decide, Nat.lt_of_lt_of_le (Nat.le_of_ble_eq_true rfl) h, rfl⟩
theorem iz135 {n : Nat} (h : 136 ≤ n) : b_is n 135 0 21 7 := ⟨by decide, Nat.lt_of_lt_of_le (Nat.le_of_ble_eq_true rfl) h, rfl⟩
theorem iz136 {n : Nat} (h : 137 ≤ n) : b_is n 136 0 22 6 := ⟨by decide, Nat.lt_of_lt_of_le (Nat.le_of_ble_eq_true rfl) h, rfl⟩
theorem iz137 {n : Nat} (h : 138 ≤ n) : b_is n 137 0 21 7 := ⟨by decide, Nat.lt_of_lt_of_le (Nat.le_of_ble_eq_true rfl) h, rfl⟩
theorem iz138 {n : Nat} (h : 139 ≤ n) : b_is n 138 0 22 6 := ⟨by decide, Nat.lt_of_lt_of_le (Nat.le_of_ble_eq_true rfl) h, rfl⟩
theorem iz139 {n : Nat} (h : 140 ≤ n) : b_is n 139 0 21 7 := ⟨by decide, Nat.lt_of_lt_of_le (Nat.le_of_ble_eq_true rfl) h, rfl⟩
theorem iz140 {n : Nat} (h : 141 ≤ n) : b_is n 140 0 22 6 := ⟨by decide, Nat.lt_of_lt_of_le (Nat.le_of_ble_eq_true rfl) h, rfl⟩
theorem iz141 {n : Nat} (h : 142 ≤ n) : b_is n 141 0 21 7 := ⟨by decide, Nat.lt_of_lt_of_le (Nat.le_of_ble_eq_true rfl) h, rfl⟩
theorem iz142 {n : Nat} (h : 143 ≤ n) : b_is n 142 0 22 6 := ⟨by decide, Nat.lt_of_lt_of_le (Nat.le_of_ble_eq_true rfl) h, rfl⟩
theorem iz143 {n : Nat} (h : 144 ≤ n) : b_is n 143 0 23 115 := ⟨by decide, Nat.lt_of_lt_of_le (Nat.le_of_ble_eq_true rfl) h, rfl⟩
theorem iz144 {n : Nat} (h : 145 ≤ n) : b_is n 144 1 0 1300000 := ⟨by decide, Nat.lt_of_lt_of_le (Nat.le_of_ble_eq_true rfl) h, rfl⟩
theorem iz145 {n : Nat} (h : 146 ≤ n) : b_is n 145 1 0 1300000 := ⟨by decide, Nat.lt_of_lt_of_le (Nat.le_of_ble_eq_true rfl) h, rfl⟩
theorem iz146 {n : Nat} (h : 147 ≤ n) : b_is n 146 1 0 20000 := ⟨by decide, Nat.lt_of_lt_of_le (Nat.le_of_ble_eq_true rfl) h, rfl⟩
theorem iz147 {n : Nat} (h : 148 ≤ n) : b_is n 147 1 0 20000 := ⟨by decide, Nat.lt_of_lt_of_le (Nat.le_of_ble_eq_true rfl) h, rfl⟩
theorem iz148 {n : Nat} (h : 149 ≤ n) : b_is n 148 1 0 100 := ⟨by decide, Nat.lt_of_lt_of_le (Nat.le_of_ble_eq_true rfl) h, rfl⟩
theorem iz149 {n : Nat} (h : 150 ≤ n) : b_is n 149 1 0 100 := ⟨by decide, Nat.lt_of_lt_of_le (Nat.le_of_ble_eq_true rfl) h, rfl⟩
theorem iz150 {n : Nat} (h : 151 ≤ n) : b_is n 150 1 0 4096 := ⟨by decide, Nat.lt_of_lt_of_le (Nat.le_of_ble_eq_true rfl) h, rfl⟩
theorem iz151 {n : Nat} (h : 152 ≤ n) : b_is n 151 1 0 80 := ⟨by decide, Nat.lt_of_lt_of_le (Nat.le_of_ble_eq_true rfl) h, rfl⟩
theorem iz152 {n : Nat} (h : 153 ≤ n) : b_is n 152 1 0 80 := ⟨by decide, Nat.lt_of_lt_of_le (Nat.le_of_ble_eq_true rfl) h, rfl⟩
theorem iz153 {n : Nat} (h : 154 ≤ n) : b_is n 153 0 24 3 := ⟨by decide, Nat.lt_of_lt_of_le (Nat.le_of_ble_eq_true rfl) h, rfl⟩
theorem iz154 {n : Nat} (h : 155 ≤ n) : b_is n 154 1 0 180 := ⟨by decide, Nat.lt_of_lt_of_le (Nat.le_of_ble_eq_true rfl) h, rfl⟩
theorem iz155 {n : Nat} (h : 156 ≤ n) : b_is n 155 0 24 3 := ⟨by decide, Nat.lt_of_lt_of_le (Nat.le_of_ble_eq_true rfl) h, rfl⟩
theorem iz156 {n : Nat} (h : 157 ≤ n) : b_is n 156 1 0 180 := ⟨by decide, Nat.lt_of_lt_of_le (Nat.le_of_ble_eq_true rfl) h, rfl⟩
theorem iz157 {n : Nat} (h : 158 ≤ n) : b_is n 157 0 24 3 := ⟨by decide, Nat.lt_of_lt_of_le (Nat.le_of_ble_eq_true rfl) h, rfl⟩
theorem iz158 {n : Nat} (h : 159 ≤ n) : b_is n 158 1 0 180 := ⟨by decide, Nat.lt_of_lt_of_le (Nat.le_of_ble_eq_true rfl) h, rfl⟩
theorem iz159 {n : Nat} (h : 160 ≤ n) : b_is n 159 0 24 3 := ⟨by decide, Nat.lt_of_lt_of_le (Nat.le_of_ble_eq_true rfl) h, rfl⟩
theorem iz160 {n : Nat} (h : 161 ≤ n) : b_is n 160 1 0 180 := ⟨by decide, Nat.lt_of_lt_of_le (Nat.le_of_ble_eq_true rfl) h, rfl⟩
theorem iz161 {n : Nat} (h : 162 ≤ n) : b_is n 161 1 0 40000 := ⟨by decide, Nat.lt_of_lt_of_le (Nat.le_of_ble_eq_true rfl) h, rfl⟩
theorem iz162 {n : Nat} (h : 163 ≤ n) : b_is n 162 1 1 64 := ⟨by decide, Nat.lt_of_lt_of_le (Nat.le_of_ble_eq_true rfl) h, rfl⟩
theorem iz163 {n : Nat} (h : 164 ≤ n) : b_is n 163 0 25 8 := ⟨by decide, Nat.lt_of_lt_of_le (Nat.le_of_ble_eq_true rfl) h, rfl⟩
theorem iz164 {n : Nat} (h : 165 ≤ n) : b_is n 164 1 1 20000 := ⟨by decide, Nat.lt_of_lt_of_le (Nat.le_of_ble_eq_true rfl) h, rfl⟩
theorem iz165 {n : Nat} (h : 166 ≤ n) : b_is n 165 1 0 20000 := ⟨by decide, Nat.lt_of_lt_of_le (Nat.le_of_ble_eq_true rfl) h, rfl⟩
theorem iz166 {n : Nat} (h : 167 ≤ n) : b_is n 166 1 0 20000 := ⟨by decide, Nat.lt_of_lt_of_le (Nat.le_of_ble_eq_true rfl) h, rfl⟩
theorem iz167 {n : Nat} (h : 168 ≤ n) : b_is n 167 1 4 20000 := ⟨by decide, Nat.lt_of_lt_of_le (Nat.le_of_ble_eq_true rfl) h, rfl⟩
theorem iz168 {n : Nat} (h : 169 ≤ n) : b_is n 168 1 1 20000 := ⟨by decide, Nat.lt_of_lt_of_le (Nat.le_of_ble_eq_true rfl) h, rfl⟩
theorem iz169 {n : Nat} (h : 170 ≤ n) : b_is n 169 1 0 20000 := ⟨by decide, Nat.lt_of_lt_of_le (Nat.le_of_ble_eq_true rfl) h, rfl⟩
theorem iz170 {n : Nat} (h : 171 ≤ n) : b_is n 170 1 0 2048 := ⟨by decide, Nat.lt_of_lt_of_le (Nat.le_of_ble_eq_true rfl) h, rfl⟩
theorem iz171 {n : Nat} (h : 172 ≤ n) : b_is n 171 1 1 16384 := ⟨by decide, Nat.lt_of_lt_of_le (Nat.le_of_ble_eq_true rfl) h, rfl⟩
theorem iz172 {n : Nat} (h : 173 ≤ n) : b_is n 172 1 1 65536 := ⟨by decide, Nat.lt_of_lt_of_le (Nat.le_of_ble_eq_true rfl) h, rfl⟩
theorem iz173 {n : Nat} (h : 174 ≤ n) : b_is n 173 1 2 64 := ⟨by decide, Nat.lt_of_lt_of_le (Nat.le_of_ble_eq_true rfl) h, rfl⟩
theorem iz174 {n : Nat} (h : 175 ≤ n) : b_is n 174 1 1 7 := ⟨by decide, Nat.lt_of_lt_of_le (Nat.le_of_ble_eq_true rfl) h, rfl⟩
theorem iz175 {n : Nat} (h : 176 ≤ n) : b_is n 175 1 0 4096 := ⟨by decide, Nat.lt_of_lt_of_le (Nat.le_of_ble_eq_true rfl) h, rfl⟩
theorem iz176 {n : Nat} (h : 177 ≤ n) : b_is n 176 1 0 304 := ⟨by decide, Nat.lt_of_lt_of_le (Nat.le_of_ble_eq_true rfl) h, rfl⟩
theorem iz177 {n : Nat} (h : 178 ≤ n) : b_is n 177 1 0 60000 := ⟨by decide, Nat.lt_of_lt_of_le (Nat.le_of_ble_eq_true rfl) h, rfl⟩
theorem iz178 {n : Nat} (h : 179 ≤ n) : b_is n 178 0 26 20 := ⟨by decide, Nat.lt_of_lt_of_le (Nat.le_of_ble_eq_true rfl) h, rfl⟩
theorem iz179 {n : Nat} (h : 180 ≤ n) : b_is n 179 0 27 1 := ⟨by decide, Nat.lt_of_lt_of_le (Nat.le_of_ble_eq_true rfl) h, rfl⟩
theorem iz180 {n : Nat} (h : 181 ≤ n) : b_is n 180 1 0 108 := ⟨by decide, Nat.lt_of_lt_of_le (Nat.le_of_ble_eq_true rfl) h, rfl⟩
theorem iz181 {n : Nat} (h : 182 ≤ n) : b_is n 181 1 1 16384 := ⟨by decide, Nat.lt_of_lt_of_le (Nat.le_of_ble_eq_true rfl) h, rfl⟩
theorem iz182 {n : Nat} (h : 183 ≤ n) : b_is n 182 1 1 4096 := ⟨by decide, Nat.lt_of_lt_of_le (Nat.le_of_ble_eq_true rfl) h, rfl⟩
theorem iz183 {n : Nat} (h : 184 ≤ n) : b_is n 183 1 0 4096 := ⟨by decide, Nat.lt_of_lt_of_le (Nat.le_of_ble_eq_true rfl) h, rfl⟩
theorem iz184 {n : Nat} (h : 185 ≤ n) : b_is n 184 1 0 4096 := ⟨by decide, Nat.lt_of_lt_of_le (Nat.le_of_ble_eq_true rfl) h, rfl⟩
theorem iz185 {n : Nat} (h : 186 ≤ n) : b_is n 185 1 0 4096 := ⟨by decide, Nat.lt_of_lt_of_le (Nat.le_of_ble_eq_true rfl) h, rfl⟩
theorem iz186 {n : Nat} (h : 187 ≤ n) : b_is n 186 1 0 4096 := ⟨by decide, Nat.lt_of_lt_of_le (Nat.le_of_ble_eq_true rfl) h, rfl⟩
theorem iz187 {n : Nat} (h : 188 ≤ n) : b_is n 187 1 0 4096 := ⟨by decide, Nat.lt_of_lt_of_le (Nat.le_of_ble_eq_true rfl) h, rfl⟩
theorem iz188 {n : Nat} (h : 189 ≤ n) : b_is n 188 1 0 4096 := ⟨by decide, Nat.lt_of_lt_of_le (Nat.le_of_ble_eq_true rfl) h, rfl⟩
theorem iz189 {n : Nat} (h : 190 ≤ n) : b_is n 189 1 0 4096 := ⟨by decide, Nat.lt_of_lt_of_le (Nat.le_of_ble_eq_true rfl) h, rfl⟩
theorem iz190 {n : Nat} (h : 191 ≤ n) : b_is n 190 1 0 4096 := ⟨by decide, Nat.lt_of_lt_of_le (Nat.le_of_ble_eq_true rfl) h, rfl⟩
theorem iz191 {n : Nat} (h : 192 ≤ n) : b_is n 191 1 0 4096 := ⟨by decide, Nat.lt_of_lt_of_le (Nat.le_of_ble_eq_true rfl) h, rfl⟩
theorem iz192 {n : Nat} (h : 193 ≤ n) : b_is n 192 1 2 4096 := ⟨by decide, Nat.lt_of_lt_of_le (Nat.le_of_ble_eq_true rfl) h, rfl⟩
theorem iz193 {n : Nat} (h : 194 ≤ n) : b_is n 193 0 24 3 := ⟨by decide, Nat.lt_of_lt_of_le (Nat.le_of_ble_eq_true rfl) h, rfl⟩
theorem iz194 {n : Nat} (h : 195 ≤ n) : b_is n 194 1 0 180 := ⟨by decide, Nat.lt_of_lt_of_le (Nat.le_of_ble_eq_true rfl) h, rfl⟩
theorem iz195 {n : Nat} (h : 196 ≤ n) : b_is n 195 0 26 20 := ⟨by decide, Nat.lt_of_lt_of_le (Nat.le_of_ble_eq_true rfl) h, rfl⟩
theorem iz196 {n : Nat} (h : 197 ≤ n) : b_is n 196 0 27 1 := ⟨by decide, Nat.lt_of_lt_of_le (Nat.le_of_ble_eq_true rfl) h, rfl⟩
theorem iz197 {n : Nat} (h : 198 ≤ n) : b_is n 197 1 0 108 := ⟨by decide, Nat.lt_of_lt_of_le (Nat.le_of_ble_eq_true rfl) h, rfl⟩
theorem iz198 {n : Nat} (h : 199 ≤ n) : b_is n 198 1 1 16384 := ⟨by decide, Nat.lt_of_lt_of_le (Nat.le_of_ble_eq_true rfl) h, rfl⟩
theorem iz199 {n : Nat} (h : 200 ≤ n) : b_is n 199 1 1 4096 := ⟨by decide, Nat.lt_of_lt_of_le (Nat.le_of_ble_eq_true rfl) h, rfl⟩
theorem iz200 {n : Nat} (h : 201 ≤ n) : b_is n 200 1 0 4096 := ⟨by decide, Nat.lt_of_lt_of_le (Nat.le_of_ble_eq_true rfl) h, rfl⟩
theorem iz201 {n : Nat} (h : 202 ≤ n) : b_is n 201 1 0 4096 := ⟨by decide, Nat.lt_of_lt_of_le (Nat.le_of_ble_eq_true rfl) h, rfl⟩
theorem iz202 {n : Nat} (h : 203 ≤ n) : b_is n 202 1 0 4096 := ⟨by decide, Nat.lt_of_lt_of_le (Nat.le_of_ble_eq_true rfl) h, rfl⟩
theorem iz203 {n : Nat} (h : 204 ≤ n) : b_is n 203 1 0 4096 := ⟨by decide, Nat.lt_of_lt_of_le (Nat.le_of_ble_eq_true rfl) h, rfl⟩
theorem iz204 {n : Nat} (h : 205 ≤ n) : b_is n 204 1 0 4096 := ⟨by decide, Nat.lt_of_lt_of_le (Nat.le_of_ble_eq_true rfl) h, rfl⟩
theorem iz205 {n : Nat} (h : 206 ≤ n) : b_is n 205 1 0 4096 := ⟨by decide, Nat.lt_of_lt_of_le (Nat.le_of_ble_eq_true rfl) h, rfl⟩
theorem iz206 {n : Nat} (h : 207 ≤ n) : b_is n 206 1 0 4096 := ⟨by decide, Nat.lt_of_lt_of_le (Nat.le_of_ble_eq_true rfl) h, rfl⟩
theorem iz207 {n : Nat} (h : 208 ≤ n) : b_is n 207 1 0 4096 := ⟨by decide, Nat.lt_of_lt_of_le (Nat.le_of_ble_eq_true rfl) h, rfl⟩
theorem iz208 {n : Nat} (h : 209 ≤ n) : b_is n 208 1 0 4096 := ⟨by decide, Nat.lt_of_lt_of_le (Nat.le_of_ble_eq_true rfl) h, rfl⟩
theorem iz209 {n : Nat} (h : 210 ≤ n) : b_is n 209 1 2 4096 := ⟨by decide, Nat.lt_of_lt_of_le (Nat.le_of_ble_eq_true rfl) h, rfl⟩
theorem iz210 {n : Nat} (h : 211 ≤ n) : b_is n 210 0 24 3 := ⟨by decide, Nat.lt_of_lt_of_le (Nat.le_of_ble_eq_true rfl) h, rfl⟩
theorem iz211 {n : Nat} (h : 212 ≤ n) : b_is n 211 1 0 180 := ⟨by decide, Nat.lt_of_lt_of_le (Nat.le_of_ble_eq_true rfl) h, rfl⟩
theorem iz212 {n : Nat} (h : 213 ≤ n) : b_is n 212 0 26 20 := ⟨by decide, Nat.lt_of_lt_of_le (Nat.le_of_ble_eq_true rfl) h, rfl⟩
theorem iz213 {n : Nat} (h : 214 ≤ n) : b_is n 213 0 27 1 := ⟨by decide, Nat.lt_of_lt_of_le (Nat.le_of_ble_eq_true rfl) h, rfl⟩
theorem iz214 {n : Nat} (h : 215 ≤ n) : b_is n 214 1 0 108 := ⟨by decide, Nat.lt_of_lt_of_le (Nat.le_of_ble_eq_true rfl) h, rfl⟩
theorem iz215 {n : Nat} (h : 216 ≤ n) : b_is n 215 1 1 16384 := ⟨by decide, Nat.lt_of_lt_of_le (Nat.le_of_ble_eq_true rfl) h, rfl⟩
theorem iz216 {n : Nat} (h : 217 ≤ n) : b_is n 216 1 1 4096 := ⟨by decide, Nat.lt_of_lt_of_le (Nat.le_of_ble_eq_true rfl) h, rfl⟩
theorem iz217 {n : Nat} (h : 218 ≤ n) : b_is n 217 1 0 4096 := ⟨by decide, Nat.lt_of_lt_of_le (Nat.le_of_ble_eq_true rfl) h, rfl⟩
theorem iz218 {n : Nat} (h : 219 ≤ n) : b_is n 218 1 0 4096 := ⟨by decide, Nat.lt_of_lt_of_le (Nat.le_of_ble_eq_true rfl) h, rfl⟩
theorem iz219 {n : Nat} (h : 220 ≤ n) : b_is n 219 1 0 4096 := ⟨by decide, Nat.lt_of_lt_of_le (Nat.le_of_ble_eq_true rfl) h, rfl⟩
theorem iz220 {n : Nat} (h : 221 ≤ n) : b_is n 220 1 0 4096 := ⟨by decide, Nat.lt_of_lt_of_le (Nat.le_of_ble_eq_true rfl) h, rfl⟩
theorem iz221 {n : Nat} (h : 222 ≤ n) : b_is n 221 1 0 4096 := ⟨by decide, Nat.lt_of_lt_of_le (Nat.le_of_ble_eq_true rfl) h, rfl⟩
theorem iz222 {n : Nat} (h : 223 ≤ n) : b_is n 222 1 0 4096 := ⟨by decide, Nat.lt_of_lt_of_le (Nat.le_of_ble_eq_true rfl) h, rfl⟩
theorem iz223 {n : Nat} (h : 224 ≤ n) : b_is n 223 1 0 4096 := ⟨by decide, Nat.lt_of_lt_of_le (Nat.le_of_ble_eq_true rfl) h, rfl⟩
theorem iz224 {n : Nat} (h : 225 ≤ n) : b_is n 224 1 0 4096 := ⟨by decide, Nat.lt_of_lt_of_le (Nat.le_of_ble_eq_true rfl) h, rfl⟩
theorem iz225 {n : Nat} (h : 226 ≤ n) : b_is n 225 1 0 4096 := ⟨by decide, Nat.lt_of_lt_of_le (Nat.le_of_ble_eq_true rfl) h, rfl⟩
theorem iz226 {n : Nat} (h : 227 ≤ n) : b_is n 226 1 2 4096 := ⟨by decide, Nat.lt_of_lt_of_le (Nat.le_of_ble_eq_true rfl) h, rfl⟩
theorem iz227 {n : Nat} (h : 228 ≤ n) : b_is n 227 0 24 3 := ⟨by decide, Nat.lt_of_lt_of_le (Nat.le_of_ble_eq_true rfl) h, rfl⟩
theorem iz228 {n : Nat} (h : 229 ≤ n) : b_is n 228 1 0 180 := ⟨by decide, Nat.lt_of_lt_of_le (Nat.le_of_ble_eq_true rfl) h, rfl⟩
theorem iz229 {n : Nat} (h : 230 ≤ n) : b_is n 229 1 0 40000 := ⟨by decide, Nat.lt_of_lt_of_le (Nat.le_of_ble_eq_true rfl) h, rfl⟩
theorem iz230 {n : Nat} (h : 231 ≤ n) : b_is n 230 1 2 1024 := ⟨by decide, Nat.lt_of_lt_of_le (Nat.le_of_ble_eq_true rfl) h, rfl⟩
theorem iz231 {n : Nat} (h : 232 ≤ n) : b_is n 231 2 3 100 := ⟨by decide, Nat.lt_of_lt_of_le (Nat.le_of_ble_eq_true rfl) h, rfl⟩
theorem iz232 {n : Nat} (h : 233 ≤ n) : b_is n 232 1 0 100 := ⟨by decide, Nat.lt_of_lt_of_le (Nat.le_of_ble_eq_true rfl) h, rfl⟩
theorem iz233 {n : Nat} (h : 234 ≤ n) : b_is n 233 1 2 100 := ⟨by decide, Nat.lt_of_lt_of_le (Nat.le_of_ble_eq_true rfl) h, rfl⟩
theorem iz234 {n : Nat} (h : 235 ≤ n) : b_is n 234 2 3 100 := ⟨by decide, Nat.lt_of_lt_of_le (Nat.le_of_ble_eq_true rfl) h, rfl⟩
theorem iz235 {n : Nat} (h : 236 ≤ n) : b_is n 235 1 0 100 := ⟨by decide, Nat.lt_of_lt_of_le (Nat.le_of_ble_eq_true rfl) h, rfl⟩
theorem iz236 {n : Nat} (h : 237 ≤ n) : b_is n 236 1 0 100 := ⟨by decide, Nat.lt_of_lt_of_le (Nat.le_of_ble_eq_true rfl) h, rfl⟩
theorem iz237 {n : Nat} (h : 238 ≤ n) : b_is n 237 1 0 100 := ⟨by decide, Nat.lt_of_lt_of_le (Nat.le_of_ble_eq_true rfl) h, rfl⟩
theorem iz238 {n : Nat} (h : 239 ≤ n) : b_is n 238 1 1 80000 := ⟨by decide, Nat.lt_of_lt_of_le (Nat.le_of_ble_eq_true rfl) h, rfl⟩
theorem iz239 {n : Nat} (h : 240 ≤ n) : b_is n 239 2 3 100 := ⟨by decide, Nat.lt_of_lt_of_le (Nat.le_of_ble_eq_true rfl) h, rfl⟩
theorem iz240 {n : Nat} (h : 241 ≤ n) : b_is n 240 2 3 100 := ⟨by decide, Nat.lt_of_lt_of_le (Nat.le_of_ble_eq_true rfl) h, rfl⟩
theorem iz241 {n : Nat} (h : 242 ≤ n) : b_is n 241 1 2 100 := ⟨by decide, Nat.lt_of_lt_of_le (Nat.le_of_ble_eq_true rfl) h, rfl⟩
theorem iz242 {n : Nat} (h : 243 ≤ n) : b_is n 242 1 0 100 := ⟨by decide, Nat.lt_of_lt_of_le (Nat.le_of_ble_eq_true rfl) h, rfl⟩
theorem iz243 {n : Nat} (h : 244 ≤ n) : b_is n 243 2 3 16 := ⟨by decide, Nat.lt_of_lt_of_le (Nat.le_of_ble_eq_true rfl) h, rfl⟩
theorem iz244 {n : Nat} (h : 245 ≤ n) : b_is n 244 1 0 16 := ⟨by decide, Nat.lt_of_lt_of_le (Nat.le_of_ble_eq_true rfl) h, rfl⟩
theorem iz245 {n : Nat} (h : 246 ≤ n) : b_is n 245 1 0 16 := ⟨by decide, Nat.lt_of_lt_of_le (Nat.le_of_ble_eq_true rfl) h, rfl⟩
theorem iz246 {n : Nat} (h : 247 ≤ n) : b_is n 246 2 3 16 := ⟨by decide, Nat.lt_of_lt_of_le (Nat.le_of_ble_eq_true rfl) h, rfl⟩
theorem iz247 {n : Nat} (h : 248 ≤ n) : b_is n 247 1 2 16 := ⟨by decide, Nat.lt_of_lt_of_le (Nat.le_of_ble_eq_true rfl) h, rfl⟩
theorem iz248 {n : Nat} (h : 249 ≤ n) : b_is n 248 1 0 17 := ⟨by decide, Nat.lt_of_lt_of_le (Nat.le_of_ble_eq_true rfl) h, rfl⟩
theorem iz249 {n : Nat} (h : 250 ≤ n) : b_is n 249 1 1 16384 := ⟨by decide, Nat.lt_of_lt_of_le (Nat.le_of_ble_eq_true rfl) h, rfl⟩
theorem iz250 {n : Nat} (h : 251 ≤ n) : b_is n 250 1 1 64 := ⟨by decide, Nat.lt_of_lt_of_le (Nat.le_of_ble_eq_true rfl) h, rfl⟩
theorem iz251 {n : Nat} (h : 252 ≤ n) : b_is n 251 1 0 96 := ⟨by decide, Nat.lt_of_lt_of_le (Nat.le_of_ble_eq_true rfl) h, rfl⟩
theorem iz252 {n : Nat} (h : 253 ≤ n) : b_is n 252 1 1 16384 := ⟨by decide, Nat.lt_of_lt_of_le (Nat.le_of_ble_eq_true rfl) h, rfl⟩
theorem iz253 {n : Nat} (h : 254 ≤ n) : b_is n 253 1 1 65536 := ⟨by decide, Nat.lt_of_lt_of_le (Nat.le_of_ble_eq_true rfl) h, rfl⟩
theorem iz254 {n : Nat} (h : 255 ≤ n) : b_is n 254 2 3 1 := ⟨by decide, Nat.lt_of_lt_of_le (Nat.le_of_ble_eq_true rfl) h, rfl⟩
theorem fn_0_0 : ((0 : Int), (0 : Int), (1 : Int)) ∈ b_finL := List.mem_of_getElem? (i := 0) rfl
theorem fn_0_2 : ((0 : Int), (2 : Int), (2 : Int)) ∈ b_finL := List.mem_of_getElem? (i := 1) rfl
theorem fn_0_3 : ((0 : Int), (3 : Int), (4 : Int)) ∈ b_finL := List.mem_of_getElem? (i := 2) rfl
theorem fn_0_4 : ((0 : Int), (4 : Int), (6 : Int)) ∈ b_finL := List.mem_of_getElem? (i := 3) rfl
theorem fn_0_5 : ((0 : Int), (5 : Int), (19 : Int)) ∈ b_finL := List.mem_of_getElem? (i := 4) rfl
theorem fn_0_6 : ((0 : Int), (6 : Int), (27 : Int)) ∈ b_finL := List.mem_of_getElem? (i := 5) rfl
theorem fn_0_7 : ((0 : Int), (7 : Int), (33 : Int)) ∈ b_finL := List.mem_of_getElem? (i := 6) rfl
theorem fn_0_8 : ((0 : Int), (8 : Int), (38 : Int)) ∈ b_finL := List.mem_of_getElem? (i := 7) rfl
theorem fn_0_9 : ((0 : Int), (9 : Int), (39 : Int)) ∈ b_finL := List.mem_of_getElem? (i := 8) rfl
theorem fn_0_10 : ((0 : Int), (10 : Int), (41 : Int)) ∈ b_finL := List.mem_of_getElem? (i := 9) rfl
theorem fn_0_11 : ((0 : Int), (11 : Int), (46 : Int)) ∈ b_finL := List.mem_of_getElem? (i := 10) rfl
theorem fn_0_12 : ((0 : Int), (12 : Int), (50 : Int)) ∈ b_finL := List.mem_of_getElem? (i := 11) rfl
theorem fn_0_13 : ((0 : Int), (13 : Int), (53 : Int)) ∈ b_finL := List.mem_of_getElem? (i := 12) rfl
theorem fn_0_14 : ((0 : Int), (14 : Int), (65 : Int)) ∈ b_finL := List.mem_of_getElem? (i := 13) rfl
theorem fn_0_15 : ((0 : Int), (15 : Int), (70 : Int)) ∈ b_finL := List.mem_of_getElem? (i := 14) rfl
theorem fn_0_16 : ((0 : Int), (16 : Int), (82 : Int)) ∈ b_finL := List.mem_of_getElem? (i := 15) rfl
theorem fn_0_17 : ((0 : Int), (17 : Int), (83 : Int)) ∈ b_finL := List.mem_of_getElem? (i := 16) rfl
theorem fn_0_18 : ((0 : Int), (18 : Int), (102 : Int)) ∈ b_finL := List.mem_of_getElem? (i := 17) rfl
theorem fn_0_19 : ((0 : Int), (19 : Int), (107 : Int)) ∈ b_finL := List.mem_of_getElem? (i := 18) rfl
theorem fn_0_27 : ((0 : Int), (27 : Int), (108 : Int)) ∈ b_finL := List.mem_of_getElem? (i := 19) rfl
theorem fn_0_29 : ((0 : Int), (29 : Int), (109 : Int)) ∈ b_finL := List.mem_of_getElem? (i := 20) rfl
theorem fn_0_31 : ((0 : Int), (31 : Int), (110 : Int)) ∈ b_finL := List.mem_of_getElem? (i := 21) rfl
theorem fn_2_1 : ((2 : Int), (1 : Int), (3 : Int)) ∈ b_finL := List.mem_of_getElem? (i := 22) rfl
theorem fn_4_0 : ((4 : Int), (0 : Int), (5 : Int)) ∈ b_finL := List.mem_of_getElem? (i := 23) rfl
theorem fn_6_0 : ((6 : Int), (0 : Int), (4 : Int)) ∈ b_finL := List.mem_of_getElem? (i := 24) rfl
theorem fn_6_1 : ((6 : Int), (1 : Int), (7 : Int)) ∈ b_finL := List.mem_of_getElem? (i := 25) rfl
theorem fn_6_2 : ((6 : Int), (2 : Int), (8 : Int)) ∈ b_finL := List.mem_of_getElem? (i := 26) rfl
theorem fn_6_3 : ((6 : Int), (3 : Int), (10 : Int)) ∈ b_finL := List.mem_of_getElem? (i := 27) rfl
theorem fn_6_4 : ((6 : Int), (4 : Int), (11 : Int)) ∈ b_finL := List.mem_of_getElem? (i := 28) rfl
theorem fn_6_5 : ((6 : Int), (5 : Int), (12 : Int)) ∈ b_finL := List.mem_of_getElem? (i := 29) rfl
theorem fn_6_6 : ((6 : Int), (6 : Int), (13 : Int)) ∈ b_finL := List.mem_of_getElem? (i := 30) rfl
theorem fn_6_7 : ((6 : Int), (7 : Int), (14 : Int)) ∈ b_finL := List.mem_of_getElem? (i := 31) rfl
theorem fn_6_8 : ((6 : Int), (8 : Int), (15 : Int)) ∈ b_finL := List.mem_of_getElem? (i := 32) rfl
theorem fn_6_9 : ((6 : Int), (9 : Int), (16 : Int)) ∈ b_finL := List.mem_of_getElem? (i := 33) rfl
theorem fn_6_10 : ((6 : Int), (10 : Int), (17 : Int)) ∈ b_finL := List.mem_of_getElem? (i := 34) rfl
theorem fn_6_11 : ((6 : Int), (11 : Int), (18 : Int)) ∈ b_finL := List.mem_of_getElem? (i := 35) rfl
theorem fn_8_0 : ((8 : Int), (0 : Int), (9 : Int)) ∈ b_finL := List.mem_of_getElem? (i := 36) rfl
theorem fn_19_0 : ((19 : Int), (0 : Int), (20 : Int)) ∈ b_finL := List.mem_of_getElem? (i := 37) rfl
theorem fn_19_1 : ((19 : Int), (1 : Int), (21 : Int)) ∈ b_finL := List.mem_of_getElem? (i := 38) rfl
theorem fn_19_2 : ((19 : Int), (2 : Int), (22 : Int)) ∈ b_finL := List.mem_of_getElem? (i := 39) rfl
theorem fn_19_3 : ((19 : Int), (3 : Int), (23 : Int)) ∈ b_finL := List.mem_of_getElem? (i := 40) rfl
theorem fn_19_4 : ((19 : Int), (4 : Int), (24 : Int)) ∈ b_finL := List.mem_of_getElem? (i := 41) rfl
theorem fn_19_5 : ((19 : Int), (5 : Int), (25 : Int)) ∈ b_finL := List.mem_of_getElem? (i := 42) rfl
theorem fn_19_6 : ((19 : Int), (6 : Int), (26 : Int)) ∈ b_finL := List.mem_of_getElem? (i := 43) rfl
theorem fn_27_3 : ((27 : Int), (3 : Int), (30 : Int)) ∈ b_finL := List.mem_of_getElem? (i := 44) rfl
theorem fn_27_6 : ((27 : Int), (6 : Int), (2 : Int)) ∈ b_finL := List.mem_of_getElem? (i := 45) rfl
theorem fn_27_7 : ((27 : Int), (7 : Int), (31 : Int)) ∈ b_finL := List.mem_of_getElem? (i := 46) rfl
theorem fn_31_0 : ((31 : Int), (0 : Int), (32 : Int)) ∈ b_finL := List.mem_of_getElem? (i := 47) rfl
theorem fn_33_0 : ((33 : Int), (0 : Int), (27 : Int)) ∈ b_finL := List.mem_of_getElem? (i := 48) rfl
theorem fn_33_1 : ((33 : Int), (1 : Int), (19 : Int)) ∈ b_finL := List.mem_of_getElem? (i := 49) rfl
theorem fn_33_2 : ((33 : Int), (2 : Int), (34 : Int)) ∈ b_finL := List.mem_of_getElem? (i := 50) rfl
theorem fn_33_3 : ((33 : Int), (3 : Int), (36 : Int)) ∈ b_finL := List.mem_of_getElem? (i := 51) rfl
theorem fn_34_0 : ((34 : Int), (0 : Int), (35 : Int)) ∈ b_finL := List.mem_of_getElem? (i := 52) rfl
theorem fn_36_0 : ((36 : Int), (0 : Int), (37 : Int)) ∈ b_finL := List.mem_of_getElem? (i := 53) rfl
theorem fn_38_0 : ((38 : Int), (0 : Int), (27 : Int)) ∈ b_finL := List.mem_of_getElem? (i := 54) rfl
theorem fn_38_1 : ((38 : Int), (1 : Int), (33 : Int)) ∈ b_finL := List.mem_of_getElem? (i := 55) rfl
theorem fn_39_1 : ((39 : Int), (1 : Int), (40 : Int)) ∈ b_finL := List.mem_of_getElem? (i := 56) rfl
theorem fn_41_0 : ((41 : Int), (0 : Int), (6 : Int)) ∈ b_finL := List.mem_of_getElem? (i := 57) rfl
theorem fn_41_1 : ((41 : Int), (1 : Int), (19 : Int)) ∈ b_finL := List.mem_of_getElem? (i := 58) rfl
theorem fn_41_2 : ((41 : Int), (2 : Int), (27 : Int)) ∈ b_finL := List.mem_of_getElem? (i := 59) rfl
theorem fn_41_3 : ((41 : Int), (3 : Int), (33 : Int)) ∈ b_finL := List.mem_of_getElem? (i := 60) rfl
theorem fn_41_4 : ((41 : Int), (4 : Int), (38 : Int)) ∈ b_finL := List.mem_of_getElem? (i := 61) rfl
theorem fn_41_5 : ((41 : Int), (5 : Int), (39 : Int)) ∈ b_finL := List.mem_of_getElem? (i := 62) rfl
theorem fn_41_6 : ((41 : Int), (6 : Int), (42 : Int)) ∈ b_finL := List.mem_of_getElem? (i := 63) rfl
theorem fn_41_7 : ((41 : Int), (7 : Int), (44 : Int)) ∈ b_finL := List.mem_of_getElem? (i := 64) rfl
theorem fn_41_9 : ((41 : Int), (9 : Int), (45 : Int)) ∈ b_finL := List.mem_of_getElem? (i := 65) rfl
theorem fn_42_0 : ((42 : Int), (0 : Int), (43 : Int)) ∈ b_finL := List.mem_of_getElem? (i := 66) rfl
theorem fn_46_0 : ((46 : Int), (0 : Int), (19 : Int)) ∈ b_finL := List.mem_of_getElem? (i := 67) rfl
theorem fn_46_1 : ((46 : Int), (1 : Int), (27 : Int)) ∈ b_finL := List.mem_of_getElem? (i := 68) rfl
theorem fn_46_2 : ((46 : Int), (2 : Int), (33 : Int)) ∈ b_finL := List.mem_of_getElem? (i := 69) rfl
theorem fn_46_3 : ((46 : Int), (3 : Int), (38 : Int)) ∈ b_finL := List.mem_of_getElem? (i := 70) rfl
theorem fn_46_4 : ((46 : Int), (4 : Int), (39 : Int)) ∈ b_finL := List.mem_of_getElem? (i := 71) rfl
theorem fn_46_5 : ((46 : Int), (5 : Int), (47 : Int)) ∈ b_finL := List.mem_of_getElem? (i := 72) rfl
theorem fn_46_11 : ((46 : Int), (11 : Int), (49 : Int)) ∈ b_finL := List.mem_of_getElem? (i := 73) rfl
theorem fn_47_0 : ((47 : Int), (0 : Int), (48 : Int)) ∈ b_finL := List.mem_of_getElem? (i := 74) rfl
theorem fn_50_0 : ((50 : Int), (0 : Int), (51 : Int)) ∈ b_finL := List.mem_of_getElem? (i := 75) rfl
theorem fn_50_1 : ((50 : Int), (1 : Int), (52 : Int)) ∈ b_finL := List.mem_of_getElem? (i := 76) rfl
theorem fn_53_0 : ((53 : Int), (0 : Int), (54 : Int)) ∈ b_finL := List.mem_of_getElem? (i := 77) rfl
theorem fn_53_1 : ((53 : Int), (1 : Int), (55 : Int)) ∈ b_finL := List.mem_of_getElem? (i := 78) rfl
theorem fn_53_2 : ((53 : Int), (2 : Int), (56 : Int)) ∈ b_finL := List.mem_of_getElem? (i := 79) rfl
theorem fn_53_3 : ((53 : Int), (3 : Int), (57 : Int)) ∈ b_finL := List.mem_of_getElem? (i := 80) rfl
theorem fn_53_4 : ((53 : Int), (4 : Int), (58 : Int)) ∈ b_finL := List.mem_of_getElem? (i := 81) rfl
theorem fn_53_5 : ((53 : Int), (5 : Int), (59 : Int)) ∈ b_finL := List.mem_of_getElem? (i := 82) rfl
theorem fn_53_7 : ((53 : Int), (7 : Int), (60 : Int)) ∈ b_finL := List.mem_of_getElem? (i := 83) rfl
theorem fn_53_8 : ((53 : Int), (8 : Int), (61 : Int)) ∈ b_finL := List.mem_of_getElem? (i := 84) rfl
theorem fn_53_9 : ((53 : Int), (9 : Int), (62 : Int)) ∈ b_finL := List.mem_of_getElem? (i := 85) rfl
theorem fn_53_10 : ((53 : Int), (10 : Int), (63 : Int)) ∈ b_finL := List.mem_of_getElem? (i := 86) rfl
theorem fn_53_12 : ((53 : Int), (12 : Int), (64 : Int)) ∈ b_finL := List.mem_of_getElem? (i := 87) rfl
theorem fn_65_0 : ((65 : Int), (0 : Int), (6 : Int)) ∈ b_finL := List.mem_of_getElem? (i := 88) rfl
theorem fn_65_1 : ((65 : Int), (1 : Int), (19 : Int)) ∈ b_finL := List.mem_of_getElem? (i := 89) rfl
theorem fn_65_2 : ((65 : Int), (2 : Int), (50 : Int)) ∈ b_finL := List.mem_of_getElem? (i := 90) rfl
theorem fn_65_3 : ((65 : Int), (3 : Int), (53 : Int)) ∈ b_finL := List.mem_of_getElem? (i := 91) rfl
theorem fn_65_4 : ((65 : Int), (4 : Int), (41 : Int)) ∈ b_finL := List.mem_of_getElem? (i := 92) rfl
theorem fn_65_5 : ((65 : Int), (5 : Int), (27 : Int)) ∈ b_finL := List.mem_of_getElem? (i := 93) rfl
theorem fn_65_6 : ((65 : Int), (6 : Int), (66 : Int)) ∈ b_finL := List.mem_of_getElem? (i := 94) rfl
theorem fn_65_7 : ((65 : Int), (7 : Int), (68 : Int)) ∈ b_finL := List.mem_of_getElem? (i := 95) rfl
theorem fn_65_9 : ((65 : Int), (9 : Int), (69 : Int)) ∈ b_finL := List.mem_of_getElem? (i := 96) rfl
theorem fn_66_0 : ((66 : Int), (0 : Int), (67 : Int)) ∈ b_finL := List.mem_of_getElem? (i := 97) rfl
theorem fn_70_0 : ((70 : Int), (0 : Int), (71 : Int)) ∈ b_finL := List.mem_of_getElem? (i := 98) rfl
theorem fn_70_1 : ((70 : Int), (1 : Int), (72 : Int)) ∈ b_finL := List.mem_of_getElem? (i := 99) rfl
theorem fn_70_2 : ((70 : Int), (2 : Int), (73 : Int)) ∈ b_finL := List.mem_of_getElem? (i := 100) rfl
theorem fn_70_3 : ((70 : Int), (3 : Int), (74 : Int)) ∈ b_finL := List.mem_of_getElem? (i := 101) rfl
theorem fn_70_4 : ((70 : Int), (4 : Int), (75 : Int)) ∈ b_finL := List.mem_of_getElem? (i := 102) rfl
theorem fn_70_5 : ((70 : Int), (5 : Int), (76 : Int)) ∈ b_finL := List.mem_of_getElem? (i := 103) rfl
theorem fn_70_14 : ((70 : Int), (14 : Int), (77 : Int)) ∈ b_finL := List.mem_of_getElem? (i := 104) rfl
theorem fn_70_15 : ((70 : Int), (15 : Int), (78 : Int)) ∈ b_finL := List.mem_of_getElem? (i := 105) rfl
theorem fn_70_16 : ((70 : Int), (16 : Int), (79 : Int)) ∈ b_finL := List.mem_of_getElem? (i := 106) rfl
theorem fn_70_17 : ((70 : Int), (17 : Int), (80 : Int)) ∈ b_finL := List.mem_of_getElem? (i := 107) rfl
theorem fn_70_18 : ((70 : Int), (18 : Int), (81 : Int)) ∈ b_finL := List.mem_of_getElem? (i := 108) rfl
theorem fn_82_0 : ((82 : Int), (0 : Int), (2 : Int)) ∈ b_finL := List.mem_of_getElem? (i := 109) rfl
theorem fn_83_0 : ((83 : Int), (0 : Int), (27 : Int)) ∈ b_finL := List.mem_of_getElem? (i := 110) rfl
theorem fn_83_1 : ((83 : Int), (1 : Int), (19 : Int)) ∈ b_finL := List.mem_of_getElem? (i := 111) rfl
theorem fn_83_2 : ((83 : Int), (2 : Int), (53 : Int)) ∈ b_finL := List.mem_of_getElem? (i := 112) rfl
theorem fn_83_3 : ((83 : Int), (3 : Int), (50 : Int)) ∈ b_finL := List.mem_of_getElem? (i := 113) rfl
theorem fn_83_4 : ((83 : Int), (4 : Int), (33 : Int)) ∈ b_finL := List.mem_of_getElem? (i := 114) rfl
theorem fn_83_5 : ((83 : Int), (5 : Int), (38 : Int)) ∈ b_finL := List.mem_of_getElem? (i := 115) rfl
theorem fn_83_6 : ((83 : Int), (6 : Int), (46 : Int)) ∈ b_finL := List.mem_of_getElem? (i := 116) rfl
theorem fn_83_7 : ((83 : Int), (7 : Int), (39 : Int)) ∈ b_finL := List.mem_of_getElem? (i := 117) rfl
theorem fn_83_8 : ((83 : Int), (8 : Int), (70 : Int)) ∈ b_finL := List.mem_of_getElem? (i := 118) rfl
theorem fn_83_9 : ((83 : Int), (9 : Int), (2 : Int)) ∈ b_finL := List.mem_of_getElem? (i := 119) rfl
theorem fn_83_10 : ((83 : Int), (10 : Int), (82 : Int)) ∈ b_finL := List.mem_of_getElem? (i := 120) rfl
theorem fn_83_11 : ((83 : Int), (11 : Int), (84 : Int)) ∈ b_finL := List.mem_of_getElem? (i := 121) rfl
theorem fn_83_12 : ((83 : Int), (12 : Int), (89 : Int)) ∈ b_finL := List.mem_of_getElem? (i := 122) rfl
theorem fn_83_13 : ((83 : Int), (13 : Int), (91 : Int)) ∈ b_finL := List.mem_of_getElem? (i := 123) rfl
theorem fn_83_14 : ((83 : Int), (14 : Int), (93 : Int)) ∈ b_finL := List.mem_of_getElem? (i := 124) rfl
theorem fn_83_15 : ((83 : Int), (15 : Int), (95 : Int)) ∈ b_finL := List.mem_of_getElem? (i := 125) rfl
theorem fn_83_16 : ((83 : Int), (16 : Int), (97 : Int)) ∈ b_finL := List.mem_of_getElem? (i := 126) rfl
theorem fn_83_18 : ((83 : Int), (18 : Int), (98 : Int)) ∈ b_finL := List.mem_of_getElem? (i := 127) rfl
theorem fn_83_20 : ((83 : Int), (20 : Int), (99 : Int)) ∈ b_finL := List.mem_of_getElem? (i := 128) rfl
theorem fn_83_23 : ((83 : Int), (23 : Int), (100 : Int)) ∈ b_finL := List.mem_of_getElem? (i := 129) rfl
theorem fn_83_24 : ((83 : Int), (24 : Int), (101 : Int)) ∈ b_finL := List.mem_of_getElem? (i := 130) rfl
theorem fn_84_0 : ((84 : Int), (0 : Int), (85 : Int)) ∈ b_finL := List.mem_of_getElem? (i := 131) rfl
theorem fn_84_1 : ((84 : Int), (1 : Int), (86 : Int)) ∈ b_finL := List.mem_of_getElem? (i := 132) rfl
theorem fn_84_2 : ((84 : Int), (2 : Int), (87 : Int)) ∈ b_finL := List.mem_of_getElem? (i := 133) rfl
theorem fn_87_0 : ((87 : Int), (0 : Int), (88 : Int)) ∈ b_finL := List.mem_of_getElem? (i := 134) rfl
theorem fn_89_0 : ((89 : Int), (0 : Int), (90 : Int)) ∈ b_finL := List.mem_of_getElem? (i := 135) rfl
theorem fn_91_0 : ((91 : Int), (0 : Int), (92 : Int)) ∈ b_finL := List.mem_of_getElem? (i := 136) rfl
theorem fn_93_0 : ((93 : Int), (0 : Int), (94 : Int)) ∈ b_finL := List.mem_of_getElem? (i := 137) rfl
theorem fn_95_0 : ((95 : Int), (0 : Int), (96 : Int)) ∈ b_finL := List.mem_of_getElem? (i := 138) rfl
theorem fn_102_0 : ((102 : Int), (0 : Int), (6 : Int)) ∈ b_finL := List.mem_of_getElem? (i := 139) rfl
theorem fn_102_1 : ((102 : Int), (1 : Int), (19 : Int)) ∈ b_finL := List.mem_of_getElem? (i := 140) rfl
theorem fn_102_2 : ((102 : Int), (2 : Int), (50 : Int)) ∈ b_finL := List.mem_of_getElem? (i := 141) rfl
theorem fn_102_3 : ((102 : Int), (3 : Int), (53 : Int)) ∈ b_finL := List.mem_of_getElem? (i := 142) rfl
theorem fn_102_4 : ((102 : Int), (4 : Int), (65 : Int)) ∈ b_finL := List.mem_of_getElem? (i := 143) rfl
theorem fn_102_5 : ((102 : Int), (5 : Int), (41 : Int)) ∈ b_finL := List.mem_of_getElem? (i := 144) rfl
theorem fn_102_6 : ((102 : Int), (6 : Int), (27 : Int)) ∈ b_finL := List.mem_of_getElem? (i := 145) rfl
theorem fn_102_7 : ((102 : Int), (7 : Int), (46 : Int)) ∈ b_finL := List.mem_of_getElem? (i := 146) rfl
theorem fn_102_8 : ((102 : Int), (8 : Int), (70 : Int)) ∈ b_finL := List.mem_of_getElem? (i := 147) rfl
theorem fn_102_9 : ((102 : Int), (9 : Int), (2 : Int)) ∈ b_finL := List.mem_of_getElem? (i := 148) rfl
theorem fn_102_10 : ((102 : Int), (10 : Int), (82 : Int)) ∈ b_finL := List.mem_of_getElem? (i := 149) rfl
theorem fn_102_11 : ((102 : Int), (11 : Int), (83 : Int)) ∈ b_finL := List.mem_of_getElem? (i := 150) rfl
theorem fn_102_12 : ((102 : Int), (12 : Int), (103 : Int)) ∈ b_finL := List.mem_of_getElem? (i := 151) rfl
theorem fn_102_13 : ((102 : Int), (13 : Int), (104 : Int)) ∈ b_finL := List.mem_of_getElem? (i := 152) rfl
theorem fn_102_19 : ((102 : Int), (19 : Int), (105 : Int)) ∈ b_finL := List.mem_of_getElem? (i := 153) rfl
theorem fn_102_20 : ((102 : Int), (20 : Int), (106 : Int)) ∈ b_finL := List.mem_of_getElem? (i := 154) rfl
theorem fn_108_0 : ((108 : Int), (0 : Int), (111 : Int)) ∈ b_finL := List.mem_of_getElem? (i := 155) rfl
theorem fn_108_1 : ((108 : Int), (1 : Int), (113 : Int)) ∈ b_finL := List.mem_of_getElem? (i := 156) rfl
theorem fn_108_2 : ((108 : Int), (2 : Int), (115 : Int)) ∈ b_finL := List.mem_of_getElem? (i := 157) rfl
theorem fn_108_3 : ((108 : Int), (3 : Int), (117 : Int)) ∈ b_finL := List.mem_of_getElem? (i := 158) rfl
theorem fn_108_4 : ((108 : Int), (4 : Int), (119 : Int)) ∈ b_finL := List.mem_of_getElem? (i := 159) rfl
theorem fn_108_5 : ((108 : Int), (5 : Int), (121 : Int)) ∈ b_finL := List.mem_of_getElem? (i := 160) rfl
theorem fn_108_6 : ((108 : Int), (6 : Int), (123 : Int)) ∈ b_finL := List.mem_of_getElem? (i := 161) rfl
theorem fn_108_7 : ((108 : Int), (7 : Int), (125 : Int)) ∈ b_finL := List.mem_of_getElem? (i := 162) rfl
theorem fn_108_8 : ((108 : Int), (8 : Int), (127 : Int)) ∈ b_finL := List.mem_of_getElem? (i := 163) rfl
theorem fn_108_9 : ((108 : Int), (9 : Int), (129 : Int)) ∈ b_finL := List.mem_of_getElem? (i := 164) rfl
theorem fn_108_10 : ((108 : Int), (10 : Int), (131 : Int)) ∈ b_finL := List.mem_of_getElem? (i := 165) rfl
theorem fn_108_11 : ((108 : Int), (11 : Int), (133 : Int)) ∈ b_finL := List.mem_of_getElem? (i := 166) rfl
theorem fn_108_12 : ((108 : Int), (12 : Int), (135 : Int)) ∈ b_finL := List.mem_of_getElem? (i := 167) rfl
theorem fn_108_13 : ((108 : Int), (13 : Int), (137 : Int)) ∈ b_finL := List.mem_of_getElem? (i := 168) rfl
theorem fn_108_14 : ((108 : Int), (14 : Int), (139 : Int)) ∈ b_finL := List.mem_of_getElem? (i := 169) rfl
theorem fn_108_15 : ((108 : Int), (15 : Int), (141 : Int)) ∈ b_finL := List.mem_of_getElem? (i := 170) rfl
theorem fn_110_0 : ((110 : Int), (0 : Int), (112 : Int)) ∈ b_finL := List.mem_of_getElem? (i := 171) rfl
theorem fn_110_1 : ((110 : Int), (1 : Int), (114 : Int)) ∈ b_finL := List.mem_of_getElem? (i := 172) rfl
theorem fn_110_2 : ((110 : Int), (2 : Int), (116 : Int)) ∈ b_finL := List.mem_of_getElem? (i := 173) rfl
theorem fn_110_3 : ((110 : Int), (3 : Int), (118 : Int)) ∈ b_finL := List.mem_of_getElem? (i := 174) rfl
theorem fn_110_4 : ((110 : Int), (4 : Int), (120 : Int)) ∈ b_finL := List.mem_of_getElem? (i := 175) rfl
theorem fn_110_5 : ((110 : Int), (5 : Int), (122 : Int)) ∈ b_finL := List.mem_of_getElem? (i := 176) rfl
theorem fn_110_6 : ((110 : Int), (6 : Int), (124 : Int)) ∈ b_finL := List.mem_of_getElem? (i := 177) rfl
theorem fn_110_7 : ((110 : Int), (7 : Int), (126 : Int)) ∈ b_finL := List.mem_of_getElem? (i := 178) rfl
theorem fn_110_8 : ((110 : Int), (8 : Int), (128 : Int)) ∈ b_finL := List.mem_of_getElem? (i := 179) rfl
theorem fn_110_9 : ((110 : Int), (9 : Int), (130 : Int)) ∈ b_finL := List.mem_of_getElem? (i := 180) rfl
theorem fn_110_10 : ((110 : Int), (10 : Int), (132 : Int)) ∈ b_finL := List.mem_of_getElem? (i := 181) rfl
theorem fn_110_11 : ((110 : Int), (11 : Int), (134 : Int)) ∈ b_finL := List.mem_of_getElem? (i := 182) rfl
theorem fn_110_12 : ((110 : Int), (12 : Int), (136 : Int)) ∈ b_finL := List.mem_of_getElem? (i := 183) rfl
theorem fn_110_13 : ((110 : Int), (13 : Int), (138 : Int)) ∈ b_finL := List.mem_of_getElem? (i := 184) rfl
theorem fn_110_14 : ((110 : Int), (14 : Int), (140 : Int)) ∈ b_finL := List.mem_of_getElem? (i := 185) rfl
theorem fn_110_15 : ((110 : Int), (15 : Int), (142 : Int)) ∈ b_finL := List.mem_of_getElem? (i := 186) rfl
theorem fn_143_3 : ((143 : Int), (3 : Int), (146 : Int)) ∈ b_finL := List.mem_of_getElem? (i := 187) rfl
theorem fn_143_5 : ((143 : Int), (5 : Int), (147 : Int)) ∈ b_finL := List.mem_of_getElem? (i := 188) rfl
theorem fn_143_7 : ((143 : Int), (7 : Int), (148 : Int)) ∈ b_finL := List.mem_of_getElem? (i := 189) rfl
theorem fn_143_8 : ((143 : Int), (8 : Int), (149 : Int)) ∈ b_finL := List.mem_of_getElem? (i := 190) rfl
theorem fn_143_9 : ((143 : Int), (9 : Int), (150 : Int)) ∈ b_finL := List.mem_of_getElem? (i := 191) rfl
theorem fn_143_10 : ((143 : Int), (10 : Int), (151 : Int)) ∈ b_finL := List.mem_of_getElem? (i := 192) rfl
theorem fn_143_11 : ((143 : Int), (11 : Int), (152 : Int)) ∈ b_finL := List.mem_of_getElem? (i := 193) rfl
theorem fn_143_15 : ((143 : Int), (15 : Int), (153 : Int)) ∈ b_finL := List.mem_of_getElem? (i := 194) rfl
theorem fn_143_16 : ((143 : Int), (16 : Int), (155 : Int)) ∈ b_finL := List.mem_of_getElem? (i := 195) rfl
theorem fn_143_17 : ((143 : Int), (17 : Int), (157 : Int)) ∈ b_finL := List.mem_of_getElem? (i := 196) rfl
theorem fn_143_18 : ((143 : Int), (18 : Int), (159 : Int)) ∈ b_finL := List.mem_of_getElem? (i := 197) rfl
theorem fn_143_22 : ((143 : Int), (22 : Int), (161 : Int)) ∈ b_finL := List.mem_of_getElem? (i := 198) rfl
theorem fn_143_28 : ((143 : Int), (28 : Int), (162 : Int)) ∈ b_finL := List.mem_of_getElem? (i := 199) rfl
theorem fn_143_29 : ((143 : Int), (29 : Int), (163 : Int)) ∈ b_finL := List.mem_of_getElem? (i := 200) rfl
theorem fn_143_30 : ((143 : Int), (30 : Int), (171 : Int)) ∈ b_finL := List.mem_of_getElem? (i := 201) rfl
theorem fn_143_31 : ((143 : Int), (31 : Int), (172 : Int)) ∈ b_finL := List.mem_of_getElem? (i := 202) rfl
theorem fn_143_34 : ((143 : Int), (34 : Int), (173 : Int)) ∈ b_finL := List.mem_of_getElem? (i := 203) rfl
theorem fn_143_36 : ((143 : Int), (36 : Int), (174 : Int)) ∈ b_finL := List.mem_of_getElem? (i := 204) rfl
theorem fn_143_37 : ((143 : Int), (37 : Int), (175 : Int)) ∈ b_finL := List.mem_of_getElem? (i := 205) rfl
theorem fn_143_39 : ((143 : Int), (39 : Int), (176 : Int)) ∈ b_finL := List.mem_of_getElem? (i := 206) rfl
theorem fn_143_41 : ((143 : Int), (41 : Int), (177 : Int)) ∈ b_finL := List.mem_of_getElem? (i := 207) rfl
theorem fn_143_48 : ((143 : Int), (48 : Int), (178 : Int)) ∈ b_finL := List.mem_of_getElem? (i := 208) rfl
theorem fn_143_49 : ((143 : Int), (49 : Int), (195 : Int)) ∈ b_finL := List.mem_of_getElem? (i := 209) rfl
theorem fn_143_50 : ((143 : Int), (50 : Int), (212 : Int)) ∈ b_finL := List.mem_of_getElem? (i := 210) rfl
theorem fn_143_52 : ((143 : Int), (52 : Int), (229 : Int)) ∈ b_finL := List.mem_of_getElem? (i := 211) rfl
theorem fn_143_59 : ((143 : Int), (59 : Int), (230 : Int)) ∈ b_finL := List.mem_of_getElem? (i := 212) rfl
theorem fn_143_66 : ((143 : Int), (66 : Int), (231 : Int)) ∈ b_finL := List.mem_of_getElem? (i := 213) rfl
theorem fn_143_67 : ((143 : Int), (67 : Int), (232 : Int)) ∈ b_finL := List.mem_of_getElem? (i := 214) rfl
theorem fn_143_69 : ((143 : Int), (69 : Int), (233 : Int)) ∈ b_finL := List.mem_of_getElem? (i := 215) rfl
theorem fn_143_70 : ((143 : Int), (70 : Int), (234 : Int)) ∈ b_finL := List.mem_of_getElem? (i := 216) rfl
theorem fn_143_71 : ((143 : Int), (71 : Int), (235 : Int)) ∈ b_finL := List.mem_of_getElem? (i := 217) rfl
theorem fn_143_72 : ((143 : Int), (72 : Int), (236 : Int)) ∈ b_finL := List.mem_of_getElem? (i := 218) rfl
theorem fn_143_73 : ((143 : Int), (73 : Int), (237 : Int)) ∈ b_finL := List.mem_of_getElem? (i := 219) rfl
theorem fn_143_74 : ((143 : Int), (74 : Int), (238 : Int)) ∈ b_finL := List.mem_of_getElem? (i := 220) rfl
theorem fn_143_81 : ((143 : Int), (81 : Int), (239 : Int)) ∈ b_finL := List.mem_of_getElem? (i := 221) rfl
theorem fn_143_82 : ((143 : Int), (82 : Int), (240 : Int)) ∈ b_finL := List.mem_of_getElem? (i := 222) rfl
theorem fn_143_83 : ((143 : Int), (83 : Int), (241 : Int)) ∈ b_finL := List.mem_of_getElem? (i := 223) rfl
theorem fn_143_84 : ((143 : Int), (84 : Int), (242 : Int)) ∈ b_finL := List.mem_of_getElem? (i := 224) rfl
theorem fn_143_94 : ((143 : Int), (94 : Int), (243 : Int)) ∈ b_finL := List.mem_of_getElem? (i := 225) rfl
theorem fn_143_95 : ((143 : Int), (95 : Int), (244 : Int)) ∈ b_finL := List.mem_of_getElem? (i := 226) rfl
theorem fn_143_96 : ((143 : Int), (96 : Int), (245 : Int)) ∈ b_finL := List.mem_of_getElem? (i := 227) rfl
theorem fn_143_97 : ((143 : Int), (97 : Int), (246 : Int)) ∈ b_finL := List.mem_of_getElem? (i := 228) rfl
theorem fn_143_98 : ((143 : Int), (98 : Int), (247 : Int)) ∈ b_finL := List.mem_of_getElem? (i := 229) rfl
theorem fn_143_99 : ((143 : Int), (99 : Int), (248 : Int)) ∈ b_finL := List.mem_of_getElem? (i := 230) rfl
theorem fn_143_100 : ((143 : Int), (100 : Int), (249 : Int)) ∈ b_finL := List.mem_of_getElem? (i := 231) rfl
theorem fn_143_105 : ((143 : Int), (105 : Int), (250 : Int)) ∈ b_finL := List.mem_of_getElem? (i := 232) rfl
theorem fn_143_108 : ((143 : Int), (108 : Int), (251 : Int)) ∈ b_finL := List.mem_of_getElem? (i := 233) rfl
theorem fn_143_110 : ((143 : Int), (110 : Int), (252 : Int)) ∈ b_finL := List.mem_of_getElem? (i := 234) rfl
theorem fn_143_113 : ((143 : Int), (113 : Int), (253 : Int)) ∈ b_finL := List.mem_of_getElem? (i := 235) rfl
theorem fn_153_0 : ((153 : Int), (0 : Int), (154 : Int)) ∈ b_finL := List.mem_of_getElem? (i := 236) rfl
theorem fn_155_0 : ((155 : Int), (0 : Int), (156 : Int)) ∈ b_finL := List.mem_of_getElem? (i := 237) rfl
theorem fn_157_0 : ((157 : Int), (0 : Int), (158 : Int)) ∈ b_finL := List.mem_of_getElem? (i := 238) rfl
theorem fn_159_0 : ((159 : Int), (0 : Int), (160 : Int)) ∈ b_finL := List.mem_of_getElem? (i := 239) rfl
theorem fn_163_0 : ((163 : Int), (0 : Int), (164 : Int)) ∈ b_finL := List.mem_of_getElem? (i := 240) rfl
theorem fn_163_1 : ((163 : Int), (1 : Int), (165 : Int)) ∈ b_finL := List.mem_of_getElem? (i := 241) rfl
theorem fn_163_2 : ((163 : Int), (2 : Int), (166 : Int)) ∈ b_finL := List.mem_of_getElem? (i := 242) rfl
theorem fn_163_3 : ((163 : Int), (3 : Int), (167 : Int)) ∈ b_finL := List.mem_of_getElem? (i := 243) rfl
theorem fn_163_4 : ((163 : Int), (4 : Int), (168 : Int)) ∈ b_finL := List.mem_of_getElem? (i := 244) rfl
theorem fn_163_5 : ((163 : Int), (5 : Int), (169 : Int)) ∈ b_finL := List.mem_of_getElem? (i := 245) rfl
theorem fn_163_6 : ((163 : Int), (6 : Int), (170 : Int)) ∈ b_finL := List.mem_of_getElem? (i := 246) rfl
theorem fn_178_0 : ((178 : Int), (0 : Int), (181 : Int)) ∈ b_finL := List.mem_of_getElem? (i := 247) rfl
theorem fn_178_2 : ((178 : Int), (2 : Int), (182 : Int)) ∈ b_finL := List.mem_of_getElem? (i := 248) rfl
theorem fn_178_3 : ((178 : Int), (3 : Int), (183 : Int)) ∈ b_finL := List.mem_of_getElem? (i := 249) rfl
theorem fn_178_4 : ((178 : Int), (4 : Int), (184 : Int)) ∈ b_finL := List.mem_of_getElem? (i := 250) rfl
theorem fn_178_5 : ((178 : Int), (5 : Int), (185 : Int)) ∈ b_finL := List.mem_of_getElem? (i := 251) rfl
theorem fn_178_6 : ((178 : Int), (6 : Int), (186 : Int)) ∈ b_finL := List.mem_of_getElem? (i := 252) rfl
theorem fn_178_7 : ((178 : Int), (7 : Int), (187 : Int)) ∈ b_finL := List.mem_of_getElem? (i := 253) rfl
theorem fn_178_8 : ((178 : Int), (8 : Int), (188 : Int)) ∈ b_finL := List.mem_of_getElem? (i := 254) rfl
theorem fn_178_9 : ((178 : Int), (9 : Int), (189 : Int)) ∈ b_finL := List.mem_of_getElem? (i := 255) rfl
theorem fn_178_10 : ((178 : Int), (10 : Int), (190 : Int)) ∈ b_finL := List.mem_of_getElem? (i := 256) rfl
theorem fn_178_11 : ((178 : Int), (11 : Int), (191 : Int)) ∈ b_finL := List.mem_of_getElem? (i := 257) rfl
theorem fn_178_12 : ((178 : Int), (12 : Int), (192 : Int)) ∈ b_finL := List.mem_of_getElem? (i := 258) rfl
theorem fn_178_18 : ((178 : Int), (18 : Int), (179 : Int)) ∈ b_finL := List.mem_of_getElem? (i := 259) rfl
theorem fn_178_19 : ((178 : Int), (19 : Int), (193 : Int)) ∈ b_finL := List.mem_of_getElem? (i := 260) rfl
theorem fn_179_0 : ((179 : Int), (0 : Int), (180 : Int)) ∈ b_finL := List.mem_of_getElem? (i := 261) rfl
theorem fn_193_0 : ((193 : Int), (0 : Int), (194 : Int)) ∈ b_finL := List.mem_of_getElem? (i := 262) rfl
theorem fn_195_0 : ((195 : Int), (0 : Int), (198 : Int)) ∈ b_finL := List.mem_of_getElem? (i := 263) rfl
theorem fn_195_2 : ((195 : Int), (2 : Int), (199 : Int)) ∈ b_finL := List.mem_of_getElem? (i := 264) rfl
theorem fn_195_3 : ((195 : Int), (3 : Int), (200 : Int)) ∈ b_finL := List.mem_of_getElem? (i := 265) rfl
theorem fn_195_4 : ((195 : Int), (4 : Int), (201 : Int)) ∈ b_finL := List.mem_of_getElem? (i := 266) rfl
theorem fn_195_5 : ((195 : Int), (5 : Int), (202 : Int)) ∈ b_finL := List.mem_of_getElem? (i := 267) rfl
theorem fn_195_6 : ((195 : Int), (6 : Int), (203 : Int)) ∈ b_finL := List.mem_of_getElem? (i := 268) rfl
theorem fn_195_7 : ((195 : Int), (7 : Int), (204 : Int)) ∈ b_finL := List.mem_of_getElem? (i := 269) rfl
theorem fn_195_8 : ((195 : Int), (8 : Int), (205 : Int)) ∈ b_finL := List.mem_of_getElem? (i := 270) rfl
theorem fn_195_9 : ((195 : Int), (9 : Int), (206 : Int)) ∈ b_finL := List.mem_of_getElem? (i := 271) rfl
theorem fn_195_10 : ((195 : Int), (10 : Int), (207 : Int)) ∈ b_finL := List.mem_of_getElem? (i := 272) rfl
theorem fn_195_11 : ((195 : Int), (11 : Int), (208 : Int)) ∈ b_finL := List.mem_of_getElem? (i := 273) rfl
theorem fn_195_12 : ((195 : Int), (12 : Int), (209 : Int)) ∈ b_finL := List.mem_of_getElem? (i := 274) rfl
theorem fn_195_18 : ((195 : Int), (18 : Int), (196 : Int)) ∈ b_finL := List.mem_of_getElem? (i := 275) rfl
theorem fn_195_19 : ((195 : Int), (19 : Int), (210 : Int)) ∈ b_finL := List.mem_of_getElem? (i := 276) rfl
theorem fn_196_0 : ((196 : Int), (0 : Int), (197 : Int)) ∈ b_finL := List.mem_of_getElem? (i := 277) rfl
theorem fn_210_0 : ((210 : Int), (0 : Int), (211 : Int)) ∈ b_finL := List.mem_of_getElem? (i := 278) rfl
theorem fn_212_0 : ((212 : Int), (0 : Int), (215 : Int)) ∈ b_finL := List.mem_of_getElem? (i := 279) rfl
theorem fn_212_2 : ((212 : Int), (2 : Int), (216 : Int)) ∈ b_finL := List.mem_of_getElem? (i := 280) rfl
theorem fn_212_3 : ((212 : Int), (3 : Int), (217 : Int)) ∈ b_finL := List.mem_of_getElem? (i := 281) rfl
theorem fn_212_4 : ((212 : Int), (4 : Int), (218 : Int)) ∈ b_finL := List.mem_of_getElem? (i := 282) rfl
theorem fn_212_5 : ((212 : Int), (5 : Int), (219 : Int)) ∈ b_finL := List.mem_of_getElem? (i := 283) rfl
theorem fn_212_6 : ((212 : Int), (6 : Int), (220 : Int)) ∈ b_finL := List.mem_of_getElem? (i := 284) rfl
theorem fn_212_7 : ((212 : Int), (7 : Int), (221 : Int)) ∈ b_finL := List.mem_of_getElem? (i := 285) rfl
theorem fn_212_8 : ((212 : Int), (8 : Int), (222 : Int)) ∈ b_finL := List.mem_of_getElem? (i := 286) rfl
theorem fn_212_9 : ((212 : Int), (9 : Int), (223 : Int)) ∈ b_finL := List.mem_of_getElem? (i := 287) rfl
theorem fn_212_10 : ((212 : Int), (10 : Int), (224 : Int)) ∈ b_finL := List.mem_of_getElem? (i := 288) rfl
theorem fn_212_11 : ((212 : Int), (11 : Int), (225 : Int)) ∈ b_finL := List.mem_of_getElem? (i := 289) rfl
theorem fn_212_12 : ((212 : Int), (12 : Int), (226 : Int)) ∈ b_finL := List.mem_of_getElem? (i := 290) rfl
theorem fn_212_18 : ((212 : Int), (18 : Int), (213 : Int)) ∈ b_finL := List.mem_of_getElem? (i := 291) rfl
theorem fn_212_19 : ((212 : Int), (19 : Int), (227 : Int)) ∈ b_finL := List.mem_of_getElem? (i := 292) rfl
theorem fn_213_0 : ((213 : Int), (0 : Int), (214 : Int)) ∈ b_finL := List.mem_of_getElem? (i := 293) rfl
theorem fn_227_0 : ((227 : Int), (0 : Int), (228 : Int)) ∈ b_finL := List.mem_of_getElem? (i := 294) rfl
theorem sr_X2_9 : ∃ tx : String, ((RX2, 9, tx, 0) : String × Nat × String × Nat) ∈ b_srs := ⟨_, List.mem_of_getElem? (i := 0) rfl⟩
theorem sr_X3_13 : ∃ tx : String, ((RX3, 13, tx, 1) : String × Nat × String × Nat) ∈ b_srs := ⟨_, List.mem_of_getElem? (i := 1) rfl⟩
theorem sr_X14_20 : ∃ tx : String, ((RX14, 20, tx, 2) : String × Nat × String × Nat) ∈ b_srs := ⟨_, List.mem_of_getElem? (i := 2) rfl⟩
theorem sr_X1_177 : ∃ tx : String, ((RX1, 177, tx, 3) : String × Nat × String × Nat) ∈ b_srs := ⟨_, List.mem_of_getElem? (i := 3) rfl⟩
theorem sr_X1_188 : ∃ tx : String, ((RX1, 188, tx, 4) : String × Nat × String × Nat) ∈ b_srs := ⟨_, List.mem_of_getElem? (i := 4) rfl⟩
theorem sr_X29_15 : ∃ tx : String, ((RX29, 15, tx, 5) : String × Nat × String × Nat) ∈ b_srs := ⟨_, List.mem_of_getElem? (i := 5) rfl⟩
theorem sr_X25_256 : ∃ tx : String, ((RX25, 256, tx, 2) : String × Nat × String × Nat) ∈ b_srs := ⟨_, List.mem_of_getElem? (i := 6) rfl⟩
/-- fields of objects of which there are many: the object holds its rows right behind itself -/
theorem b_off (c N f off g t N' K : Nat) (hk : (List.range 255).all (fun i => !(decide (b_sh i = (0, c, N))) || (b_finL.contains ((i : Int), (f : Int), (i : Int) + off) && decide (b_sh (i + off) = (g, t, N')) && Nat.ble (i + off + 1) K && Nat.ble (b_thr i) K)) = true)
    {n : Nat} {o : Int} {w : bW} (hn : K ≤ n) (h5 : n ≤ 255) (ho : b_is n o 0 c N) (hf : b_fin n w) : w o f = o + off ∧ b_is n (o + off) g t N' := by
  obtain ⟨h0, h1, h2⟩ := ho
  obtain ⟨i, rfl⟩ : ∃ i : Nat, o = i := ⟨o.toNat, (Int.toNat_of_nonneg h0).symm⟩
  rw [Int.toNat_natCast] at h1 h2
  have h := List.all_eq_true.mp hk i (List.mem_range.mpr (by omega))
  simp only [h2, decide_true, Bool.not_true, Bool.false_or, Bool.and_eq_true, decide_eq_true_eq] at h
  obtain ⟨⟨⟨g1, g2⟩, g3⟩, g4⟩ := h
  have g3 := Nat.le_of_ble_eq_true g3
  have g4 := Nat.le_of_ble_eq_true g4
  refine ⟨hf _ (List.contains_iff_mem.mp g1) (by show b_thr i ≤ n; omega), by omega, ?_, ?_⟩
  · omega
  · rw [show ((i : Int) + off).toNat = i + off by omega]
    exact g2
theorem of_X6_0 {n : Nat} {o : Int} {w : bW} (hn : 143 ≤ n) (h5 : n ≤ 255) (ho : b_is n o 0 5 3) (hf : b_fin n w) : w o 0 = o + 1 ∧ b_is n (o + 1) 1 0 200 := b_off 5 3 0 1 1 0 200 143 (by decide +kernel) hn h5 ho hf
theorem of_X26_0 {n : Nat} {o : Int} {w : bW} (hn : 254 ≤ n) (h5 : n ≤ 255) (ho : b_is n o 0 24 3) (hf : b_fin n w) : w o 0 = o + 1 ∧ b_is n (o + 1) 1 0 180 := b_off 24 3 0 1 1 0 180 254 (by decide +kernel) hn h5 ho hf
theorem of_X28_0 {n : Nat} {o : Int} {w : bW} (hn : 254 ≤ n) (h5 : n ≤ 255) (ho : b_is n o 0 26 20) (hf : b_fin n w) : w o 0 = o + 3 ∧ b_is n (o + 3) 1 1 16384 := b_off 26 20 0 3 1 1 16384 254 (by decide +kernel) hn h5 ho hf
theorem of_X28_2 {n : Nat} {o : Int} {w : bW} (hn : 254 ≤ n) (h5 : n ≤ 255) (ho : b_is n o 0 26 20) (hf : b_fin n w) : w o 2 = o + 4 ∧ b_is n (o + 4) 1 1 4096 := b_off 26 20 2 4 1 1 4096 254 (by decide +kernel) hn h5 ho hf
theorem of_X28_3 {n : Nat} {o : Int} {w : bW} (hn : 254 ≤ n) (h5 : n ≤ 255) (ho : b_is n o 0 26 20) (hf : b_fin n w) : w o 3 = o + 5 ∧ b_is n (o + 5) 1 0 4096 := b_off 26 20 3 5 1 0 4096 254 (by decide +kernel) hn h5 ho hf
theorem of_X28_4 {n : Nat} {o : Int} {w : bW} (hn : 254 ≤ n) (h5 : n ≤ 255) (ho : b_is n o 0 26 20) (hf : b_fin n w) : w o 4 = o + 6 ∧ b_is n (o + 6) 1 0 4096 := b_off 26 20 4 6 1 0 4096 254 (by decide +kernel) hn h5 ho hf
theorem of_X28_5 {n : Nat} {o : Int} {w : bW} (hn : 254 ≤ n) (h5 : n ≤ 255) (ho : b_is n o 0 26 20) (hf : b_fin n w) : w o 5 = o + 7 ∧ b_is n (o + 7) 1 0 4096 := b_off 26 20 5 7 1 0 4096 254 (by decide +kernel) hn h5 ho hf
theorem of_X28_6 {n : Nat} {o : Int} {w : bW} (hn : 254 ≤ n) (h5 : n ≤ 255) (ho : b_is n o 0 26 20) (hf : b_fin n w) : w o 6 = o + 8 ∧ b_is n (o + 8) 1 0 4096 := b_off 26 20 6 8 1 0 4096 254 (by decide +kernel) hn h5 ho hf
theorem of_X28_7 {n : Nat} {o : Int} {w : bW} (hn : 254 ≤ n) (h5 : n ≤ 255) (ho : b_is n o 0 26 20) (hf : b_fin n w) : w o 7 = o + 9 ∧ b_is n (o + 9) 1 0 4096 := b_off 26 20 7 9 1 0 4096 254 (by decide +kernel) hn h5 ho hf
theorem of_X28_8 {n : Nat} {o : Int} {w : bW} (hn : 254 ≤ n) (h5 : n ≤ 255) (ho : b_is n o 0 26 20) (hf : b_fin n w) : w o 8 = o + 10 ∧ b_is n (o + 10) 1 0 4096 := b_off 26 20 8 10 1 0 4096 254 (by decide +kernel) hn h5 ho hf
theorem of_X28_9 {n : Nat} {o : Int} {w : bW} (hn : 254 ≤ n) (h5 : n ≤ 255) (ho : b_is n o 0 26 20) (hf : b_fin n w) : w o 9 = o + 11 ∧ b_is n (o + 11) 1 0 4096 := b_off 26 20 9 11 1 0 4096 254 (by decide +kernel) hn h5 ho hf
theorem of_X28_10 {n : Nat} {o : Int} {w : bW} (hn : 254 ≤ n) (h5 : n ≤ 255) (ho : b_is n o 0 26 20) (hf : b_fin n w) : w o 10 = o + 12 ∧ b_is n (o + 12) 1 0 4096 := b_off 26 20 10 12 1 0 4096 254 (by decide +kernel) hn h5 ho hf
theorem of_X28_11 {n : Nat} {o : Int} {w : bW} (hn : 254 ≤ n) (h5 : n ≤ 255) (ho : b_is n o 0 26 20) (hf : b_fin n w) : w o 11 = o + 13 ∧ b_is n (o + 13) 1 0 4096 := b_off 26 20 11 13 1 0 4096 254 (by decide +kernel) hn h5 ho hf
theorem of_X28_12 {n : Nat} {o : Int} {w : bW} (hn : 254 ≤ n) (h5 : n ≤ 255) (ho : b_is n o 0 26 20) (hf : b_fin n w) : w o 12 = o + 14 ∧ b_is n (o + 14) 1 2 4096 := b_off 26 20 12 14 1 2 4096 254 (by decide +kernel) hn h5 ho hf
theorem of_X28_18 {n : Nat} {o : Int} {w : bW} (hn : 254 ≤ n) (h5 : n ≤ 255) (ho : b_is n o 0 26 20) (hf : b_fin n w) : w o 18 = o + 1 ∧ b_is n (o + 1) 0 27 1 := b_off 26 20 18 1 0 27 1 254 (by decide +kernel) hn h5 ho hf
theorem of_X28_19 {n : Nat} {o : Int} {w : bW} (hn : 254 ≤ n) (h5 : n ≤ 255) (ho : b_is n o 0 26 20) (hf : b_fin n w) : w o 19 = o + 15 ∧ b_is n (o + 15) 0 24 3 := b_off 26 20 19 15 0 24 3 254 (by decide +kernel) hn h5 ho hf
theorem of_X29_0 {n : Nat} {o : Int} {w : bW} (hn : 254 ≤ n) (h5 : n ≤ 255) (ho : b_is n o 0 27 1) (hf : b_fin n w) : w o 0 = o + 1 ∧ b_is n (o + 1) 1 0 108 := b_off 27 1 0 1 1 0 108 254 (by decide +kernel) hn h5 ho hf
theorem b_b8_i (x : Int) : b_b8 (b_b8 x) = b_b8 x := Int.bmod_bmod
theorem b_s16_i (x : Int) : b_s16 (b_s16 x) = b_s16 x := Int.bmod_bmod
theorem b_ifT {c : Prop} {_ : Decidable c} {A B : Prop} (h : c) (a : A) : if c then A else B := by rw [if_pos h]; exact a
theorem b_ifF {c : Prop} {_ : Decidable c} {A B : Prop} (h : ¬ c) (b : B) : if c then A else B := by rw [if_neg h]; exact b
theorem x_255 {Z : bZ} {n u v pc : Nat} {ls st : List bV} {w : bW} (k : n ≤ 255 → b_X Z n u v pc ls st w) : b_X Z n u v pc ls st w := by
  intro E p e s m args below meth c' H locs ad0 ad lsA hC hG hb ha0 hn hR hS hl hls hst
  exact k hR.2.2.2.1 E p e s m args below meth c' H locs ad0 ad lsA hC hG hb ha0 hn hR hS hl hls hst
variable {d n pc q : Nat} {M0 : bM} {Q : Int → bW → Prop} {X : String → bW → Prop} {ls st : List bV} {w : bW}
/-- a field that is set once -/
theorem y_getF (idx f : Nat) {c N : Nat} {C : String} {T : u_T} {o z : Int} (hd : decode M0.2.1 pc = .ok (.getfield idx, 3)) (ho : b_is n o 0 c N)
    (hc : vwCl[c]? = some (C, T, N)) (hin : ∀ x ∈ u_ws C T N, x ∈ lw_all) (hlk : Cond.fieldLink M0.1.cls idx C (T f).2.1 (T f).2.2.1 ∈ lw_all) (hT : (T f).1 = C) (hf : Nat.blt f N = true) (ht : b_ft c f = 2) (hp : (o, (f : Int), z) ∈ b_finL) (hn : b_thr o ≤ n)
    (hq : pc + 3 = q) (k : b_Y d M0 n Q X q ls ((2, z) :: st) w) : b_Y d M0 n Q X pc ls ((2, o) :: st) w :=
  x_fin (fun hf1 => y_get idx f hd ho hc hin hlk hT hf ht (hf1 _ hp hn) hq k)
theorem y_getO (idx f : Nat) {c N off g t N' : Nat} {C : String} {T : u_T} {o : Int} (hd : decode M0.2.1 pc = .ok (.getfield idx, 3)) (ho : b_is n o 0 c N)
    (hc : vwCl[c]? = some (C, T, N)) (hin : ∀ x ∈ u_ws C T N, x ∈ lw_all) (hlk : Cond.fieldLink M0.1.cls idx C (T f).2.1 (T f).2.2.1 ∈ lw_all) (hT : (T f).1 = C) (hf : Nat.blt f N = true) (ht : b_ft c f = 2) (hof : n ≤ 255 → b_fin n w → w o f = o + off ∧ b_is n (o + off) g t N')
    (hq : pc + 3 = q) (k : b_is n (o + off) g t N' → b_Y d M0 n Q X q ls ((2, o + off) :: st) w) : b_Y d M0 n Q X pc ls ((2, o) :: st) w :=
  x_255 (fun h5 => x_fin (fun hf1 => y_get idx f hd ho hc hin hlk hT hf ht (hof h5 hf1).1 hq (k (hof h5 hf1).2)))
theorem y_alen {o : Int} {g t N : Nat} (hd : decode M0.2.1 pc = .ok (.arraylength, 1)) (ho : b_is n o g t N) (hg : g = 1 ∧ t < 5) (hN : N ≤ 2147483647) (hq : pc + 1 = q) (k : b_Y d M0 n Q X q ls ((0, (N : Int)) :: st) w) : b_Y d M0 n Q X pc ls ((2, o) :: st) w := by
  subst hq
  obtain ⟨h0, h1, h2⟩ := ho
  obtain ⟨rfl, ht⟩ := hg
  intro E p e s m args below meth c' H locs ad0 ad lsA hC hG hb ha0 hn hR hS hl hls hst
  have hat := b_ws_at (E := E) (ad := ad) (w := w) h1
  rw [b_en_i w h2] at hat
  have hk := k E p e s m args below meth c' H locs ad0 ad lsA hC hG hb ha0 hn hR hS hl hls (b_all0 (b_oki (by omega)) (b_tl hst))
  rw [List.map_cons, b_vl2 h0]
  refine va_alen (v := Int32.ofInt (N : Int)) hC.1 hC.2.1 hG.1 hR.1 o.toNat t hat (ty := b_aty t) ?_ ?_ hd hk
  · unfold b_tys
    rw [List.getElem?_map, List.getElem?_range (by omega)]
    rfl
  · exact (Int32.ofInt_eq_ofNat).symm
/-- the one exception that is kept is thrown -/
theorem y_throw {o : Int} (hd : decode M0.2.1 pc = .ok (.athrow, 1)) (ho : b_is n o 0 28 0) (hh : M0.2.2.2.2 = []) (k : X "java/lang/IllegalStateException" w) : b_Y d M0 n Q X pc ls ((2, o) :: st) w := by
  obtain ⟨h0, h1, h2⟩ := ho
  intro E p e s m args below meth c' H locs ad0 ad lsA hC hG hb ha0 hn hR hS hl hls hst
  have hat := b_ws_at (E := E) (ad := ad) (w := w) h1
  rw [b_en_o w h2] at hat
  obtain ⟨r, hr, cell, g1, g2, g3, -⟩ := hR.1 _ _ hat
  have hcl := (hG.1.1 28 (RJ3, TJ3, 0) rfl).2.1
  rw [List.map_cons, b_vl2 h0]
  refine vx_athrow hC.1 hC.2.1 hd (vx_out (E := "java/lang/IllegalStateException") ?_ hC.2.2.2.2.2.2.1 g1 g3 (by rw [g2]; exact hcl) (fun t ht _ => ⟨n, w, ad, ha0, hn, by rw [ht]; exact hR, hS.F ht, rfl, k⟩) hS.2.2 (Nat.le_refl 0) (Nat.le_refl 0))
  rw [hC.2.2.2.2.2.2.2.1]
  rw [show (bZ_M (b_Z d M0 n Q X)).2.2.2.2 = [] from hh]
  intro x hx
  cases hx
theorem b_cnt {n : Nat} {w : bW} {i : Int} (hn : 143 ≤ n) (h5 : n ≤ 255) (hf : b_fin n w) (h : 0 ≤ i ∧ i < 16) : (w 108 i = 111 + 2 * i ∧ b_is n (111 + 2 * i) 0 21 7) ∧ (w 110 i = 112 + 2 * i ∧ b_is n (112 + 2 * i) 0 22 6) := by
  obtain ⟨k, rfl⟩ : ∃ k : Nat, i = k := ⟨i.toNat, (Int.toNat_of_nonneg h.1).symm⟩
  have hk : k < 16 := by omega
  have key : ∀ k : Nat, k < 16 → (((108 : Int), (k : Int), 111 + 2 * (k : Int)) ∈ b_finL ∧ b_sh (111 + 2 * k) = (0, 21, 7)) ∧ (((110 : Int), (k : Int), 112 + 2 * (k : Int)) ∈ b_finL ∧ b_sh (112 + 2 * k) = (0, 22, 6)) := by decide +kernel
  obtain ⟨⟨a1, a2⟩, b1, b2⟩ := key k hk
  refine ⟨⟨hf _ a1 ?_, by omega, by omega, ?_⟩, hf _ b1 ?_, by omega, by omega, ?_⟩
  · show b_thr 108 ≤ n; exact Nat.le_trans (Nat.le_of_ble_eq_true rfl) hn
  · rw [show (111 + 2 * (k : Int)).toNat = 111 + 2 * k by omega]; exact a2
  · show b_thr 110 ≤ n; exact Nat.le_trans (Nat.le_of_ble_eq_true rfl) hn
  · rw [show (112 + 2 * (k : Int)).toNat = 112 + 2 * k by omega]; exact b2
theorem y_aaldC {i : Int} (hd : decode M0.2.1 pc = .ok (.aaload, 1)) (hn : 143 ≤ n) (hi : 0 ≤ i ∧ i < 16) (hq : pc + 1 = q) (k : b_is n (111 + 2 * i) 0 21 7 → b_Y d M0 n Q X q ls ((2, 111 + 2 * i) :: st) w) : b_Y d M0 n Q X pc ls ((0, i) :: (2, 108) :: st) w :=
  x_255 (fun h5 => x_fin (fun hf => x_aald (Z := b_Z d M0 n Q X) hd (iz108 (Nat.le_trans (Nat.le_of_ble_eq_true rfl) hn)) (by decide) hi hq (by rw [(b_cnt hn h5 hf hi).1.1]; exact k (b_cnt hn h5 hf hi).1.2)))
theorem y_aaldR {i : Int} (hd : decode M0.2.1 pc = .ok (.aaload, 1)) (hn : 143 ≤ n) (hi : 0 ≤ i ∧ i < 16) (hq : pc + 1 = q) (k : b_is n (112 + 2 * i) 0 22 6 → b_Y d M0 n Q X q ls ((2, 112 + 2 * i) :: st) w) : b_Y d M0 n Q X pc ls ((0, i) :: (2, 110) :: st) w :=
  x_255 (fun h5 => x_fin (fun hf => x_aald (Z := b_Z d M0 n Q X) hd (iz110 (Nat.le_trans (Nat.le_of_ble_eq_true rfl) hn)) (by decide) hi hq (by rw [(b_cnt hn h5 hf hi).2.1]; exact k (b_cnt hn h5 hf hi).2.2)))
end BridgeObj
