set_option maxRecDepth 100000
theorem ki_m1 : Int32.ofInt (-1) = (-1 : Int32) := by decide
theorem ki_0 : Int32.ofInt (0) = nI 0 := by decide
theorem ki_1 : Int32.ofInt (1) = nI 1 := by decide
theorem ki_2 : Int32.ofInt (2) = nI 2 := by decide
theorem ki_3 : Int32.ofInt (3) = nI 3 := by decide
theorem ki_4 : Int32.ofInt (4) = nI 4 := by decide
theorem ki_5 : Int32.ofInt (5) = nI 5 := by decide
theorem kb_m128 : (Int8.ofInt (-128)).toInt32 = (-128 : Int32) := by decide
theorem kb_m2 : (Int8.ofInt (-2)).toInt32 = (-2 : Int32) := by decide
theorem kb_6 : (Int8.ofInt (6)).toInt32 = nI 6 := by decide
theorem kb_7 : (Int8.ofInt (7)).toInt32 = nI 7 := by decide
theorem kb_8 : (Int8.ofInt (8)).toInt32 = nI 8 := by decide
theorem kb_9 : (Int8.ofInt (9)).toInt32 = nI 9 := by decide
theorem kb_10 : (Int8.ofInt (10)).toInt32 = nI 10 := by decide
theorem kb_11 : (Int8.ofInt (11)).toInt32 = nI 11 := by decide
theorem kb_12 : (Int8.ofInt (12)).toInt32 = nI 12 := by decide
theorem kb_14 : (Int8.ofInt (14)).toInt32 = nI 14 := by decide
theorem kb_16 : (Int8.ofInt (16)).toInt32 = nI 16 := by decide
theorem kb_17 : (Int8.ofInt (17)).toInt32 = nI 17 := by decide
theorem kb_19 : (Int8.ofInt (19)).toInt32 = nI 19 := by decide
theorem kb_20 : (Int8.ofInt (20)).toInt32 = nI 20 := by decide
theorem kb_24 : (Int8.ofInt (24)).toInt32 = nI 24 := by decide
theorem kb_31 : (Int8.ofInt (31)).toInt32 = nI 31 := by decide
theorem kb_32 : (Int8.ofInt (32)).toInt32 = nI 32 := by decide
theorem kb_33 : (Int8.ofInt (33)).toInt32 = nI 33 := by decide
theorem kb_34 : (Int8.ofInt (34)).toInt32 = nI 34 := by decide
theorem kb_39 : (Int8.ofInt (39)).toInt32 = nI 39 := by decide
theorem kb_40 : (Int8.ofInt (40)).toInt32 = nI 40 := by decide
theorem kb_44 : (Int8.ofInt (44)).toInt32 = nI 44 := by decide
theorem kb_45 : (Int8.ofInt (45)).toInt32 = nI 45 := by decide
theorem kb_47 : (Int8.ofInt (47)).toInt32 = nI 47 := by decide
theorem kb_48 : (Int8.ofInt (48)).toInt32 = nI 48 := by decide
theorem kb_57 : (Int8.ofInt (57)).toInt32 = nI 57 := by decide
theorem kb_59 : (Int8.ofInt (59)).toInt32 = nI 59 := by decide
theorem kb_60 : (Int8.ofInt (60)).toInt32 = nI 60 := by decide
theorem kb_63 : (Int8.ofInt (63)).toInt32 = nI 63 := by decide
theorem kb_65 : (Int8.ofInt (65)).toInt32 = nI 65 := by decide
theorem kb_97 : (Int8.ofInt (97)).toInt32 = nI 97 := by decide
theorem kb_99 : (Int8.ofInt (99)).toInt32 = nI 99 := by decide
theorem kb_100 : (Int8.ofInt (100)).toInt32 = nI 100 := by decide
theorem kb_120 : (Int8.ofInt (120)).toInt32 = nI 120 := by decide
theorem kb_122 : (Int8.ofInt (122)).toInt32 = nI 122 := by decide
theorem kb_127 : (Int8.ofInt (127)).toInt32 = nI 127 := by decide
theorem ks_128 : (Int16.ofInt (128)).toInt32 = nI 128 := by decide +kernel
theorem ks_136 : (Int16.ofInt (136)).toInt32 = nI 136 := by decide +kernel
theorem ks_144 : (Int16.ofInt (144)).toInt32 = nI 144 := by decide +kernel
theorem ks_161 : (Int16.ofInt (161)).toInt32 = nI 161 := by decide +kernel
theorem ks_255 : (Int16.ofInt (255)).toInt32 = nI 255 := by decide +kernel
theorem ks_256 : (Int16.ofInt (256)).toInt32 = nI 256 := by decide +kernel
theorem ks_322 : (Int16.ofInt (322)).toInt32 = nI 322 := by decide +kernel
theorem ks_384 : (Int16.ofInt (384)).toInt32 = nI 384 := by decide +kernel
theorem ks_480 : (Int16.ofInt (480)).toInt32 = nI 480 := by decide +kernel
theorem ks_600 : (Int16.ofInt (600)).toInt32 = nI 600 := by decide +kernel
theorem ks_999 : (Int16.ofInt (999)).toInt32 = nI 999 := by decide +kernel
theorem ks_1023 : (Int16.ofInt (1023)).toInt32 = nI 1023 := by decide +kernel
theorem ks_1288 : (Int16.ofInt (1288)).toInt32 = nI 1288 := by decide +kernel
theorem ks_1728 : (Int16.ofInt (1728)).toInt32 = nI 1728 := by decide +kernel
theorem ks_2400 : (Int16.ofInt (2400)).toInt32 = nI 2400 := by decide +kernel
theorem ks_4096 : (Int16.ofInt (4096)).toInt32 = nI 4096 := by decide +kernel
theorem ks_5120 : (Int16.ofInt (5120)).toInt32 = nI 5120 := by decide +kernel
theorem ks_10000 : (Int16.ofInt (10000)).toInt32 = nI 10000 := by decide +kernel
theorem ks_12345 : (Int16.ofInt (12345)).toInt32 = nI 12345 := by decide +kernel
theorem ks_22464 : (Int16.ofInt (22464)).toInt32 = nI 22464 := by decide +kernel
theorem ma_1 : (mfd 1 = 1 ∧ mkd 1 = 3 ∧ mln 1 = 2400) ∧ (1 ≤ 1 ∧ 1 ≤ 32) ∧ 2400 < 2 ^ 31 := ⟨⟨rfl, rfl, rfl⟩, ⟨by decide, by decide⟩, by decide⟩
theorem ma_2 : (mfd 2 = 2 ∧ mkd 2 = 1 ∧ mln 2 = 4) ∧ (1 ≤ 2 ∧ 2 ≤ 32) ∧ 4 < 2 ^ 31 := ⟨⟨rfl, rfl, rfl⟩, ⟨by decide, by decide⟩, by decide⟩
theorem ma_3 : (mfd 3 = 3 ∧ mkd 3 = 1 ∧ mln 3 = 4) ∧ (1 ≤ 3 ∧ 3 ≤ 32) ∧ 4 < 2 ^ 31 := ⟨⟨rfl, rfl, rfl⟩, ⟨by decide, by decide⟩, by decide⟩
theorem ma_4 : (mfd 4 = 4 ∧ mkd 4 = 1 ∧ mln 4 = 4) ∧ (1 ≤ 4 ∧ 4 ≤ 32) ∧ 4 < 2 ^ 31 := ⟨⟨rfl, rfl, rfl⟩, ⟨by decide, by decide⟩, by decide⟩
theorem ma_5 : (mfd 5 = 5 ∧ mkd 5 = 1 ∧ mln 5 = 12) ∧ (1 ≤ 5 ∧ 5 ≤ 32) ∧ 12 < 2 ^ 31 := ⟨⟨rfl, rfl, rfl⟩, ⟨by decide, by decide⟩, by decide⟩
theorem ma_6 : (mfd 6 = 6 ∧ mkd 6 = 1 ∧ mln 6 = 480) ∧ (1 ≤ 6 ∧ 6 ≤ 32) ∧ 480 < 2 ^ 31 := ⟨⟨rfl, rfl, rfl⟩, ⟨by decide, by decide⟩, by decide⟩
theorem ma_7 : (mfd 7 = 7 ∧ mkd 7 = 1 ∧ mln 7 = 1288) ∧ (1 ≤ 7 ∧ 7 ≤ 32) ∧ 1288 < 2 ^ 31 := ⟨⟨rfl, rfl, rfl⟩, ⟨by decide, by decide⟩, by decide⟩
theorem ma_8 : (mfd 8 = 8 ∧ mkd 8 = 1 ∧ mln 8 = 136) ∧ (1 ≤ 8 ∧ 8 ≤ 32) ∧ 136 < 2 ^ 31 := ⟨⟨rfl, rfl, rfl⟩, ⟨by decide, by decide⟩, by decide⟩
theorem ma_18 : (mfd 9 = 18 ∧ mkd 9 = 1 ∧ mln 9 = 161) ∧ (1 ≤ 9 ∧ 9 ≤ 32) ∧ 161 < 2 ^ 31 := ⟨⟨rfl, rfl, rfl⟩, ⟨by decide, by decide⟩, by decide⟩
theorem ma_19 : (mfd 10 = 19 ∧ mkd 10 = 1 ∧ mln 10 = 4) ∧ (1 ≤ 10 ∧ 10 ≤ 32) ∧ 4 < 2 ^ 31 := ⟨⟨rfl, rfl, rfl⟩, ⟨by decide, by decide⟩, by decide⟩
theorem ma_25 : (mfd 11 = 25 ∧ mkd 11 = 1 ∧ mln 11 = 4) ∧ (1 ≤ 11 ∧ 11 ≤ 32) ∧ 4 < 2 ^ 31 := ⟨⟨rfl, rfl, rfl⟩, ⟨by decide, by decide⟩, by decide⟩
theorem ma_26 : (mfd 12 = 26 ∧ mkd 12 = 1 ∧ mln 12 = 4) ∧ (1 ≤ 12 ∧ 12 ≤ 32) ∧ 4 < 2 ^ 31 := ⟨⟨rfl, rfl, rfl⟩, ⟨by decide, by decide⟩, by decide⟩
theorem ma_27 : (mfd 13 = 27 ∧ mkd 13 = 1 ∧ mln 13 = 48) ∧ (1 ≤ 13 ∧ 13 ≤ 32) ∧ 48 < 2 ^ 31 := ⟨⟨rfl, rfl, rfl⟩, ⟨by decide, by decide⟩, by decide⟩
theorem ma_28 : (mfd 14 = 28 ∧ mkd 14 = 1 ∧ mln 14 = 48) ∧ (1 ≤ 14 ∧ 14 ≤ 32) ∧ 48 < 2 ^ 31 := ⟨⟨rfl, rfl, rfl⟩, ⟨by decide, by decide⟩, by decide⟩
theorem ma_29 : (mfd 15 = 29 ∧ mkd 15 = 2 ∧ mln 15 = 131072) ∧ (1 ≤ 15 ∧ 15 ≤ 32) ∧ 131072 < 2 ^ 31 := ⟨⟨rfl, rfl, rfl⟩, ⟨by decide, by decide⟩, by decide⟩
theorem ma_30 : (mfd 16 = 30 ∧ mkd 16 = 3 ∧ mln 16 = 131072) ∧ (1 ≤ 16 ∧ 16 ≤ 32) ∧ 131072 < 2 ^ 31 := ⟨⟨rfl, rfl, rfl⟩, ⟨by decide, by decide⟩, by decide⟩
theorem ma_31 : (mfd 17 = 31 ∧ mkd 17 = 2 ∧ mln 17 = 40400) ∧ (1 ≤ 17 ∧ 17 ≤ 32) ∧ 40400 < 2 ^ 31 := ⟨⟨rfl, rfl, rfl⟩, ⟨by decide, by decide⟩, by decide⟩
theorem ma_32 : (mfd 18 = 32 ∧ mkd 18 = 1 ∧ mln 18 = 8) ∧ (1 ≤ 18 ∧ 18 ≤ 32) ∧ 8 < 2 ^ 31 := ⟨⟨rfl, rfl, rfl⟩, ⟨by decide, by decide⟩, by decide⟩
theorem ma_33 : (mfd 19 = 33 ∧ mkd 19 = 1 ∧ mln 19 = 8) ∧ (1 ≤ 19 ∧ 19 ≤ 32) ∧ 8 < 2 ^ 31 := ⟨⟨rfl, rfl, rfl⟩, ⟨by decide, by decide⟩, by decide⟩
theorem ma_39 : (mfd 20 = 39 ∧ mkd 20 = 1 ∧ mln 20 = 12) ∧ (1 ≤ 20 ∧ 20 ≤ 32) ∧ 12 < 2 ^ 31 := ⟨⟨rfl, rfl, rfl⟩, ⟨by decide, by decide⟩, by decide⟩
theorem ma_40 : (mfd 21 = 40 ∧ mkd 21 = 1 ∧ mln 21 = 12) ∧ (1 ≤ 21 ∧ 21 ≤ 32) ∧ 12 < 2 ^ 31 := ⟨⟨rfl, rfl, rfl⟩, ⟨by decide, by decide⟩, by decide⟩
theorem ma_41 : (mfd 22 = 41 ∧ mkd 22 = 2 ∧ mln 22 = 32) ∧ (1 ≤ 22 ∧ 22 ≤ 32) ∧ 32 < 2 ^ 31 := ⟨⟨rfl, rfl, rfl⟩, ⟨by decide, by decide⟩, by decide⟩
theorem ma_42 : (mfd 23 = 42 ∧ mkd 23 = 2 ∧ mln 23 = 33) ∧ (1 ≤ 23 ∧ 23 ≤ 32) ∧ 33 < 2 ^ 31 := ⟨⟨rfl, rfl, rfl⟩, ⟨by decide, by decide⟩, by decide⟩
theorem ma_43 : (mfd 24 = 43 ∧ mkd 24 = 1 ∧ mln 24 = 33) ∧ (1 ≤ 24 ∧ 24 ≤ 32) ∧ 33 < 2 ^ 31 := ⟨⟨rfl, rfl, rfl⟩, ⟨by decide, by decide⟩, by decide⟩
theorem ma_45 : (mfd 25 = 45 ∧ mkd 25 = 1 ∧ mln 25 = 4) ∧ (1 ≤ 25 ∧ 25 ≤ 32) ∧ 4 < 2 ^ 31 := ⟨⟨rfl, rfl, rfl⟩, ⟨by decide, by decide⟩, by decide⟩
theorem ma_47 : (mfd 26 = 47 ∧ mkd 26 = 2 ∧ mln 26 = 48) ∧ (1 ≤ 26 ∧ 26 ≤ 32) ∧ 48 < 2 ^ 31 := ⟨⟨rfl, rfl, rfl⟩, ⟨by decide, by decide⟩, by decide⟩
theorem ma_48 : (mfd 27 = 48 ∧ mkd 27 = 1 ∧ mln 27 = 32) ∧ (1 ≤ 27 ∧ 27 ≤ 32) ∧ 32 < 2 ^ 31 := ⟨⟨rfl, rfl, rfl⟩, ⟨by decide, by decide⟩, by decide⟩
theorem ma_54 : (mfd 28 = 54 ∧ mkd 28 = 1 ∧ mln 28 = 22464) ∧ (1 ≤ 28 ∧ 28 ≤ 32) ∧ 22464 < 2 ^ 31 := ⟨⟨rfl, rfl, rfl⟩, ⟨by decide, by decide⟩, by decide⟩
theorem ma_57 : (mfd 29 = 57 ∧ mkd 29 = 1 ∧ mln 29 = 3) ∧ (1 ≤ 29 ∧ 29 ≤ 32) ∧ 3 < 2 ^ 31 := ⟨⟨rfl, rfl, rfl⟩, ⟨by decide, by decide⟩, by decide⟩
theorem ma_58 : (mfd 30 = 58 ∧ mkd 30 = 1 ∧ mln 30 = 12) ∧ (1 ≤ 30 ∧ 30 ≤ 32) ∧ 12 < 2 ^ 31 := ⟨⟨rfl, rfl, rfl⟩, ⟨by decide, by decide⟩, by decide⟩
theorem ma_59 : (mfd 31 = 59 ∧ mkd 31 = 1 ∧ mln 31 = 12) ∧ (1 ≤ 31 ∧ 31 ≤ 32) ∧ 12 < 2 ^ 31 := ⟨⟨rfl, rfl, rfl⟩, ⟨by decide, by decide⟩, by decide⟩
theorem ma_61 : (mfd 32 = 61 ∧ mkd 32 = 4 ∧ mln 32 = 3) ∧ (1 ≤ 32 ∧ 32 ≤ 32) ∧ 3 < 2 ^ 31 := ⟨⟨rfl, rfl, rfl⟩, ⟨by decide, by decide⟩, by decide⟩
section NatRows
variable {E : zE} {cc : ByteArray} {F : zF} {pc q : Nat} {lv : List (Option Value)} {r : List Value} {M : zM} {c s : Nat}
theorem g_iaddN {a b : Nat} (hd : decode cc pc = .ok (.iadd, 1)) (hq : pc + 1 = q) (kk : Go E cc F q lv (.int (nI (a + b)) :: r) M c s) : Go E cc F pc lv (.int (nI b) :: .int (nI a) :: r) M c s := g_iadd hd hq (g_top (nI_add a b) kk)
theorem g_imulN {a b : Nat} (hd : decode cc pc = .ok (.imul, 1)) (hq : pc + 1 = q) (kk : Go E cc F q lv (.int (nI (a * b)) :: r) M c s) : Go E cc F pc lv (.int (nI b) :: .int (nI a) :: r) M c s := g_imul hd hq (g_top (pk_mul a b) kk)
theorem g_isubN {a b : Nat} (hd : decode cc pc = .ok (.isub, 1)) (hab : b ≤ a) (hq : pc + 1 = q) (kk : Go E cc F q lv (.int (nI (a - b)) :: r) M c s) : Go E cc F pc lv (.int (nI b) :: .int (nI a) :: r) M c s := g_isub hd hq (g_top (pk_sub hab) kk)
theorem g_idivN {a b : Nat} (hd : decode cc pc = .ok (.idiv, 1)) (ha : a < 2 ^ 31) (h0 : 0 < b) (hb : b < 2 ^ 31) (hq : pc + 1 = q) (kk : Go E cc F q lv (.int (nI (a / b)) :: r) M c s) : Go E cc F pc lv (.int (nI b) :: .int (nI a) :: r) M c s := g_idiv hd (nI_ne0 h0 hb) hq (g_top (pk_div ha h0 hb) kk)
theorem g_iremN {a b : Nat} (hd : decode cc pc = .ok (.irem, 1)) (ha : a < 2 ^ 31) (h0 : 0 < b) (hb : b < 2 ^ 31) (hq : pc + 1 = q) (kk : Go E cc F q lv (.int (nI (a % b)) :: r) M c s) : Go E cc F pc lv (.int (nI b) :: .int (nI a) :: r) M c s := g_irem hd (nI_ne0 h0 hb) hq (g_top (pk_rem ha h0 hb) kk)
end NatRows
