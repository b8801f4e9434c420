set_option maxRecDepth 100000
theorem fs_X0_28 : FS RX0 28 0 0 true := ⟨RX0, TX0, 4, "TouchShelf", cs_0, by decide, q225, Or.inl rfl, rfl, fun _ => rfl⟩
theorem fs_X0_32 : FS RX0 32 0 1 true := ⟨RX0, TX0, 4, "TouchShelf", cs_0, by decide, q226, Or.inl rfl, rfl, fun _ => rfl⟩
theorem fs_X0_39 : FS RX0 39 0 2 true := ⟨RX0, TX0, 4, "TouchShelf", cs_0, by decide, q227, Or.inl rfl, rfl, fun _ => rfl⟩
theorem fs_X0_193 : FS RX0 193 0 3 false := ⟨RX0, TX0, 4, "TouchShelf", cs_0, by decide, q228, Or.inl rfl, rfl, fun h => by cases h⟩
theorem fs_X14_9 : FS RX14 9 13 2 true := ⟨RX14, TX14, 9, "TouchShelf$Course", cs_13, by decide, q1404, Or.inl rfl, rfl, fun _ => rfl⟩
theorem fs_X14_15 : FS RX14 15 13 5 false := ⟨RX14, TX14, 9, "TouchShelf$Course", cs_13, by decide, q1409, Or.inl rfl, rfl, fun h => by cases h⟩
theorem fs_X14_25 : FS RX14 25 13 0 true := ⟨RX14, TX14, 9, "TouchShelf$Course", cs_13, by decide, q1400, Or.inl rfl, rfl, fun _ => rfl⟩
theorem fs_X14_41 : FS RX14 41 13 1 true := ⟨RX14, TX14, 9, "TouchShelf$Course", cs_13, by decide, q1402, Or.inl rfl, rfl, fun _ => rfl⟩
theorem fs_X14_92 : FS RX14 92 13 6 false := ⟨RX14, TX14, 9, "TouchShelf$Course", cs_13, by decide, q1411, Or.inl rfl, rfl, fun h => by cases h⟩
theorem fs_X14_95 : FS RX14 95 13 7 false := ⟨RX14, TX14, 9, "TouchShelf$Course", cs_13, by decide, q1413, Or.inl rfl, rfl, fun h => by cases h⟩
theorem fs_X14_104 : FS RX14 104 13 8 false := ⟨RX14, TX14, 9, "TouchShelf$Course", cs_13, by decide, q1414, Or.inl rfl, rfl, fun h => by cases h⟩
theorem fs_X14_114 : FS RX14 114 13 4 false := ⟨RX14, TX14, 9, "TouchShelf$Course", cs_13, by decide, q1407, Or.inl rfl, rfl, fun h => by cases h⟩
theorem fs_X14_117 : FS RX14 117 13 3 false := ⟨RX14, TX14, 9, "TouchShelf$Course", cs_13, by decide, q1405, Or.inl rfl, rfl, fun h => by cases h⟩
theorem fs_X7_14 : FS RX7 14 5 8 true := ⟨RX7, TX7, 9, "TouchShelf$DaybookReader", cs_5, by decide, q964, Or.inl rfl, rfl, fun _ => rfl⟩
theorem fs_X9_7 : FS RX9 7 9 0 true := ⟨RX9, TX9, 4, "TouchShelf$Deed", cs_9, by decide, q705, Or.inl rfl, rfl, fun _ => rfl⟩
theorem fs_X9_13 : FS RX9 13 9 1 true := ⟨RX9, TX9, 4, "TouchShelf$Deed", cs_9, by decide, q707, Or.inl rfl, rfl, fun _ => rfl⟩
theorem fs_X9_17 : FS RX9 17 9 2 true := ⟨RX9, TX9, 4, "TouchShelf$Deed", cs_9, by decide, q709, Or.inl rfl, rfl, fun _ => rfl⟩
theorem fs_X9_20 : FS RX9 20 9 3 true := ⟨RX9, TX9, 4, "TouchShelf$Deed", cs_9, by decide, q711, Or.inl rfl, rfl, fun _ => rfl⟩
theorem fs_X15_7 : FS RX15 7 14 0 false := ⟨RX15, TX15, 1, "TouchShelf$Dice", cs_14, by decide, q1567, Or.inl rfl, rfl, fun h => by cases h⟩
theorem fs_X8_7 : FS RX8 7 8 6 true := ⟨RX8, TX8, 8, "TouchShelf$Fault", cs_8, by decide, q648, Or.inl rfl, rfl, fun _ => rfl⟩
theorem fs_X8_13 : FS RX8 13 8 7 true := ⟨RX8, TX8, 8, "TouchShelf$Fault", cs_8, by decide, q651, Or.inl rfl, rfl, fun _ => rfl⟩
theorem fs_X6_9 : FS RX6 9 7 0 false := ⟨RX6, TX6, 4, "TouchShelf$Library", cs_7, by decide, q503, Or.inl rfl, rfl, fun h => by cases h⟩
theorem fs_X6_15 : FS RX6 15 7 1 false := ⟨RX6, TX6, 4, "TouchShelf$Library", cs_7, by decide, q506, Or.inl rfl, rfl, fun h => by cases h⟩
theorem fs_X6_18 : FS RX6 18 7 2 false := ⟨RX6, TX6, 4, "TouchShelf$Library", cs_7, by decide, q509, Or.inl rfl, rfl, fun h => by cases h⟩
theorem fs_X6_26 : FS RX6 26 7 3 true := ⟨RX6, TX6, 4, "TouchShelf$Library", cs_7, by decide, q513, Or.inl rfl, rfl, fun _ => rfl⟩
theorem fs_X5_14 : FS RX5 14 4 8 true := ⟨RX5, TX5, 9, "TouchShelf$LibraryReader", cs_4, by decide, q525, Or.inl rfl, rfl, fun _ => rfl⟩
theorem fs_X4_9 : FS RX4 9 4 0 true := ⟨RX5, TX5, 9, "TouchShelf$Reader", cs_4, by decide, q526, Or.inl rfl, rfl, fun _ => rfl⟩
theorem fs_X4_9_X7 : FS RX4 9 5 0 true := ⟨RX7, TX7, 9, "TouchShelf$Reader", cs_5, by decide, q526, Or.inl rfl, rfl, fun _ => rfl⟩
theorem fs_X4_9_X11 : FS RX4 9 6 0 true := ⟨RX11, TX11, 9, "TouchShelf$Reader", cs_6, by decide, q526, Or.inl rfl, rfl, fun _ => rfl⟩
theorem fs_X4_15 : FS RX4 15 4 1 true := ⟨RX5, TX5, 9, "TouchShelf$Reader", cs_4, by decide, q527, Or.inl rfl, rfl, fun _ => rfl⟩
theorem fs_X4_15_X7 : FS RX4 15 5 1 true := ⟨RX7, TX7, 9, "TouchShelf$Reader", cs_5, by decide, q527, Or.inl rfl, rfl, fun _ => rfl⟩
theorem fs_X4_15_X11 : FS RX4 15 6 1 true := ⟨RX11, TX11, 9, "TouchShelf$Reader", cs_6, by decide, q527, Or.inl rfl, rfl, fun _ => rfl⟩
theorem fs_X4_22 : FS RX4 22 4 2 false := ⟨RX5, TX5, 9, "TouchShelf$Reader", cs_4, by decide, q528, Or.inl rfl, rfl, fun h => by cases h⟩
theorem fs_X4_22_X7 : FS RX4 22 5 2 false := ⟨RX7, TX7, 9, "TouchShelf$Reader", cs_5, by decide, q528, Or.inl rfl, rfl, fun h => by cases h⟩
theorem fs_X4_22_X11 : FS RX4 22 6 2 false := ⟨RX11, TX11, 9, "TouchShelf$Reader", cs_6, by decide, q528, Or.inl rfl, rfl, fun h => by cases h⟩
theorem fs_X4_29 : FS RX4 29 4 3 false := ⟨RX5, TX5, 9, "TouchShelf$Reader", cs_4, by decide, q529, Or.inl rfl, rfl, fun h => by cases h⟩
theorem fs_X4_29_X7 : FS RX4 29 5 3 false := ⟨RX7, TX7, 9, "TouchShelf$Reader", cs_5, by decide, q529, Or.inl rfl, rfl, fun h => by cases h⟩
theorem fs_X4_29_X11 : FS RX4 29 6 3 false := ⟨RX11, TX11, 9, "TouchShelf$Reader", cs_6, by decide, q529, Or.inl rfl, rfl, fun h => by cases h⟩
theorem fs_X4_38 : FS RX4 38 4 5 false := ⟨RX5, TX5, 9, "TouchShelf$Reader", cs_4, by decide, q531, Or.inl rfl, rfl, fun h => by cases h⟩
theorem fs_X4_38_X7 : FS RX4 38 5 5 false := ⟨RX7, TX7, 9, "TouchShelf$Reader", cs_5, by decide, q531, Or.inl rfl, rfl, fun h => by cases h⟩
theorem fs_X4_38_X11 : FS RX4 38 6 5 false := ⟨RX11, TX11, 9, "TouchShelf$Reader", cs_6, by decide, q531, Or.inl rfl, rfl, fun h => by cases h⟩
theorem fs_X4_62 : FS RX4 62 4 6 false := ⟨RX5, TX5, 9, "TouchShelf$Reader", cs_4, by decide, q532, Or.inl rfl, rfl, fun h => by cases h⟩
theorem fs_X4_62_X7 : FS RX4 62 5 6 false := ⟨RX7, TX7, 9, "TouchShelf$Reader", cs_5, by decide, q532, Or.inl rfl, rfl, fun h => by cases h⟩
theorem fs_X4_62_X11 : FS RX4 62 6 6 false := ⟨RX11, TX11, 9, "TouchShelf$Reader", cs_6, by decide, q532, Or.inl rfl, rfl, fun h => by cases h⟩
theorem fs_X4_72 : FS RX4 72 4 4 false := ⟨RX5, TX5, 9, "TouchShelf$Reader", cs_4, by decide, q530, Or.inl rfl, rfl, fun h => by cases h⟩
theorem fs_X4_72_X7 : FS RX4 72 5 4 false := ⟨RX7, TX7, 9, "TouchShelf$Reader", cs_5, by decide, q530, Or.inl rfl, rfl, fun h => by cases h⟩
theorem fs_X4_72_X11 : FS RX4 72 6 4 false := ⟨RX11, TX11, 9, "TouchShelf$Reader", cs_6, by decide, q530, Or.inl rfl, rfl, fun h => by cases h⟩
theorem fs_X4_102 : FS RX4 102 4 7 false := ⟨RX5, TX5, 9, "TouchShelf$Reader", cs_4, by decide, q533, Or.inl rfl, rfl, fun h => by cases h⟩
theorem fs_X4_102_X7 : FS RX4 102 5 7 false := ⟨RX7, TX7, 9, "TouchShelf$Reader", cs_5, by decide, q533, Or.inl rfl, rfl, fun h => by cases h⟩
theorem fs_X4_102_X11 : FS RX4 102 6 7 false := ⟨RX11, TX11, 9, "TouchShelf$Reader", cs_6, by decide, q533, Or.inl rfl, rfl, fun h => by cases h⟩
theorem fs_X12_14 : FS RX12 14 11 0 true := ⟨RX12, TX12, 3, "TouchShelf$Round", cs_11, by decide, q997, Or.inl rfl, rfl, fun _ => rfl⟩
theorem fs_X12_20 : FS RX12 20 11 1 true := ⟨RX12, TX12, 3, "TouchShelf$Round", cs_11, by decide, q1000, Or.inl rfl, rfl, fun _ => rfl⟩
theorem fs_X12_40 : FS RX12 40 11 2 false := ⟨RX12, TX12, 3, "TouchShelf$Round", cs_11, by decide, q1003, Or.inl rfl, rfl, fun h => by cases h⟩
theorem fs_X11_14 : FS RX11 14 6 8 true := ⟨RX11, TX11, 9, "TouchShelf$RoundReader", cs_6, by decide, q1011, Or.inl rfl, rfl, fun _ => rfl⟩
theorem fs_X2_9 : FS RX2 9 2 0 true := ⟨RX2, TX2, 3, "TouchShelf$Sets", cs_2, by decide, q214, Or.inl rfl, rfl, fun _ => rfl⟩
theorem fs_X2_19 : FS RX2 19 2 2 false := ⟨RX2, TX2, 3, "TouchShelf$Sets", cs_2, by decide, q216, Or.inl rfl, rfl, fun h => by cases h⟩
theorem fs_X2_27 : FS RX2 27 2 1 false := ⟨RX2, TX2, 3, "TouchShelf$Sets", cs_2, by decide, q215, Or.inl rfl, rfl, fun h => by cases h⟩
theorem fs_X10_9 : FS RX10 9 10 1 false := ⟨RX10, TX10, 2, "TouchShelf$Shelf", cs_10, by decide, q832, Or.inl rfl, rfl, fun h => by cases h⟩
theorem fs_X10_15 : FS RX10 15 10 0 true := ⟨RX10, TX10, 2, "TouchShelf$Shelf", cs_10, by decide, q827, Or.inl rfl, rfl, fun _ => rfl⟩
theorem fs_X13_10 : FS RX13 10 12 0 true := ⟨RX13, TX13, 5, "TouchShelf$Slides", cs_12, by decide, q1111, Or.inl rfl, rfl, fun _ => rfl⟩
theorem fs_X13_17 : FS RX13 17 12 1 true := ⟨RX13, TX13, 5, "TouchShelf$Slides", cs_12, by decide, q1112, Or.inl rfl, rfl, fun _ => rfl⟩
theorem fs_X13_20 : FS RX13 20 12 2 true := ⟨RX13, TX13, 5, "TouchShelf$Slides", cs_12, by decide, q1113, Or.inl rfl, rfl, fun _ => rfl⟩
theorem fs_X13_30 : FS RX13 30 12 3 false := ⟨RX13, TX13, 5, "TouchShelf$Slides", cs_12, by decide, q1114, Or.inl rfl, rfl, fun h => by cases h⟩
theorem fs_X13_34 : FS RX13 34 12 4 false := ⟨RX13, TX13, 5, "TouchShelf$Slides", cs_12, by decide, q1115, Or.inl rfl, rfl, fun h => by cases h⟩
theorem fs_X1_9 : FS RX1 9 1 0 true := ⟨RX1, TX1, 7, "TouchShelf$State", cs_1, by decide, q178, Or.inl rfl, rfl, fun _ => rfl⟩
theorem fs_X1_15 : FS RX1 15 1 3 false := ⟨RX1, TX1, 7, "TouchShelf$State", cs_1, by decide, q184, Or.inl rfl, rfl, fun h => by cases h⟩
theorem fs_X1_24 : FS RX1 24 1 4 true := ⟨RX1, TX1, 7, "TouchShelf$State", cs_1, by decide, q186, Or.inl rfl, rfl, fun _ => rfl⟩
theorem fs_X1_28 : FS RX1 28 1 5 true := ⟨RX1, TX1, 7, "TouchShelf$State", cs_1, by decide, q188, Or.inl rfl, rfl, fun _ => rfl⟩
theorem fs_X1_31 : FS RX1 31 1 6 true := ⟨RX1, TX1, 7, "TouchShelf$State", cs_1, by decide, q190, Or.inl rfl, rfl, fun _ => rfl⟩
theorem fs_X1_40 : FS RX1 40 1 1 false := ⟨RX1, TX1, 7, "TouchShelf$State", cs_1, by decide, q180, Or.inl rfl, rfl, fun h => by cases h⟩
theorem fs_X1_43 : FS RX1 43 1 2 false := ⟨RX1, TX1, 7, "TouchShelf$State", cs_1, by decide, q182, Or.inl rfl, rfl, fun h => by cases h⟩
theorem fs_X3_7 : FS RX3 7 3 1 true := ⟨RX3, TX3, 62, "TouchShelfModel", cs_3, by decide, q1624, Or.inl rfl, rfl, fun _ => rfl⟩
theorem fs_X3_13 : FS RX3 13 3 2 true := ⟨RX3, TX3, 62, "TouchShelfModel", cs_3, by decide, q1625, Or.inl rfl, rfl, fun _ => rfl⟩
theorem fs_X3_17 : FS RX3 17 3 3 true := ⟨RX3, TX3, 62, "TouchShelfModel", cs_3, by decide, q1626, Or.inl rfl, rfl, fun _ => rfl⟩
theorem fs_X3_20 : FS RX3 20 3 4 true := ⟨RX3, TX3, 62, "TouchShelfModel", cs_3, by decide, q1627, Or.inl rfl, rfl, fun _ => rfl⟩
theorem fs_X3_23 : FS RX3 23 3 5 true := ⟨RX3, TX3, 62, "TouchShelfModel", cs_3, by decide, q1628, Or.inl rfl, rfl, fun _ => rfl⟩
theorem fs_X3_26 : FS RX3 26 3 6 true := ⟨RX3, TX3, 62, "TouchShelfModel", cs_3, by decide, q1629, Or.inl rfl, rfl, fun _ => rfl⟩
theorem fs_X3_29 : FS RX3 29 3 7 true := ⟨RX3, TX3, 62, "TouchShelfModel", cs_3, by decide, q1630, Or.inl rfl, rfl, fun _ => rfl⟩
theorem fs_X3_32 : FS RX3 32 3 8 true := ⟨RX3, TX3, 62, "TouchShelfModel", cs_3, by decide, q1631, Or.inl rfl, rfl, fun _ => rfl⟩
theorem fs_X3_35 : FS RX3 35 3 18 true := ⟨RX3, TX3, 62, "TouchShelfModel", cs_3, by decide, q1641, Or.inl rfl, rfl, fun _ => rfl⟩
theorem fs_X3_38 : FS RX3 38 3 19 true := ⟨RX3, TX3, 62, "TouchShelfModel", cs_3, by decide, q1642, Or.inl rfl, rfl, fun _ => rfl⟩
theorem fs_X3_41 : FS RX3 41 3 25 true := ⟨RX3, TX3, 62, "TouchShelfModel", cs_3, by decide, q1648, Or.inl rfl, rfl, fun _ => rfl⟩
theorem fs_X3_44 : FS RX3 44 3 26 true := ⟨RX3, TX3, 62, "TouchShelfModel", cs_3, by decide, q1649, Or.inl rfl, rfl, fun _ => rfl⟩
theorem fs_X3_47 : FS RX3 47 3 27 true := ⟨RX3, TX3, 62, "TouchShelfModel", cs_3, by decide, q1650, Or.inl rfl, rfl, fun _ => rfl⟩
theorem fs_X3_50 : FS RX3 50 3 28 true := ⟨RX3, TX3, 62, "TouchShelfModel", cs_3, by decide, q1651, Or.inl rfl, rfl, fun _ => rfl⟩
theorem fs_X3_54 : FS RX3 54 3 29 true := ⟨RX3, TX3, 62, "TouchShelfModel", cs_3, by decide, q1652, Or.inl rfl, rfl, fun _ => rfl⟩
theorem fs_X3_58 : FS RX3 58 3 30 true := ⟨RX3, TX3, 62, "TouchShelfModel", cs_3, by decide, q1653, Or.inl rfl, rfl, fun _ => rfl⟩
theorem fs_X3_62 : FS RX3 62 3 31 true := ⟨RX3, TX3, 62, "TouchShelfModel", cs_3, by decide, q1654, Or.inl rfl, rfl, fun _ => rfl⟩
theorem fs_X3_65 : FS RX3 65 3 32 true := ⟨RX3, TX3, 62, "TouchShelfModel", cs_3, by decide, q1655, Or.inl rfl, rfl, fun _ => rfl⟩
theorem fs_X3_68 : FS RX3 68 3 33 true := ⟨RX3, TX3, 62, "TouchShelfModel", cs_3, by decide, q1656, Or.inl rfl, rfl, fun _ => rfl⟩
theorem fs_X3_71 : FS RX3 71 3 39 true := ⟨RX3, TX3, 62, "TouchShelfModel", cs_3, by decide, q1662, Or.inl rfl, rfl, fun _ => rfl⟩
theorem fs_X3_74 : FS RX3 74 3 40 true := ⟨RX3, TX3, 62, "TouchShelfModel", cs_3, by decide, q1663, Or.inl rfl, rfl, fun _ => rfl⟩
theorem fs_X3_77 : FS RX3 77 3 41 true := ⟨RX3, TX3, 62, "TouchShelfModel", cs_3, by decide, q1664, Or.inl rfl, rfl, fun _ => rfl⟩
theorem fs_X3_80 : FS RX3 80 3 42 true := ⟨RX3, TX3, 62, "TouchShelfModel", cs_3, by decide, q1665, Or.inl rfl, rfl, fun _ => rfl⟩
theorem fs_X3_83 : FS RX3 83 3 43 true := ⟨RX3, TX3, 62, "TouchShelfModel", cs_3, by decide, q1666, Or.inl rfl, rfl, fun _ => rfl⟩
theorem fs_X3_86 : FS RX3 86 3 45 true := ⟨RX3, TX3, 62, "TouchShelfModel", cs_3, by decide, q1668, Or.inl rfl, rfl, fun _ => rfl⟩
theorem fs_X3_89 : FS RX3 89 3 47 true := ⟨RX3, TX3, 62, "TouchShelfModel", cs_3, by decide, q1670, Or.inl rfl, rfl, fun _ => rfl⟩
theorem fs_X3_92 : FS RX3 92 3 48 true := ⟨RX3, TX3, 62, "TouchShelfModel", cs_3, by decide, q1671, Or.inl rfl, rfl, fun _ => rfl⟩
theorem fs_X3_95 : FS RX3 95 3 54 true := ⟨RX3, TX3, 62, "TouchShelfModel", cs_3, by decide, q1677, Or.inl rfl, rfl, fun _ => rfl⟩
theorem fs_X3_98 : FS RX3 98 3 57 true := ⟨RX3, TX3, 62, "TouchShelfModel", cs_3, by decide, q1680, Or.inl rfl, rfl, fun _ => rfl⟩
theorem fs_X3_101 : FS RX3 101 3 58 true := ⟨RX3, TX3, 62, "TouchShelfModel", cs_3, by decide, q1681, Or.inl rfl, rfl, fun _ => rfl⟩
theorem fs_X3_104 : FS RX3 104 3 59 true := ⟨RX3, TX3, 62, "TouchShelfModel", cs_3, by decide, q1682, Or.inl rfl, rfl, fun _ => rfl⟩
theorem fs_X3_107 : FS RX3 107 3 61 true := ⟨RX3, TX3, 62, "TouchShelfModel", cs_3, by decide, q1684, Or.inl rfl, rfl, fun _ => rfl⟩
theorem fs_X3_111 : FS RX3 111 3 0 false := ⟨RX3, TX3, 62, "TouchShelfModel", cs_3, by decide, q1623, Or.inl rfl, rfl, fun h => by cases h⟩
theorem fs_X3_131 : FS RX3 131 3 9 false := ⟨RX3, TX3, 62, "TouchShelfModel", cs_3, by decide, q1632, Or.inl rfl, rfl, fun h => by cases h⟩
theorem fs_X3_134 : FS RX3 134 3 10 false := ⟨RX3, TX3, 62, "TouchShelfModel", cs_3, by decide, q1633, Or.inl rfl, rfl, fun h => by cases h⟩
theorem fs_X3_141 : FS RX3 141 3 11 false := ⟨RX3, TX3, 62, "TouchShelfModel", cs_3, by decide, q1634, Or.inl rfl, rfl, fun h => by cases h⟩
theorem fs_X3_144 : FS RX3 144 3 14 false := ⟨RX3, TX3, 62, "TouchShelfModel", cs_3, by decide, q1637, Or.inl rfl, rfl, fun h => by cases h⟩
theorem fs_X3_148 : FS RX3 148 3 12 false := ⟨RX3, TX3, 62, "TouchShelfModel", cs_3, by decide, q1635, Or.inl rfl, rfl, fun h => by cases h⟩
theorem fs_X3_151 : FS RX3 151 3 13 false := ⟨RX3, TX3, 62, "TouchShelfModel", cs_3, by decide, q1636, Or.inl rfl, rfl, fun h => by cases h⟩
theorem fs_X3_154 : FS RX3 154 3 15 false := ⟨RX3, TX3, 62, "TouchShelfModel", cs_3, by decide, q1638, Or.inl rfl, rfl, fun h => by cases h⟩
theorem fs_X3_157 : FS RX3 157 3 16 false := ⟨RX3, TX3, 62, "TouchShelfModel", cs_3, by decide, q1639, Or.inl rfl, rfl, fun h => by cases h⟩
theorem fs_X3_160 : FS RX3 160 3 17 false := ⟨RX3, TX3, 62, "TouchShelfModel", cs_3, by decide, q1640, Or.inl rfl, rfl, fun h => by cases h⟩
theorem fs_X3_178 : FS RX3 178 3 20 false := ⟨RX3, TX3, 62, "TouchShelfModel", cs_3, by decide, q1643, Or.inl rfl, rfl, fun h => by cases h⟩
theorem fs_X3_234 : FS RX3 234 3 21 false := ⟨RX3, TX3, 62, "TouchShelfModel", cs_3, by decide, q1644, Or.inl rfl, rfl, fun h => by cases h⟩
theorem fs_X3_237 : FS RX3 237 3 22 false := ⟨RX3, TX3, 62, "TouchShelfModel", cs_3, by decide, q1645, Or.inl rfl, rfl, fun h => by cases h⟩
theorem fs_X3_240 : FS RX3 240 3 23 false := ⟨RX3, TX3, 62, "TouchShelfModel", cs_3, by decide, q1646, Or.inl rfl, rfl, fun h => by cases h⟩
theorem fs_X3_243 : FS RX3 243 3 24 false := ⟨RX3, TX3, 62, "TouchShelfModel", cs_3, by decide, q1647, Or.inl rfl, rfl, fun h => by cases h⟩
theorem fs_X3_287 : FS RX3 287 3 35 false := ⟨RX3, TX3, 62, "TouchShelfModel", cs_3, by decide, q1658, Or.inl rfl, rfl, fun h => by cases h⟩
theorem fs_X3_290 : FS RX3 290 3 34 false := ⟨RX3, TX3, 62, "TouchShelfModel", cs_3, by decide, q1657, Or.inl rfl, rfl, fun h => by cases h⟩
theorem fs_X3_312 : FS RX3 312 3 36 false := ⟨RX3, TX3, 62, "TouchShelfModel", cs_3, by decide, q1659, Or.inl rfl, rfl, fun h => by cases h⟩
theorem fs_X3_315 : FS RX3 315 3 37 false := ⟨RX3, TX3, 62, "TouchShelfModel", cs_3, by decide, q1660, Or.inl rfl, rfl, fun h => by cases h⟩
theorem fs_X3_330 : FS RX3 330 3 38 false := ⟨RX3, TX3, 62, "TouchShelfModel", cs_3, by decide, q1661, Or.inl rfl, rfl, fun h => by cases h⟩
theorem fs_X3_361 : FS RX3 361 3 44 false := ⟨RX3, TX3, 62, "TouchShelfModel", cs_3, by decide, q1667, Or.inl rfl, rfl, fun h => by cases h⟩
theorem fs_X3_383 : FS RX3 383 3 46 false := ⟨RX3, TX3, 62, "TouchShelfModel", cs_3, by decide, q1669, Or.inl rfl, rfl, fun h => by cases h⟩
theorem fs_X3_392 : FS RX3 392 3 49 false := ⟨RX3, TX3, 62, "TouchShelfModel", cs_3, by decide, q1672, Or.inl rfl, rfl, fun h => by cases h⟩
theorem fs_X3_395 : FS RX3 395 3 50 false := ⟨RX3, TX3, 62, "TouchShelfModel", cs_3, by decide, q1673, Or.inl rfl, rfl, fun h => by cases h⟩
theorem fs_X3_398 : FS RX3 398 3 51 false := ⟨RX3, TX3, 62, "TouchShelfModel", cs_3, by decide, q1674, Or.inl rfl, rfl, fun h => by cases h⟩
theorem fs_X3_401 : FS RX3 401 3 52 false := ⟨RX3, TX3, 62, "TouchShelfModel", cs_3, by decide, q1675, Or.inl rfl, rfl, fun h => by cases h⟩
theorem fs_X3_404 : FS RX3 404 3 53 false := ⟨RX3, TX3, 62, "TouchShelfModel", cs_3, by decide, q1676, Or.inl rfl, rfl, fun h => by cases h⟩
theorem fs_X3_439 : FS RX3 439 3 55 false := ⟨RX3, TX3, 62, "TouchShelfModel", cs_3, by decide, q1678, Or.inl rfl, rfl, fun h => by cases h⟩
theorem fs_X3_442 : FS RX3 442 3 56 false := ⟨RX3, TX3, 62, "TouchShelfModel", cs_3, by decide, q1679, Or.inl rfl, rfl, fun h => by cases h⟩
theorem fs_X3_471 : FS RX3 471 3 60 false := ⟨RX3, TX3, 62, "TouchShelfModel", cs_3, by decide, q1683, Or.inl rfl, rfl, fun h => by cases h⟩
theorem fs_J4_15 : FS RJ4 15 16 0 false := ⟨RJ5, TJ5, 4, "java/lang/AbstractStringBuilder", cs_16, by decide, q313, Or.inl rfl, rfl, fun h => by cases h⟩
theorem fs_J4_22 : FS RJ4 22 16 1 false := ⟨RJ5, TJ5, 4, "java/lang/AbstractStringBuilder", cs_16, by decide, q314, Or.inl rfl, rfl, fun h => by cases h⟩
theorem fs_J4_79 : FS RJ4 79 16 3 false := ⟨RJ5, TJ5, 4, "java/lang/AbstractStringBuilder", cs_16, by decide, q316, Or.inl rfl, rfl, fun h => by cases h⟩
theorem fs_J17_205 : FS RJ17 205 18 0 true := ⟨RJ17, TJ17, 1, "java/lang/Integer", cs_18, by decide, q903, Or.inl rfl, rfl, fun _ => rfl⟩
theorem fs_J6_9 : FS RJ6 9 17 0 true := ⟨RJ6, TJ6, 4, "java/lang/String", cs_17, by decide, q471, Or.inl rfl, rfl, fun _ => rfl⟩
theorem fs_J6_15 : FS RJ6 15 17 1 true := ⟨RJ6, TJ6, 4, "java/lang/String", cs_17, by decide, q472, Or.inl rfl, rfl, fun _ => rfl⟩
theorem fs_J6_1048 : FS RJ6 1048 16 2 false := ⟨RJ5, TJ5, 4, "java/lang/AbstractStringBuilder", cs_16, by decide, q315, Or.inl rfl, rfl, fun h => by cases h⟩
theorem fs_J13_7 : FS RJ13 7 8 0 false := ⟨RX8, TX8, 8, "java/lang/Throwable", cs_8, by decide, q655, Or.inl rfl, rfl, fun h => by cases h⟩
theorem fs_J13_17 : FS RJ13 17 8 1 false := ⟨RX8, TX8, 8, "java/lang/Throwable", cs_8, by decide, q656, Or.inl rfl, rfl, fun h => by cases h⟩
theorem fs_J13_24 : FS RJ13 24 8 2 false := ⟨RX8, TX8, 8, "java/lang/Throwable", cs_8, by decide, q657, Or.inl rfl, rfl, fun h => by cases h⟩
theorem fs_J13_198 : FS RJ13 198 8 4 false := ⟨RX8, TX8, 8, "java/lang/Throwable", cs_8, by decide, q654, Or.inl rfl, rfl, fun h => by cases h⟩
theorem fs_J1_7 : FS RJ1 7 15 0 false := ⟨RJ2, TJ2, 3, "java/util/AbstractList", cs_15, by decide, q167, Or.inl rfl, rfl, fun h => by cases h⟩
theorem fs_J2_9 : FS RJ2 9 15 1 false := ⟨RJ2, TJ2, 3, "java/util/ArrayList", cs_15, by decide, q165, Or.inl rfl, rfl, fun h => by cases h⟩
theorem fs_J2_48 : FS RJ2 48 15 2 false := ⟨RJ2, TJ2, 3, "java/util/ArrayList", cs_15, by decide, q166, Or.inl rfl, rfl, fun h => by cases h⟩
theorem fs_J2_63 : FS RJ2 63 15 0 false := ⟨RJ2, TJ2, 3, "java/util/ArrayList", cs_15, by decide, q168, Or.inr q169, rfl, fun h => by cases h⟩
theorem fn_X0_50 : FN RX0 50 1 4 true := ⟨RX1, TX1, 7, "TouchShelf", cs_1, by decide, q187, rfl⟩
theorem fn_X0_70 : FN RX0 70 7 3 true := ⟨RX6, TX6, 4, "TouchShelf", cs_7, by decide, q515, rfl⟩
theorem fn_X0_84 : FN RX0 84 1 1 false := ⟨RX1, TX1, 7, "TouchShelf", cs_1, by decide, q181, rfl⟩
theorem fn_X0_88 : FN RX0 88 1 0 true := ⟨RX1, TX1, 7, "TouchShelf", cs_1, by decide, q179, rfl⟩
theorem fn_X0_113 : FN RX0 113 1 5 true := ⟨RX1, TX1, 7, "TouchShelf", cs_1, by decide, q189, rfl⟩
theorem fn_X0_122 : FN RX0 122 1 6 true := ⟨RX1, TX1, 7, "TouchShelf", cs_1, by decide, q191, rfl⟩
theorem fn_X0_131 : FN RX0 131 1 2 false := ⟨RX1, TX1, 7, "TouchShelf", cs_1, by decide, q183, rfl⟩
theorem fn_X0_134 : FN RX0 134 1 3 false := ⟨RX1, TX1, 7, "TouchShelf", cs_1, by decide, q185, rfl⟩
theorem fn_X0_143 : FN RX0 143 8 6 true := ⟨RX8, TX8, 8, "TouchShelf", cs_8, by decide, q650, rfl⟩
theorem fn_X0_146 : FN RX0 146 8 7 true := ⟨RX8, TX8, 8, "TouchShelf", cs_8, by decide, q653, rfl⟩
theorem fn_X0_157 : FN RX0 157 10 0 true := ⟨RX10, TX10, 2, "TouchShelf", cs_10, by decide, q831, rfl⟩
theorem fn_X0_180 : FN RX0 180 7 0 false := ⟨RX6, TX6, 4, "TouchShelf", cs_7, by decide, q505, rfl⟩
theorem fn_X0_183 : FN RX0 183 7 1 false := ⟨RX6, TX6, 4, "TouchShelf", cs_7, by decide, q508, rfl⟩
theorem fn_X0_186 : FN RX0 186 7 2 false := ⟨RX6, TX6, 4, "TouchShelf", cs_7, by decide, q511, rfl⟩
theorem fn_X0_207 : FN RX0 207 10 1 false := ⟨RX10, TX10, 2, "TouchShelf", cs_10, by decide, q834, rfl⟩
theorem fn_X0_316 : FN RX0 316 13 3 false := ⟨RX14, TX14, 9, "TouchShelf", cs_13, by decide, q1406, rfl⟩
theorem fn_X0_323 : FN RX0 323 13 0 true := ⟨RX14, TX14, 9, "TouchShelf", cs_13, by decide, q1401, rfl⟩
theorem fn_X0_329 : FN RX0 329 13 4 false := ⟨RX14, TX14, 9, "TouchShelf", cs_13, by decide, q1408, rfl⟩
theorem fn_X0_332 : FN RX0 332 13 5 false := ⟨RX14, TX14, 9, "TouchShelf", cs_13, by decide, q1410, rfl⟩
theorem fn_X0_349 : FN RX0 349 13 1 true := ⟨RX14, TX14, 9, "TouchShelf", cs_13, by decide, q1403, rfl⟩
theorem fn_X0_353 : FN RX0 353 13 6 false := ⟨RX14, TX14, 9, "TouchShelf", cs_13, by decide, q1412, rfl⟩
theorem fn_X0_358 : FN RX0 358 11 0 true := ⟨RX12, TX12, 3, "TouchShelf", cs_11, by decide, q999, rfl⟩
theorem fn_X0_364 : FN RX0 364 11 1 true := ⟨RX12, TX12, 3, "TouchShelf", cs_11, by decide, q1002, rfl⟩
theorem fn_X14_29 : FN RX14 29 7 3 true := ⟨RX6, TX6, 4, "TouchShelf", cs_7, by decide, q512, rfl⟩
theorem fn_X14_53 : FN RX14 53 9 1 true := ⟨RX9, TX9, 4, "TouchShelf", cs_9, by decide, q708, rfl⟩
theorem fn_X14_58 : FN RX14 58 9 2 true := ⟨RX9, TX9, 4, "TouchShelf", cs_9, by decide, q710, rfl⟩
theorem fn_X14_74 : FN RX14 74 9 0 true := ⟨RX9, TX9, 4, "TouchShelf", cs_9, by decide, q706, rfl⟩
theorem fn_X14_83 : FN RX14 83 9 3 true := ⟨RX9, TX9, 4, "TouchShelf", cs_9, by decide, q712, rfl⟩
theorem fn_X14_89 : FN RX14 89 10 0 true := ⟨RX10, TX10, 2, "TouchShelf", cs_10, by decide, q828, rfl⟩
theorem fn_X6_60 : FN RX6 60 10 0 true := ⟨RX10, TX10, 2, "TouchShelf", cs_10, by decide, q829, rfl⟩
theorem fn_X5_23 : FN RX5 23 7 0 false := ⟨RX6, TX6, 4, "TouchShelf", cs_7, by decide, q504, rfl⟩
theorem fn_X5_46 : FN RX5 46 7 1 false := ⟨RX6, TX6, 4, "TouchShelf", cs_7, by decide, q507, rfl⟩
theorem fn_X5_50 : FN RX5 50 7 2 false := ⟨RX6, TX6, 4, "TouchShelf", cs_7, by decide, q510, rfl⟩
theorem fn_X5_65 : FN RX5 65 7 3 true := ⟨RX6, TX6, 4, "TouchShelf", cs_7, by decide, q514, rfl⟩
theorem fn_X5_108 : FN RX5 108 10 1 false := ⟨RX10, TX10, 2, "TouchShelf", cs_10, by decide, q833, rfl⟩
theorem fn_X4_106 : FN RX4 106 8 7 true := ⟨RX8, TX8, 8, "TouchShelf", cs_8, by decide, q652, rfl⟩
theorem fn_X4_107 : FN RX4 107 8 6 true := ⟨RX8, TX8, 8, "TouchShelf", cs_8, by decide, q649, rfl⟩
theorem fn_X11_23 : FN RX11 23 11 0 true := ⟨RX12, TX12, 3, "TouchShelf", cs_11, by decide, q998, rfl⟩
theorem fn_X11_49 : FN RX11 49 11 1 true := ⟨RX12, TX12, 3, "TouchShelf", cs_11, by decide, q1001, rfl⟩
theorem fn_X13_69 : FN RX13 69 10 0 true := ⟨RX10, TX10, 2, "TouchShelf", cs_10, by decide, q830, rfl⟩
theorem nm_X0_common : NMH yX0_common 2 := by unfold NMH; decide +kernel
theorem ss_X0_1 : SS RX0 1 yX0_common cX0_common 4 (some .long) 2 := ⟨lw_S q1334 q1335 q96 q1336, nm_X0_common, by decide⟩
theorem nm_J17_bitCount : NMH yJ17_bitCount 1 := by unfold NMH; decide +kernel
theorem ss_X0_7 : SS RX0 7 yJ17_bitCount cJ17_bitCount 1 (some .int) 1 := ⟨lw_S q1056 q1057 q127 q1058, nm_J17_bitCount, by decide⟩
theorem nm_J9_max : NMH yJ9_max 2 := by unfold NMH; decide +kernel
theorem ss_X0_13 : SS RX0 13 yJ9_max cJ9_max 2 (some .int) 2 := ⟨lw_S q1062 q352 q112 q353, nm_J9_max, by decide⟩
theorem nm_X1_many : NMH yX1_many 1 := by unfold NMH; decide +kernel
theorem sv_X0_43 : SV RX0 43 1 yX1_many cX1_many 2 (some .int) 1 := ⟨RX1, TX1, 7, rfl, lw_V q254 q255 q256 q97 q257, rfl, nm_X1_many, by decide⟩
theorem nm_X0_isIn : NMH yX0_isIn 3 := by unfold NMH; decide +kernel
theorem ss_X0_46 : SS RX0 46 yX0_isIn cX0_isIn 3 (some .boolean) 3 := ⟨lw_S q251 q252 q96 q253, nm_X0_isIn, by decide⟩
theorem nm_J2_get : NMH yJ2_get 1 := by unfold NMH; decide +kernel
theorem sv_X0_54 : SV RX0 54 15 yJ2_get cJ2_get 2 (some (FieldType.object "java/lang/Object")) 1 := ⟨RJ2, TJ2, 3, rfl, lw_V q1042 q851 q852 q100 q853, rfl, nm_J2_get, by decide⟩
theorem nm_X0_is : NMH yX0_is 2 := by unfold NMH; decide +kernel
theorem sv_X0_62 : SV RX0 62 0 yX0_is cX0_is 3 (some .boolean) 2 := ⟨RX0, TX0, 4, rfl, lw_V q262 q264 qs0 q96 q265, rfl, nm_X0_is, by decide⟩
theorem nm_X0_library_2 : NMH yX0_library_2 1 := by unfold NMH; decide +kernel
theorem sv_X0_66 : SV RX0 66 0 yX0_library_2 cX0_library_2 2 (some (FieldType.object "TouchShelf$Library")) 1 := ⟨RX0, TX0, 4, rfl, lw_V q1038 q1040 qs8 q96 q1041, rfl, nm_X0_library_2, by decide⟩
theorem nm_J2_size : NMH yJ2_size 0 := by unfold NMH; decide +kernel
theorem sv_X0_73 : SV RX0 73 15 yJ2_size cJ2_size 1 (some .int) 0 := ⟨RJ2, TJ2, 3, rfl, lw_V q949 q259 q260 q100 q261, rfl, nm_J2_size, by decide⟩
theorem nm_X6_isPlace : NMH yX6_isPlace 2 := by unfold NMH; decide +kernel
theorem sv_X0_77 : SV RX0 77 7 yX6_isPlace cX6_isPlace 3 (some .boolean) 2 := ⟨RX6, TX6, 4, rfl, lw_V q1218 q1219 q1220 q117 q1221, rfl, nm_X6_isPlace, by decide⟩
theorem nm_X6_isMark : NMH yX6_isMark 1 := by unfold NMH; decide +kernel
theorem sv_X0_80 : SV RX0 80 7 yX6_isMark cX6_isMark 2 (some .boolean) 1 := ⟨RX6, TX6, 4, rfl, lw_V q1231 q1232 q1233 q117 q1234, rfl, nm_X6_isMark, by decide⟩
theorem nm_J2_add : NMH yJ2_add 1 := by unfold NMH; decide +kernel
theorem sv_X0_92 : SV RX0 92 15 yJ2_add cJ2_add 2 (some .boolean) 1 := ⟨RJ2, TJ2, 3, rfl, lw_V q948 q723 q724 q100 q725, rfl, nm_J2_add, by decide⟩
theorem nm_J2_set : NMH yJ2_set 2 := by unfold NMH; decide +kernel
theorem sv_X0_96 : SV RX0 96 15 yJ2_set cJ2_set 4 (some (FieldType.object "java/lang/Object")) 2 := ⟨RJ2, TJ2, 3, rfl, lw_V q950 q951 q952 q100 q953, rfl, nm_J2_set, by decide⟩
theorem nm_X5_read : NMH yX5_read 0 := by unfold NMH; decide +kernel
theorem sv_X0_105 : SV RX0 105 4 yX5_read cX5_read 1 (some (FieldType.object "TouchShelf$Library")) 0 := ⟨RX5, TX5, 9, rfl, lw_V q553 q554 q555 q104 q556, rfl, nm_X5_read, by decide⟩
theorem nm_X0_puts : NMH yX0_puts 3 := by unfold NMH; decide +kernel
theorem ss_X0_109 : SS RX0 109 yX0_puts cX0_puts 3 (some .int) 3 := ⟨lw_S q945 q946 q96 q947, nm_X0_puts, by decide⟩
theorem nm_X7_read : NMH yX7_read 0 := by unfold NMH; decide +kernel
theorem sv_X0_119 : SV RX0 119 5 yX7_read cX7_read 1 (some (FieldType.object "java/util/ArrayList")) 0 := ⟨RX7, TX7, 9, rfl, lw_V q976 q977 q978 q118 q979, rfl, nm_X7_read, by decide⟩
theorem nm_X11_read : NMH yX11_read 0 := by unfold NMH; decide +kernel
theorem sv_X0_128 : SV RX0 128 6 yX11_read cX11_read 1 (some (FieldType.object "TouchShelf$Round")) 0 := ⟨RX11, TX11, 9, rfl, lw_V q1023 q1024 q1025 q129 q1026, rfl, nm_X11_read, by decide⟩
theorem nm_X0_reads : NMH yX0_reads 3 := by unfold NMH; decide +kernel
theorem sv_X0_137 : SV RX0 137 0 yX0_reads cX0_reads 4 (some .int) 3 := ⟨RX0, TX0, 4, rfl, lw_V q266 q268 qs1 q96 q269, rfl, nm_X0_reads, by decide⟩
theorem nm_X0_has : NMH yX0_has 2 := by unfold NMH; decide +kernel
theorem ss_X0_149 : SS RX0 149 yX0_has cX0_has 3 (some .boolean) 2 := ⟨lw_S q1078 q1051 q96 q1052, nm_X0_has, by decide⟩
theorem nm_X6_shelf : NMH yX6_shelf 1 := by unfold NMH; decide +kernel
theorem sv_X0_153 : SV RX0 153 7 yX6_shelf cX6_shelf 2 (some (FieldType.object "TouchShelf$Shelf")) 1 := ⟨RX6, TX6, 4, rfl, lw_V q1079 q847 q848 q117 q849, rfl, nm_X6_shelf, by decide⟩
theorem nm_X10_tablets : NMH yX10_tablets 0 := by unfold NMH; decide +kernel
theorem sv_X0_163 : SV RX0 163 10 yX10_tablets cX10_tablets 3 (some .int) 0 := ⟨RX10, TX10, 2, rfl, lw_V q1080 q1068 q1069 q124 q1070, rfl, nm_X10_tablets, by decide⟩
theorem nm_X6_tablets : NMH yX6_tablets 0 := by unfold NMH; decide +kernel
theorem sv_X0_166 : SV RX0 166 7 yX6_tablets cX6_tablets 3 (some .int) 0 := ⟨RX6, TX6, 4, rfl, lw_V q1063 q1064 q1065 q117 q1066, rfl, nm_X6_tablets, by decide⟩
theorem nm_X0_evens : NMH yX0_evens 3 := by unfold NMH; decide +kernel
theorem ss_X0_167 : SS RX0 167 yX0_evens cX0_evens 6 (some .int) 3 := ⟨lw_S q1075 q1076 q96 q1077, nm_X0_evens, by decide⟩
theorem nm_J9_min : NMH yJ9_min 2 := by unfold NMH; decide +kernel
theorem ss_X0_171 : SS RX0 171 yJ9_min cJ9_min 2 (some .int) 2 := ⟨lw_S q1081 q370 q112 q371, nm_J9_min, by decide⟩
theorem nm_X6_here : NMH yX6_here 0 := by unfold NMH; decide +kernel
theorem sv_X0_174 : SV RX0 174 7 yX6_here cX6_here 4 (some .int) 0 := ⟨RX6, TX6, 4, rfl, lw_V q1044 q925 q926 q117 q927, rfl, nm_X6_here, by decide⟩
theorem nm_X6_close : NMH yX6_close 1 := by unfold NMH; decide +kernel
theorem sv_X0_177 : SV RX0 177 7 yX6_close cX6_close 5 (some .int) 1 := ⟨RX6, TX6, 4, rfl, lw_V q1045 q1046 q1047 q117 q1048, rfl, nm_X6_close, by decide⟩
theorem nm_X0_even : NMH yX0_even 1 := by unfold NMH; decide +kernel
theorem ss_X0_189 : SS RX0 189 yX0_even cX0_even 5 (some .int) 1 := ⟨lw_S q1072 q1073 q96 q1074, nm_X0_even, by decide⟩
theorem nm_X13_of : NMH yX13_of 1 := by unfold NMH; decide +kernel
theorem sv_X0_200 : SV RX0 200 12 yX13_of cX13_of 9 (some (FieldType.object "TouchShelf$Slides")) 1 := ⟨RX13, TX13, 5, rfl, lw_V q1128 q1129 q1130 q131 q1131, rfl, nm_X13_of, by decide⟩
theorem nm_X0_isShelf : NMH yX0_isShelf 2 := by unfold NMH; decide +kernel
theorem sv_X0_204 : SV RX0 204 0 yX0_isShelf cX0_isShelf 3 (some .boolean) 2 := ⟨RX0, TX0, 4, rfl, lw_V q1086 q1088 qs9 q96 q1089, rfl, nm_X0_isShelf, by decide⟩
theorem nm_X10_turned : NMH yX10_turned 0 := by unfold NMH; decide +kernel
theorem sv_X0_210 : SV RX0 210 10 yX10_turned cX10_turned 5 (some .int) 0 := ⟨RX10, TX10, 2, rfl, lw_V q1090 q1091 q1092 q124 q1093, rfl, nm_X10_turned, by decide⟩
theorem nm_X0_slides : NMH yX0_slides 1 := by unfold NMH; decide +kernel
theorem sv_X0_213 : SV RX0 213 0 yX0_slides cX0_slides 2 (some (FieldType.object "TouchShelf$Slides")) 1 := ⟨RX0, TX0, 4, rfl, lw_V q1099 q1101 qs10 q96 q1102, rfl, nm_X0_slides, by decide⟩
theorem nm_X13_many : NMH yX13_many 1 := by unfold NMH; decide +kernel
theorem sv_X0_215 : SV RX0 215 12 yX13_many cX13_many 3 (some .int) 1 := ⟨RX13, TX13, 5, rfl, lw_V q1196 q1197 q1198 q131 q1199, rfl, nm_X13_many, by decide⟩
theorem nm_X13_first : NMH yX13_first 1 := by unfold NMH; decide +kernel
theorem sv_X0_218 : SV RX0 218 12 yX13_first cX13_first 7 (some .int) 1 := ⟨RX13, TX13, 5, rfl, lw_V q1200 q1201 q1202 q131 q1203, rfl, nm_X13_first, by decide⟩
theorem nm_X10_longest : NMH yX10_longest 0 := by unfold NMH; decide +kernel
theorem sv_X0_221 : SV RX0 221 10 yX10_longest cX10_longest 6 (some .int) 0 := ⟨RX10, TX10, 2, rfl, lw_V q1205 q1206 q1207 q124 q1208, rfl, nm_X10_longest, by decide⟩
theorem nm_X0_isPlace : NMH yX0_isPlace 3 := by unfold NMH; decide +kernel
theorem sv_X0_224 : SV RX0 224 0 yX0_isPlace cX0_isPlace 4 (some .boolean) 3 := ⟨RX0, TX0, 4, rfl, lw_V q1214 q1216 qs16 q96 q1217, rfl, nm_X0_isPlace, by decide⟩
theorem nm_X0_isMark : NMH yX0_isMark 2 := by unfold NMH; decide +kernel
theorem sv_X0_226 : SV RX0 226 0 yX0_isMark cX0_isMark 3 (some .boolean) 2 := ⟨RX0, TX0, 4, rfl, lw_V q1227 q1229 qs17 q96 q1230, rfl, nm_X0_isMark, by decide⟩
theorem nm_X0_off : NMH yX0_off 2 := by unfold NMH; decide +kernel
theorem ss_X0_228 : SS RX0 228 yX0_off cX0_off 2 (some .int) 2 := ⟨lw_S q1235 q1054 q96 q1055, nm_X0_off, by decide⟩
theorem nm_X6_readings : NMH yX6_readings 1 := by unfold NMH; decide +kernel
theorem sv_X0_235 : SV RX0 235 7 yX6_readings cX6_readings 4 (some .int) 1 := ⟨RX6, TX6, 4, rfl, lw_V q1241 q1242 q1243 q117 q1244, rfl, nm_X6_readings, by decide⟩
theorem nm_X0_wide : NMH yX0_wide 1 := by unfold NMH; decide +kernel
theorem ss_X0_238 : SS RX0 238 yX0_wide cX0_wide 1 (some .long) 1 := ⟨lw_S q1246 q1247 q96 q1248, nm_X0_wide, by decide⟩
theorem nm_X6_marks : NMH yX6_marks 0 := by unfold NMH; decide +kernel
theorem sv_X0_242 : SV RX0 242 7 yX6_marks cX6_marks 1 (some .int) 0 := ⟨RX6, TX6, 4, rfl, lw_V q1258 q935 q936 q117 q937, rfl, nm_X6_marks, by decide⟩
theorem nm_X6_every : NMH yX6_every 0 := by unfold NMH; decide +kernel
theorem sv_X0_245 : SV RX0 245 7 yX6_every cX6_every 1 (some .int) 0 := ⟨RX6, TX6, 4, rfl, lw_V q1263 q1264 q1265 q117 q1266, rfl, nm_X6_every, by decide⟩
theorem nm_X2_most : NMH yX2_most 4 := by unfold NMH; decide +kernel
theorem sv_X0_248 : SV RX0 248 2 yX2_most cX2_most 7 (some .int) 4 := ⟨RX2, TX2, 3, rfl, lw_V q1267 q1268 q1269 q101 q1270, rfl, nm_X2_most, by decide⟩
theorem nm_X0_ofSet : NMH yX0_ofSet 2 := by unfold NMH; decide +kernel
theorem ss_X0_252 : SS RX0 252 yX0_ofSet cX0_ofSet 4 (some .int) 2 := ⟨lw_S q1281 q1282 q96 q1283, nm_X0_ofSet, by decide⟩
theorem nm_X10_isTablet : NMH yX10_isTablet 1 := by unfold NMH; decide +kernel
theorem sv_X0_256 : SV RX0 256 10 yX10_isTablet cX10_isTablet 2 (some .boolean) 1 := ⟨RX10, TX10, 2, rfl, lw_V q1297 q931 q932 q124 q933, rfl, nm_X10_isTablet, by decide⟩
theorem nm_X10_halving : NMH yX10_halving 1 := by unfold NMH; decide +kernel
theorem sv_X0_259 : SV RX0 259 10 yX10_halving cX10_halving 7 (some .int) 1 := ⟨RX10, TX10, 2, rfl, lw_V q1306 q1307 q1308 q124 q1309, rfl, nm_X10_halving, by decide⟩
theorem nm_X10_hole : NMH yX10_hole 0 := by unfold NMH; decide +kernel
theorem sv_X0_262 : SV RX0 262 10 yX10_hole cX10_hole 4 (some .int) 0 := ⟨RX10, TX10, 2, rfl, lw_V q1314 q1315 q1316 q124 q1317, rfl, nm_X10_hole, by decide⟩
theorem nm_X10_row : NMH yX10_row 0 := by unfold NMH; decide +kernel
theorem sv_X0_265 : SV RX0 265 10 yX10_row cX10_row 4 (some (FieldType.array FieldType.int)) 0 := ⟨RX10, TX10, 2, rfl, lw_V q1318 q1095 q1096 q124 q1097, rfl, nm_X10_row, by decide⟩
theorem nm_J10_sort : NMH yJ10_sort 1 := by unfold NMH; decide +kernel
theorem ss_X0_269 : SS RX0 269 yJ10_sort cJ10_sort 1 none 1 := ⟨lw_S q1319 q1137 q113 q1138, nm_J10_sort, by decide⟩
theorem nm_X0_weights : NMH yX0_weights 1 := by unfold NMH; decide +kernel
theorem ss_X0_275 : SS RX0 275 yX0_weights cX0_weights 3 (some .int) 1 := ⟨lw_S q1324 q1325 q96 q1326, nm_X0_weights, by decide⟩
theorem nm_X0_isOrder : NMH yX0_isOrder 2 := by unfold NMH; decide +kernel
theorem ss_X0_278 : SS RX0 278 yX0_isOrder cX0_isOrder 6 (some .boolean) 2 := ⟨lw_S q1327 q1328 q96 q1329, nm_X0_isOrder, by decide⟩
theorem nm_X0_felt : NMH yX0_felt 2 := by unfold NMH; decide +kernel
theorem ss_X0_282 : SS RX0 282 yX0_felt cX0_felt 7 (some .long) 2 := ⟨lw_S q1330 q1331 q96 q1332, nm_X0_felt, by decide⟩
theorem nm_X10_copy : NMH yX10_copy 0 := by unfold NMH; decide +kernel
theorem sv_X0_288 : SV RX0 288 10 yX10_copy cX10_copy 2 (some (FieldType.object "TouchShelf$Shelf")) 0 := ⟨RX10, TX10, 2, rfl, lw_V q1345 q1346 q1347 q124 q1348, rfl, nm_X10_copy, by decide⟩
theorem nm_J10_copyOf_4 : NMH yJ10_copyOf_4 2 := by unfold NMH; decide +kernel
theorem ss_X0_292 : SS RX0 292 yJ10_copyOf_4 cJ10_copyOf_4 3 (some (FieldType.array FieldType.int)) 2 := ⟨lw_S q1357 q816 q113 q817, nm_J10_copyOf_4, by decide⟩
theorem nm_X9_told : NMH yX9_told 1 := by unfold NMH; decide +kernel
theorem sv_X0_304 : SV RX0 304 9 yX9_told cX9_told 2 (some .int) 1 := ⟨RX9, TX9, 4, rfl, lw_V q1365 q1366 q1367 q123 q1368, rfl, nm_X9_told, by decide⟩
theorem nm_X14_goes : NMH yX14_goes 2 := by unfold NMH; decide +kernel
theorem sv_X0_312 : SV RX0 312 13 yX14_goes cX14_goes 3 (some (FieldType.object "TouchShelf$Course")) 2 := ⟨RX14, TX14, 9, rfl, lw_V q1434 q1435 q1436 q133 q1437, rfl, nm_X14_goes, by decide⟩
theorem nm_X0_state : NMH yX0_state 3 := by unfold NMH; decide +kernel
theorem sv_X0_319 : SV RX0 319 0 yX0_state cX0_state 5 (some (FieldType.object "TouchShelf$Course")) 3 := ⟨RX0, TX0, 4, rfl, lw_V q1475 q1477 qs24 q96 q1478, rfl, nm_X0_state, by decide⟩
theorem nm_X14_lent : NMH yX14_lent 0 := by unfold NMH; decide +kernel
theorem sv_X0_335 : SV RX0 335 13 yX14_lent cX14_lent 4 (some .long) 0 := ⟨RX14, TX14, 9, rfl, lw_V q1484 q1485 q1486 q133 q1487, rfl, nm_X14_lent, by decide⟩
theorem nm_X0_moved : NMH yX0_moved 2 := by unfold NMH; decide +kernel
theorem ss_X0_339 : SS RX0 339 yX0_moved cX0_moved 5 (some .int) 2 := ⟨lw_S q1488 q1489 q96 q1490, nm_X0_moved, by decide⟩
theorem nm_X14_sure : NMH yX14_sure 0 := by unfold NMH; decide +kernel
theorem sv_X0_343 : SV RX0 343 13 yX14_sure cX14_sure 4 (some .int) 0 := ⟨RX14, TX14, 9, rfl, lw_V q1491 q1492 q1493 q133 q1494, rfl, nm_X14_sure, by decide⟩
theorem nm_X0_inOrder : NMH yX0_inOrder 1 := by unfold NMH; decide +kernel
theorem ss_X0_346 : SS RX0 346 yX0_inOrder cX0_inOrder 3 (some .int) 1 := ⟨lw_S q1496 q1497 q96 q1498, nm_X0_inOrder, by decide⟩
theorem nm_J17_intValue : NMH yJ17_intValue 0 := by unfold NMH; decide +kernel
theorem sv_X0_361 : SV RX0 361 18 yJ17_intValue cJ17_intValue 1 (some .int) 0 := ⟨RJ17, TJ17, 1, rfl, lw_V q1513 q1514 q1515 q127 q1516, rfl, nm_J17_intValue, by decide⟩
theorem nm_X12_who : NMH yX12_who 1 := by unfold NMH; decide +kernel
theorem sv_X0_367 : SV RX0 367 11 yX12_who cX12_who 6 (some .int) 1 := ⟨RX12, TX12, 3, rfl, lw_V q1517 q1518 q1519 q130 q1520, rfl, nm_X12_who, by decide⟩
theorem nm_X12_serve : NMH yX12_serve 0 := by unfold NMH; decide +kernel
theorem sv_X0_370 : SV RX0 370 11 yX12_serve cX12_serve 1 (some .int) 0 := ⟨RX12, TX12, 3, rfl, lw_V q1549 q1550 q1551 q130 q1552, rfl, nm_X12_serve, by decide⟩
theorem nm_X12_greedy : NMH yX12_greedy 0 := by unfold NMH; decide +kernel
theorem sv_X0_373 : SV RX0 373 11 yX12_greedy cX12_greedy 6 (some .int) 0 := ⟨RX12, TX12, 3, rfl, lw_V q1553 q1554 q1555 q130 q1556, rfl, nm_X12_greedy, by decide⟩
theorem nm_X15_below : NMH yX15_below 1 := by unfold NMH; decide +kernel
theorem sv_X0_376 : SV RX0 376 14 yX15_below cX15_below 2 (some .int) 1 := ⟨RX15, TX15, 1, rfl, lw_V q1574 q1575 q1576 q134 q1577, rfl, nm_X15_below, by decide⟩
theorem nm_X0_worn : NMH yX0_worn 4 := by unfold NMH; decide +kernel
theorem ss_X0_384 : SS RX0 384 yX0_worn cX0_worn 7 (some .int) 4 := ⟨lw_S q1571 q1572 q96 q1573, nm_X0_worn, by decide⟩
theorem nm_X1_be : NMH yX1_be 1 := by unfold NMH; decide +kernel
theorem sv_X0_388 : SV RX0 388 1 yX1_be cX1_be 2 none 1 := ⟨RX1, TX1, 7, rfl, lw_V q1587 q1588 q1589 q97 q1590, rfl, nm_X1_be, by decide⟩
theorem nm_X6_copy : NMH yX6_copy 0 := by unfold NMH; decide +kernel
theorem sv_X14_19 : SV RX14 19 7 yX6_copy cX6_copy 3 (some (FieldType.object "TouchShelf$Library")) 0 := ⟨RX6, TX6, 4, rfl, lw_V q1385 q1386 q1387 q117 q1388, rfl, nm_X6_copy, by decide⟩
theorem sv_X14_33 : SV RX14 33 15 yJ2_size cJ2_size 1 (some .int) 0 := ⟨RJ2, TJ2, 3, rfl, lw_V q1393 q259 q260 q100 q261, rfl, nm_J2_size, by decide⟩
theorem sv_X14_44 : SV RX14 44 7 yX6_every cX6_every 1 (some .int) 0 := ⟨RX6, TX6, 4, rfl, lw_V q1396 q1264 q1265 q117 q1266, rfl, nm_X6_every, by decide⟩
theorem nm_J10_fill_2 : NMH yJ10_fill_2 2 := by unfold NMH; decide +kernel
theorem ss_X14_47 : SS RX14 47 yJ10_fill_2 cJ10_fill_2 4 none 2 := ⟨lw_S q1397 q1398 q113 q1399, nm_J10_fill_2, by decide⟩
theorem sv_X14_61 : SV RX14 61 7 yX6_isPlace cX6_isPlace 3 (some .boolean) 2 := ⟨RX6, TX6, 4, rfl, lw_V q1444 q1219 q1220 q117 q1221, rfl, nm_X6_isPlace, by decide⟩
theorem sv_X14_65 : SV RX14 65 7 yX6_shelf cX6_shelf 2 (some (FieldType.object "TouchShelf$Shelf")) 1 := ⟨RX6, TX6, 4, rfl, lw_V q1445 q847 q848 q117 q849, rfl, nm_X6_shelf, by decide⟩
theorem sv_X14_68 : SV RX14 68 10 yX10_isTablet cX10_isTablet 2 (some .boolean) 1 := ⟨RX10, TX10, 2, rfl, lw_V q1446 q931 q932 q124 q933, rfl, nm_X10_isTablet, by decide⟩
theorem sv_X14_86 : SV RX14 86 7 yX6_isMark cX6_isMark 2 (some .boolean) 1 := ⟨RX6, TX6, 4, rfl, lw_V q1448 q1232 q1233 q117 q1234, rfl, nm_X6_isMark, by decide⟩
theorem nm_J9_abs : NMH yJ9_abs 1 := by unfold NMH; decide +kernel
theorem ss_X14_98 : SS RX14 98 yJ9_abs cJ9_abs 1 (some .int) 1 := ⟨lw_S q1457 q1458 q112 q1459, nm_J9_abs, by decide⟩
theorem sv_X14_107 : SV RX14 107 7 yX6_readings cX6_readings 4 (some .int) 1 := ⟨RX6, TX6, 4, rfl, lw_V q1469 q1242 q1243 q117 q1244, rfl, nm_X6_readings, by decide⟩
theorem nm_X14_goesTo : NMH yX14_goesTo 2 := by unfold NMH; decide +kernel
theorem sv_X14_120 : SV RX14 120 13 yX14_goesTo cX14_goesTo 3 none 2 := ⟨RX14, TX14, 9, rfl, lw_V q1453 q1455 qs21 q133 q1456, rfl, nm_X14_goesTo, by decide⟩
theorem ss_X14_124 : SS RX14 124 yJ9_max cJ9_max 2 (some .int) 2 := ⟨lw_S q1460 q352 q112 q353, nm_J9_max, by decide⟩
theorem nm_X14_changes : NMH yX14_changes 3 := by unfold NMH; decide +kernel
theorem sv_X14_128 : SV RX14 128 13 yX14_changes cX14_changes 4 none 3 := ⟨RX14, TX14, 9, rfl, lw_V q1461 q1463 qs22 q133 q1464, rfl, nm_X14_changes, by decide⟩
theorem nm_X14_feels : NMH yX14_feels 1 := by unfold NMH; decide +kernel
theorem sv_X14_132 : SV RX14 132 13 yX14_feels cX14_feels 3 none 1 := ⟨RX14, TX14, 9, rfl, lw_V q1465 q1467 qs23 q133 q1468, rfl, nm_X14_feels, by decide⟩
theorem sv_X14_136 : SV RX14 136 15 yJ2_get cJ2_get 2 (some (FieldType.object "java/lang/Object")) 1 := ⟨RJ2, TJ2, 3, rfl, lw_V q1438 q851 q852 q100 q853, rfl, nm_J2_get, by decide⟩
theorem nm_X14_can : NMH yX14_can 1 := by unfold NMH; decide +kernel
theorem sv_X14_140 : SV RX14 140 13 yX14_can cX14_can 3 (some .boolean) 1 := ⟨RX14, TX14, 9, rfl, lw_V q1440 q1442 qs19 q133 q1443, rfl, nm_X14_can, by decide⟩
theorem nm_X14_does : NMH yX14_does 1 := by unfold NMH; decide +kernel
theorem sv_X14_144 : SV RX14 144 13 yX14_does cX14_does 3 none 1 := ⟨RX14, TX14, 9, rfl, lw_V q1449 q1451 qs20 q133 q1452, rfl, nm_X14_does, by decide⟩
theorem ss_X14_147 : SS RX14 147 yJ17_bitCount cJ17_bitCount 1 (some .int) 1 := ⟨lw_S q1495 q1057 q127 q1058, nm_J17_bitCount, by decide⟩
theorem sv_X7_39 : SV RX7 39 15 yJ2_size cJ2_size 1 (some .int) 0 := ⟨RJ2, TJ2, 3, rfl, lw_V q670 q259 q260 q100 q261, rfl, nm_J2_size, by decide⟩
theorem sv_X7_71 : SV RX7 71 15 yJ2_add cJ2_add 2 (some .boolean) 1 := ⟨RJ2, TJ2, 3, rfl, lw_V q722 q723 q724 q100 q725, rfl, nm_J2_add, by decide⟩
theorem sv_X6_31 : SV RX6 31 15 yJ2_size cJ2_size 1 (some .int) 0 := ⟨RJ2, TJ2, 3, rfl, lw_V q928 q259 q260 q100 q261, rfl, nm_J2_size, by decide⟩
theorem sv_X6_35 : SV RX6 35 7 yX6_shelf cX6_shelf 2 (some (FieldType.object "TouchShelf$Shelf")) 1 := ⟨RX6, TX6, 4, rfl, lw_V q929 q847 q848 q117 q849, rfl, nm_X6_shelf, by decide⟩
theorem sv_X6_39 : SV RX6 39 10 yX10_copy cX10_copy 2 (some (FieldType.object "TouchShelf$Shelf")) 0 := ⟨RX10, TX10, 2, rfl, lw_V q1391 q1346 q1347 q124 q1348, rfl, nm_X10_copy, by decide⟩
theorem sv_X6_45 : SV RX6 45 15 yJ2_add cJ2_add 2 (some .boolean) 1 := ⟨RJ2, TJ2, 3, rfl, lw_V q1392 q723 q724 q100 q725, rfl, nm_J2_add, by decide⟩
theorem sv_X6_49 : SV RX6 49 15 yJ2_get cJ2_get 2 (some (FieldType.object "java/lang/Object")) 1 := ⟨RJ2, TJ2, 3, rfl, lw_V q850 q851 q852 q100 q853, rfl, nm_J2_get, by decide⟩
theorem sv_X6_53 : SV RX6 53 7 yX6_marks cX6_marks 1 (some .int) 0 := ⟨RX6, TX6, 4, rfl, lw_V q1049 q935 q936 q117 q937, rfl, nm_X6_marks, by decide⟩
theorem sv_X6_64 : SV RX6 64 10 yX10_tablets cX10_tablets 3 (some .int) 0 := ⟨RX10, TX10, 2, rfl, lw_V q1067 q1068 q1069 q124 q1070, rfl, nm_X10_tablets, by decide⟩
theorem sv_X6_67 : SV RX6 67 10 yX10_isTablet cX10_isTablet 2 (some .boolean) 1 := ⟨RX10, TX10, 2, rfl, lw_V q930 q931 q932 q124 q933, rfl, nm_X10_isTablet, by decide⟩
theorem ss_X6_71 : SS RX6 71 yJ17_bitCount cJ17_bitCount 1 (some .int) 1 := ⟨lw_S q1245 q1057 q127 q1058, nm_J17_bitCount, by decide⟩
theorem sv_X5_27 : SV RX5 27 7 yX6_here cX6_here 4 (some .int) 0 := ⟨RX6, TX6, 4, rfl, lw_V q924 q925 q926 q117 q927, rfl, nm_X6_here, by decide⟩
theorem sv_X5_31 : SV RX5 31 7 yX6_marks cX6_marks 1 (some .int) 0 := ⟨RX6, TX6, 4, rfl, lw_V q934 q935 q936 q117 q937, rfl, nm_X6_marks, by decide⟩
theorem nm_X5_shelf : NMH yX5_shelf 1 := by unfold NMH; decide +kernel
theorem sv_X5_54 : SV RX5 54 4 yX5_shelf cX5_shelf 6 none 1 := ⟨RX5, TX5, 9, rfl, lw_V q792 q794 qs6 q104 q795, rfl, nm_X5_shelf, by decide⟩
theorem nm_X5_weight : NMH yX5_weight 0 := by unfold NMH; decide +kernel
theorem sv_X5_59 : SV RX5 59 4 yX5_weight cX5_weight 3 none 0 := ⟨RX5, TX5, 9, rfl, lw_V q842 q844 qs7 q104 q845, rfl, nm_X5_weight, by decide⟩
theorem sv_X5_69 : SV RX5 69 15 yJ2_size cJ2_size 1 (some .int) 0 := ⟨RJ2, TJ2, 3, rfl, lw_V q796 q259 q260 q100 q261, rfl, nm_J2_size, by decide⟩
theorem ss_X5_87 : SS RX5 87 yJ9_min cJ9_min 2 (some .int) 2 := ⟨lw_S q814 q370 q112 q371, nm_J9_min, by decide⟩
theorem ss_X5_92 : SS RX5 92 yJ10_copyOf_4 cJ10_copyOf_4 3 (some (FieldType.array FieldType.int)) 2 := ⟨lw_S q815 q816 q113 q817, nm_J10_copyOf_4, by decide⟩
theorem sv_X5_101 : SV RX5 101 15 yJ2_add cJ2_add 2 (some .boolean) 1 := ⟨RJ2, TJ2, 3, rfl, lw_V q840 q723 q724 q100 q725, rfl, nm_J2_add, by decide⟩
theorem sv_X5_105 : SV RX5 105 7 yX6_shelf cX6_shelf 2 (some (FieldType.object "TouchShelf$Shelf")) 1 := ⟨RX6, TX6, 4, rfl, lw_V q846 q847 q848 q117 q849, rfl, nm_X6_shelf, by decide⟩
theorem nm_X4_isLetter : NMH yX4_isLetter 1 := by unfold NMH; decide +kernel
theorem ss_X4_41 : SS RX4 41 yX4_isLetter cX4_isLetter 1 (some .boolean) 1 := ⟨lw_S q292 q293 q103 q294, nm_X4_isLetter, by decide⟩
theorem nm_J5_length : NMH yJ5_length 0 := by unfold NMH; decide +kernel
theorem sv_X4_50 : SV RX4 50 16 yJ5_length cJ5_length 1 (some .int) 0 := ⟨RJ5, TJ5, 4, rfl, lw_V q326 q327 q328 q108 q329, rfl, nm_J5_length, by decide⟩
theorem nm_J5_append : NMH yJ5_append 1 := by unfold NMH; decide +kernel
theorem sv_X4_54 : SV RX4 54 16 yJ5_append cJ5_append 2 (some (FieldType.object "java/lang/StringBuilder")) 1 := ⟨RJ5, TJ5, 4, rfl, lw_V q333 q334 q335 q108 q336, rfl, nm_J5_append, by decide⟩
theorem nm_J5_toString : NMH yJ5_toString 0 := by unfold NMH; decide +kernel
theorem sv_X4_58 : SV RX4 58 16 yJ5_toString cJ5_toString 1 (some (FieldType.object "java/lang/String")) 0 := ⟨RJ5, TJ5, 4, rfl, lw_V q428 q429 q430 q108 q431, rfl, nm_J5_toString, by decide⟩
theorem nm_X4_isDigit : NMH yX4_isDigit 1 := by unfold NMH; decide +kernel
theorem ss_X4_69 : SS RX4 69 yX4_isDigit cX4_isDigit 1 (some .boolean) 1 := ⟨lw_S q484 q485 q103 q486, nm_X4_isDigit, by decide⟩
theorem nm_J6_equals : NMH yJ6_equals 1 := by unfold NMH; decide +kernel
theorem sv_X4_92 : SV RX4 92 17 yJ6_equals cJ6_equals 3 (some .boolean) 1 := ⟨RJ6, TJ6, 4, rfl, lw_V q590 q591 q592 q109 q593, rfl, nm_J6_equals, by decide⟩
theorem sv_X12_23 : SV RX12 23 15 yJ2_size cJ2_size 1 (some .int) 0 := ⟨RJ2, TJ2, 3, rfl, lw_V q1525 q259 q260 q100 q261, rfl, nm_J2_size, by decide⟩
theorem sv_X12_27 : SV RX12 27 15 yJ2_get cJ2_get 2 (some (FieldType.object "java/lang/Object")) 1 := ⟨RJ2, TJ2, 3, rfl, lw_V q1531 q851 q852 q100 q853, rfl, nm_J2_get, by decide⟩
theorem sv_X12_33 : SV RX12 33 18 yJ17_intValue cJ17_intValue 1 (some .int) 0 := ⟨RJ17, TJ17, 1, rfl, lw_V q1533 q1514 q1515 q127 q1516, rfl, nm_J17_intValue, by decide⟩
theorem nm_X12_index : NMH yX12_index 1 := by unfold NMH; decide +kernel
theorem sv_X12_36 : SV RX12 36 11 yX12_index cX12_index 4 (some .int) 1 := ⟨RX12, TX12, 3, rfl, lw_V q1538 q1540 qs28 q130 q1541, rfl, nm_X12_index, by decide⟩
theorem nm_X12_by : NMH yX12_by 3 := by unfold NMH; decide +kernel
theorem sv_X12_45 : SV RX12 45 11 yX12_by cX12_by 6 (some .int) 3 := ⟨RX12, TX12, 3, rfl, lw_V q1543 q1545 qs29 q130 q1546, rfl, nm_X12_by, by decide⟩
theorem ss_X12_49 : SS RX12 49 yJ9_min cJ9_min 2 (some .int) 2 := ⟨lw_S q1548 q370 q112 q371, nm_J9_min, by decide⟩
theorem ss_X12_55 : SS RX12 55 yJ9_abs cJ9_abs 1 (some .int) 1 := ⟨lw_S q1547 q1458 q112 q1459, nm_J9_abs, by decide⟩
theorem nm_X12_steps : NMH yX12_steps 2 := by unfold NMH; decide +kernel
theorem sv_X12_59 : SV RX12 59 11 yX12_steps cX12_steps 6 (some .int) 2 := ⟨RX12, TX12, 3, rfl, lw_V q1534 q1536 qs27 q130 q1537, rfl, nm_X12_steps, by decide⟩
theorem nm_X12_begins : NMH yX12_begins 0 := by unfold NMH; decide +kernel
theorem sv_X12_64 : SV RX12 64 11 yX12_begins cX12_begins 1 none 0 := ⟨RX12, TX12, 3, rfl, lw_V q1521 q1523 qs25 q130 q1524, rfl, nm_X12_begins, by decide⟩
theorem nm_X12_starts : NMH yX12_starts 0 := by unfold NMH; decide +kernel
theorem sv_X12_67 : SV RX12 67 11 yX12_starts cX12_starts 3 (some (FieldType.array FieldType.int)) 0 := ⟨RX12, TX12, 3, rfl, lw_V q1527 q1529 qs26 q130 q1530, rfl, nm_X12_starts, by decide⟩
theorem nm_J2_isEmpty : NMH yJ2_isEmpty 0 := by unfold NMH; decide +kernel
theorem sv_X11_27 : SV RX11 27 15 yJ2_isEmpty cJ2_isEmpty 1 (some .boolean) 0 := ⟨RJ2, TJ2, 3, rfl, lw_V q941 q942 q943 q100 q944, rfl, nm_J2_isEmpty, by decide⟩
theorem sv_X11_52 : SV RX11 52 15 yJ2_size cJ2_size 1 (some .int) 0 := ⟨RJ2, TJ2, 3, rfl, lw_V q880 q259 q260 q100 q261, rfl, nm_J2_size, by decide⟩
theorem nm_J17_valueOf : NMH yJ17_valueOf 1 := by unfold NMH; decide +kernel
theorem ss_X11_63 : SS RX11 63 yJ17_valueOf cJ17_valueOf 1 (some (FieldType.object "java/lang/Integer")) 1 := ⟨lw_S q887 q888 q127 q889, nm_J17_valueOf, by decide⟩
theorem sv_X11_69 : SV RX11 69 15 yJ2_add cJ2_add 2 (some .boolean) 1 := ⟨RJ2, TJ2, 3, rfl, lw_V q907 q723 q724 q100 q725, rfl, nm_J2_add, by decide⟩
theorem nm_X2_grows : NMH yX2_grows 2 := by unfold NMH; decide +kernel
theorem sv_X2_23 : SV RX2 23 2 yX2_grows cX2_grows 4 none 2 := ⟨RX2, TX2, 3, rfl, lw_V q1272 q1274 qs18 q101 q1275, rfl, nm_X2_grows, by decide⟩
theorem ss_X2_30 : SS RX2 30 yJ17_bitCount cJ17_bitCount 1 (some .int) 1 := ⟨lw_S q1276 q1057 q127 q1058, nm_J17_bitCount, by decide⟩
theorem nm_J17_numberOfTrailingZeros : NMH yJ17_numberOfTrailingZeros 1 := by unfold NMH; decide +kernel
theorem ss_X2_36 : SS RX2 36 yJ17_numberOfTrailingZeros cJ17_numberOfTrailingZeros 2 (some .int) 1 := ⟨lw_S q1277 q1278 q127 q1279, nm_J17_numberOfTrailingZeros, by decide⟩
theorem sv_X10_27 : SV RX10 27 10 yX10_isTablet cX10_isTablet 2 (some .boolean) 1 := ⟨RX10, TX10, 2, rfl, lw_V q1071 q931 q932 q124 q933, rfl, nm_X10_isTablet, by decide⟩
theorem sv_X10_31 : SV RX10 31 10 yX10_tablets cX10_tablets 3 (some .int) 0 := ⟨RX10, TX10, 2, rfl, lw_V q1098 q1068 q1069 q124 q1070, rfl, nm_X10_tablets, by decide⟩
theorem sv_X10_35 : SV RX10 35 10 yX10_row cX10_row 4 (some (FieldType.array FieldType.int)) 0 := ⟨RX10, TX10, 2, rfl, lw_V q1094 q1095 q1096 q124 q1097, rfl, nm_X10_row, by decide⟩
theorem ss_X10_39 : SS RX10 39 yJ9_max cJ9_max 2 (some .int) 2 := ⟨lw_S q1209 q352 q112 q353, nm_J9_max, by decide⟩
theorem nm_X13_at : NMH yX13_at 1 := by unfold NMH; decide +kernel
theorem sv_X13_26 : SV RX13 26 12 yX13_at cX13_at 4 (some .int) 1 := ⟨RX13, TX13, 5, rfl, lw_V q1181 q1183 qs13 q131 q1184, rfl, nm_X13_at, by decide⟩
theorem nm_X13_of_2 : NMH yX13_of_2 2 := by unfold NMH; decide +kernel
theorem sv_X13_37 : SV RX13 37 12 yX13_of_2 cX13_of_2 4 (some .int) 2 := ⟨RX13, TX13, 5, rfl, lw_V q1186 q1188 qs14 q131 q1189, rfl, nm_X13_of_2, by decide⟩
theorem ss_X13_45 : SS RX13 45 yJ17_bitCount cJ17_bitCount 1 (some .int) 1 := ⟨lw_S q1172 q1057 q127 q1058, nm_J17_bitCount, by decide⟩
theorem nm_X13_code : NMH yX13_code 1 := by unfold NMH; decide +kernel
theorem ss_X13_55 : SS RX13 55 yX13_code cX13_code 4 (some .long) 1 := ⟨lw_S q1174 q1175 q131 q1176, nm_X13_code, by decide⟩
theorem nm_X13_meets : NMH yX13_meets 2 := by unfold NMH; decide +kernel
theorem sv_X13_59 : SV RX13 59 12 yX13_meets cX13_meets 5 none 2 := ⟨RX13, TX13, 5, rfl, lw_V q1177 q1179 qs12 q131 q1180, rfl, nm_X13_meets, by decide⟩
theorem nm_J10_fill : NMH yJ10_fill 2 := by unfold NMH; decide +kernel
theorem ss_X13_63 : SS RX13 63 yJ10_fill cJ10_fill 5 none 2 := ⟨lw_S q1132 q1133 q113 q1134, nm_J10_fill, by decide⟩
theorem sv_X13_75 : SV RX13 75 10 yX10_row cX10_row 4 (some (FieldType.array FieldType.int)) 0 := ⟨RX10, TX10, 2, rfl, lw_V q1135 q1095 q1096 q124 q1097, rfl, nm_X10_row, by decide⟩
theorem ss_X13_79 : SS RX13 79 yJ10_sort cJ10_sort 1 none 1 := ⟨lw_S q1136 q1137 q113 q1138, nm_J10_sort, by decide⟩
theorem nm_X13_ends : NMH yX13_ends 1 := by unfold NMH; decide +kernel
theorem sv_X13_83 : SV RX13 83 12 yX13_ends cX13_ends 6 none 1 := ⟨RX13, TX13, 5, rfl, lw_V q1168 q1170 qs11 q131 q1171, rfl, nm_X13_ends, by decide⟩
theorem nm_X13_slid : NMH yX13_slid 3 := by unfold NMH; decide +kernel
theorem sv_X13_86 : SV RX13 86 12 yX13_slid cX13_slid 7 (some .long) 3 := ⟨RX13, TX13, 5, rfl, lw_V q1190 q1192 qs15 q131 q1193, rfl, nm_X13_slid, by decide⟩
theorem sv_X13_90 : SV RX13 90 12 yX13_many cX13_many 3 (some .int) 1 := ⟨RX13, TX13, 5, rfl, lw_V q1204 q1197 q1198 q131 q1199, rfl, nm_X13_many, by decide⟩
theorem nm_J2_clear : NMH yJ2_clear 0 := by unfold NMH; decide +kernel
theorem sv_X1_46 : SV RX1 46 15 yJ2_clear cJ2_clear 4 none 0 := ⟨RJ2, TJ2, 3, rfl, lw_V q1592 q1593 q1594 q100 q1595, rfl, nm_J2_clear, by decide⟩
theorem nm_J2_addAll : NMH yJ2_addAll 1 := by unfold NMH; decide +kernel
theorem sv_X1_49 : SV RX1 49 15 yJ2_addAll cJ2_addAll 6 (some .boolean) 1 := ⟨RJ2, TJ2, 3, rfl, lw_V q1596 q1597 q1598 q100 q1599, rfl, nm_J2_addAll, by decide⟩
theorem sv_X1_53 : SV RX1 53 15 yJ2_size cJ2_size 1 (some .int) 0 := ⟨RJ2, TJ2, 3, rfl, lw_V q258 q259 q260 q100 q261, rfl, nm_J2_size, by decide⟩
theorem nm_X0_feed : NMH yX0_feed 5 := by unfold NMH; decide +kernel
theorem sv_L_13 : SV "TouchShelfLaw" 13 0 yX0_feed cX0_feed 8 (some .int) 5 := ⟨RX0, TX0, 4, rfl, lw_V q238 q239 q240 q96 q241, rfl, nm_X0_feed, by decide⟩
theorem nm_X3_feed : NMH yX3_feed 5 := by unfold NMH; decide +kernel
theorem sv_L_17 : SV "TouchShelfLaw" 17 3 yX3_feed cX3_feed 6 (some .int) 5 := ⟨RX3, TX3, 62, rfl, lw_V q1811 q1812 q1813 q102 q1814, rfl, nm_X3_feed, by decide⟩
theorem nm_X0_end : NMH yX0_end 1 := by unfold NMH; decide +kernel
theorem sv_L_18 : SV "TouchShelfLaw" 18 0 yX0_end cX0_end 2 (some .int) 1 := ⟨RX0, TX0, 4, rfl, lw_V q242 q243 q244 q96 q245, rfl, nm_X0_end, by decide⟩
theorem nm_X3_end : NMH yX3_end 1 := by unfold NMH; decide +kernel
theorem sv_L_22 : SV "TouchShelfLaw" 22 3 yX3_end cX3_end 2 (some .int) 1 := ⟨RX3, TX3, 62, rfl, lw_V q1819 q1820 q1821 q102 q1822, rfl, nm_X3_end, by decide⟩
theorem nm_X3_text : NMH yX3_text 2 := by unfold NMH; decide +kernel
theorem sv_L_27 : SV "TouchShelfLaw" 27 3 yX3_text cX3_text 4 (some .int) 2 := ⟨RX3, TX3, 62, rfl, lw_V q1826 q1827 q1828 q102 q1829, rfl, nm_X3_text, by decide⟩
theorem nm_X0_fault : NMH yX0_fault 1 := by unfold NMH; decide +kernel
theorem sv_L_28 : SV "TouchShelfLaw" 28 0 yX0_fault cX0_fault 2 (some .int) 1 := ⟨RX0, TX0, 4, rfl, lw_V q1030 q1031 q1032 q96 q1033, rfl, nm_X0_fault, by decide⟩
theorem nm_X3_fault : NMH yX3_fault 1 := by unfold NMH; decide +kernel
theorem sv_L_31 : SV "TouchShelfLaw" 31 3 yX3_fault cX3_fault 2 (some .int) 1 := ⟨RX3, TX3, 62, rfl, lw_V q1896 q1897 q1898 q102 q1899, rfl, nm_X3_fault, by decide⟩
theorem nm_X0_library : NMH yX0_library 2 := by unfold NMH; decide +kernel
theorem sv_L_32 : SV "TouchShelfLaw" 32 0 yX0_library cX0_library 5 (some .int) 2 := ⟨RX0, TX0, 4, rfl, lw_V q1034 q1035 q1036 q96 q1037, rfl, nm_X0_library, by decide⟩
theorem nm_X3_library : NMH yX3_library 2 := by unfold NMH; decide +kernel
theorem sv_L_35 : SV "TouchShelfLaw" 35 3 yX3_library cX3_library 4 (some .int) 2 := ⟨RX3, TX3, 62, rfl, lw_V q1900 q1901 q1902 q102 q1903, rfl, nm_X3_library, by decide⟩
theorem nm_X0_shelf : NMH yX0_shelf 3 := by unfold NMH; decide +kernel
theorem sv_L_36 : SV "TouchShelfLaw" 36 0 yX0_shelf cX0_shelf 7 (some .int) 3 := ⟨RX0, TX0, 4, rfl, lw_V q1082 q1083 q1084 q96 q1085, rfl, nm_X0_shelf, by decide⟩
theorem nm_X3_shelf : NMH yX3_shelf 3 := by unfold NMH; decide +kernel
theorem sv_L_40 : SV "TouchShelfLaw" 40 3 yX3_shelf cX3_shelf 4 (some .int) 3 := ⟨RX3, TX3, 62, rfl, lw_V q1937 q1938 q1939 q102 q1940, rfl, nm_X3_shelf, by decide⟩
theorem nm_X0_place : NMH yX0_place 3 := by unfold NMH; decide +kernel
theorem sv_L_41 : SV "TouchShelfLaw" 41 0 yX0_place cX0_place 4 (some .int) 3 := ⟨RX0, TX0, 4, rfl, lw_V q1210 q1211 q1212 q96 q1213, rfl, nm_X0_place, by decide⟩
theorem nm_X3_place : NMH yX3_place 3 := by unfold NMH; decide +kernel
theorem sv_L_44 : SV "TouchShelfLaw" 44 3 yX3_place cX3_place 4 (some .int) 3 := ⟨RX3, TX3, 62, rfl, lw_V q2006 q2007 q2008 q102 q2009, rfl, nm_X3_place, by decide⟩
theorem nm_X0_off_2 : NMH yX0_off_2 4 := by unfold NMH; decide +kernel
theorem sv_L_45 : SV "TouchShelfLaw" 45 0 yX0_off_2 cX0_off_2 5 (some .int) 4 := ⟨RX0, TX0, 4, rfl, lw_V q1223 q1224 q1225 q96 q1226, rfl, nm_X0_off_2, by decide⟩
theorem nm_X3_off : NMH yX3_off 4 := by unfold NMH; decide +kernel
theorem sv_L_49 : SV "TouchShelfLaw" 49 3 yX3_off cX3_off 5 (some .int) 4 := ⟨RX3, TX3, 62, rfl, lw_V q2014 q2015 q2016 q102 q2017, rfl, nm_X3_off, by decide⟩
theorem nm_X0_readings : NMH yX0_readings 3 := by unfold NMH; decide +kernel
theorem sv_L_50 : SV "TouchShelfLaw" 50 0 yX0_readings cX0_readings 5 (some .long) 3 := ⟨RX0, TX0, 4, rfl, lw_V q1236 q1237 q1238 q96 q1239, rfl, nm_X0_readings, by decide⟩
theorem nm_X3_readings : NMH yX3_readings 3 := by unfold NMH; decide +kernel
theorem sv_L_54 : SV "TouchShelfLaw" 54 3 yX3_readings cX3_readings 4 (some .long) 3 := ⟨RX3, TX3, 62, rfl, lw_V q2022 q2023 q2024 q102 q2025, rfl, nm_X3_readings, by decide⟩
theorem nm_X0_between : NMH yX0_between 4 := by unfold NMH; decide +kernel
theorem sv_L_55 : SV "TouchShelfLaw" 55 0 yX0_between cX0_between 10 (some .long) 4 := ⟨RX0, TX0, 4, rfl, lw_V q1250 q1251 q1252 q96 q1253, rfl, nm_X0_between, by decide⟩
theorem nm_X3_between : NMH yX3_between 4 := by unfold NMH; decide +kernel
theorem sv_L_59 : SV "TouchShelfLaw" 59 3 yX3_between cX3_between 10 (some .long) 4 := ⟨RX3, TX3, 62, rfl, lw_V q2035 q2036 q2037 q102 q2038, rfl, nm_X3_between, by decide⟩
theorem nm_X0_fresh : NMH yX0_fresh 2 := by unfold NMH; decide +kernel
theorem sv_L_60 : SV "TouchShelfLaw" 60 0 yX0_fresh cX0_fresh 8 (some .int) 2 := ⟨RX0, TX0, 4, rfl, lw_V q1254 q1255 q1256 q96 q1257, rfl, nm_X0_fresh, by decide⟩
theorem nm_X3_fresh : NMH yX3_fresh 2 := by unfold NMH; decide +kernel
theorem sv_L_63 : SV "TouchShelfLaw" 63 3 yX3_fresh cX3_fresh 6 (some .int) 2 := ⟨RX3, TX3, 62, rfl, lw_V q2039 q2040 q2041 q102 q2042, rfl, nm_X3_fresh, by decide⟩
theorem nm_X0_set : NMH yX0_set 4 := by unfold NMH; decide +kernel
theorem sv_L_64 : SV "TouchShelfLaw" 64 0 yX0_set cX0_set 11 (some .int) 4 := ⟨RX0, TX0, 4, rfl, lw_V q1259 q1260 q1261 q96 q1262, rfl, nm_X0_set, by decide⟩
theorem nm_X3_set : NMH yX3_set 4 := by unfold NMH; decide +kernel
theorem sv_L_68 : SV "TouchShelfLaw" 68 3 yX3_set cX3_set 11 (some .int) 4 := ⟨RX3, TX3, 62, rfl, lw_V q2047 q2048 q2049 q102 q2050, rfl, nm_X3_set, by decide⟩
theorem nm_X0_walk : NMH yX0_walk 4 := by unfold NMH; decide +kernel
theorem sv_L_69 : SV "TouchShelfLaw" 69 0 yX0_walk cX0_walk 7 (some .int) 4 := ⟨RX0, TX0, 4, rfl, lw_V q1298 q1299 q1300 q96 q1301, rfl, nm_X0_walk, by decide⟩
theorem nm_X3_walk : NMH yX3_walk 4 := by unfold NMH; decide +kernel
theorem sv_L_73 : SV "TouchShelfLaw" 73 3 yX3_walk cX3_walk 6 (some .int) 4 := ⟨RX3, TX3, 62, rfl, lw_V q2058 q2059 q2060 q102 q2061, rfl, nm_X3_walk, by decide⟩
theorem nm_X0_halving : NMH yX0_halving 4 := by unfold NMH; decide +kernel
theorem sv_L_74 : SV "TouchShelfLaw" 74 0 yX0_halving cX0_halving 6 (some .int) 4 := ⟨RX0, TX0, 4, rfl, lw_V q1302 q1303 q1304 q96 q1305, rfl, nm_X0_halving, by decide⟩
theorem nm_X3_halving : NMH yX3_halving 4 := by unfold NMH; decide +kernel
theorem sv_L_77 : SV "TouchShelfLaw" 77 3 yX3_halving cX3_halving 11 (some .int) 4 := ⟨RX3, TX3, 62, rfl, lw_V q2062 q2063 q2064 q102 q2065, rfl, nm_X3_halving, by decide⟩
theorem nm_X0_mean : NMH yX0_mean 3 := by unfold NMH; decide +kernel
theorem sv_L_78 : SV "TouchShelfLaw" 78 0 yX0_mean cX0_mean 10 (some .int) 3 := ⟨RX0, TX0, 4, rfl, lw_V q1320 q1321 q1322 q96 q1323, rfl, nm_X0_mean, by decide⟩
theorem nm_X3_mean : NMH yX3_mean 3 := by unfold NMH; decide +kernel
theorem sv_L_82 : SV "TouchShelfLaw" 82 3 yX3_mean cX3_mean 7 (some .int) 3 := ⟨RX3, TX3, 62, rfl, lw_V q2066 q2067 q2068 q102 q2069, rfl, nm_X3_mean, by decide⟩
theorem nm_X0_best : NMH yX0_best 2 := by unfold NMH; decide +kernel
theorem sv_L_83 : SV "TouchShelfLaw" 83 0 yX0_best cX0_best 6 (some .int) 2 := ⟨RX0, TX0, 4, rfl, lw_V q1337 q1338 q1339 q96 q1340, rfl, nm_X0_best, by decide⟩
theorem nm_X3_best : NMH yX3_best 2 := by unfold NMH; decide +kernel
theorem sv_L_86 : SV "TouchShelfLaw" 86 3 yX3_best cX3_best 6 (some .int) 2 := ⟨RX3, TX3, 62, rfl, lw_V q2085 q2086 q2087 q102 q2088, rfl, nm_X3_best, by decide⟩
theorem nm_X0_deed : NMH yX0_deed 3 := by unfold NMH; decide +kernel
theorem sv_L_87 : SV "TouchShelfLaw" 87 0 yX0_deed cX0_deed 5 (some .int) 3 := ⟨RX0, TX0, 4, rfl, lw_V q1359 q1360 q1361 q96 q1362, rfl, nm_X0_deed, by decide⟩
theorem nm_X3_deed : NMH yX3_deed 3 := by unfold NMH; decide +kernel
theorem sv_L_90 : SV "TouchShelfLaw" 90 3 yX3_deed cX3_deed 4 (some .int) 3 := ⟨RX3, TX3, 62, rfl, lw_V q2089 q2090 q2091 q102 q2092, rfl, nm_X3_deed, by decide⟩
theorem nm_X0_stop : NMH yX0_stop 2 := by unfold NMH; decide +kernel
theorem sv_L_91 : SV "TouchShelfLaw" 91 0 yX0_stop cX0_stop 3 (some .int) 2 := ⟨RX0, TX0, 4, rfl, lw_V q1375 q1376 q1377 q96 q1378, rfl, nm_X0_stop, by decide⟩
theorem nm_X3_stop : NMH yX3_stop 2 := by unfold NMH; decide +kernel
theorem sv_L_94 : SV "TouchShelfLaw" 94 3 yX3_stop cX3_stop 3 (some .int) 2 := ⟨RX3, TX3, 62, rfl, lw_V q2101 q2102 q2103 q102 q2104, rfl, nm_X3_stop, by decide⟩
theorem nm_X0_lies : NMH yX0_lies 5 := by unfold NMH; decide +kernel
theorem sv_L_95 : SV "TouchShelfLaw" 95 0 yX0_lies cX0_lies 7 (some .int) 5 := ⟨RX0, TX0, 4, rfl, lw_V q1471 q1472 q1473 q96 q1474, rfl, nm_X0_lies, by decide⟩
theorem nm_X3_lies : NMH yX3_lies 5 := by unfold NMH; decide +kernel
theorem sv_L_98 : SV "TouchShelfLaw" 98 3 yX3_lies cX3_lies 6 (some .int) 5 := ⟨RX3, TX3, 62, rfl, lw_V q2125 q2126 q2127 q102 q2128, rfl, nm_X3_lies, by decide⟩
theorem nm_X0_state_2 : NMH yX0_state_2 4 := by unfold NMH; decide +kernel
theorem sv_L_99 : SV "TouchShelfLaw" 99 0 yX0_state_2 cX0_state_2 6 (some .long) 4 := ⟨RX0, TX0, 4, rfl, lw_V q1479 q1480 q1481 q96 q1482, rfl, nm_X0_state_2, by decide⟩
theorem nm_X3_state : NMH yX3_state 4 := by unfold NMH; decide +kernel
theorem sv_L_102 : SV "TouchShelfLaw" 102 3 yX3_state cX3_state 5 (some .long) 4 := ⟨RX3, TX3, 62, rfl, lw_V q2133 q2134 q2135 q102 q2136, rfl, nm_X3_state, by decide⟩
theorem nm_X0_may : NMH yX0_may 6 := by unfold NMH; decide +kernel
theorem sv_L_103 : SV "TouchShelfLaw" 103 0 yX0_may cX0_may 11 (some .long) 6 := ⟨RX0, TX0, 4, rfl, lw_V q1499 q1500 q1501 q96 q1502, rfl, nm_X0_may, by decide⟩
theorem nm_X3_may : NMH yX3_may 6 := by unfold NMH; decide +kernel
theorem sv_L_107 : SV "TouchShelfLaw" 107 3 yX3_may cX3_may 11 (some .long) 6 := ⟨RX3, TX3, 62, rfl, lw_V q2154 q2155 q2156 q102 q2157, rfl, nm_X3_may, by decide⟩
theorem nm_X0_round : NMH yX0_round 2 := by unfold NMH; decide +kernel
theorem sv_L_108 : SV "TouchShelfLaw" 108 0 yX0_round cX0_round 4 (some .int) 2 := ⟨RX0, TX0, 4, rfl, lw_V q1507 q1508 q1509 q96 q1510, rfl, nm_X0_round, by decide⟩
theorem nm_X3_round : NMH yX3_round 2 := by unfold NMH; decide +kernel
theorem sv_L_111 : SV "TouchShelfLaw" 111 3 yX3_round cX3_round 4 (some .int) 2 := ⟨RX3, TX3, 62, rfl, lw_V q2158 q2159 q2160 q102 q2161, rfl, nm_X3_round, by decide⟩
theorem nm_X0_drawn : NMH yX0_drawn 5 := by unfold NMH; decide +kernel
theorem sv_L_112 : SV "TouchShelfLaw" 112 0 yX0_drawn cX0_drawn 12 (some .int) 5 := ⟨RX0, TX0, 4, rfl, lw_V q1557 q1558 q1559 q96 q1560, rfl, nm_X0_drawn, by decide⟩
theorem nm_X3_drawn : NMH yX3_drawn 5 := by unfold NMH; decide +kernel
theorem sv_L_115 : SV "TouchShelfLaw" 115 3 yX3_drawn cX3_drawn 9 (some .int) 5 := ⟨RX3, TX3, 62, rfl, lw_V q2191 q2192 q2193 q102 q2194, rfl, nm_X3_drawn, by decide⟩
theorem nm_X0_insert : NMH yX0_insert 3 := by unfold NMH; decide +kernel
theorem sv_L_116 : SV "TouchShelfLaw" 116 0 yX0_insert cX0_insert 9 (some .int) 3 := ⟨RX0, TX0, 4, rfl, lw_V q1341 q1342 q1343 q96 q1344, rfl, nm_X0_insert, by decide⟩
theorem nm_X3_insert : NMH yX3_insert 3 := by unfold NMH; decide +kernel
theorem sv_L_119 : SV "TouchShelfLaw" 119 3 yX3_insert cX3_insert 9 (some .int) 3 := ⟨RX3, TX3, 62, rfl, lw_V q2200 q2201 q2202 q102 q2203, rfl, nm_X3_insert, by decide⟩
theorem nm_X0_hardest : NMH yX0_hardest 3 := by unfold NMH; decide +kernel
theorem sv_L_120 : SV "TouchShelfLaw" 120 0 yX0_hardest cX0_hardest 10 (some .int) 3 := ⟨RX0, TX0, 4, rfl, lw_V q1310 q1311 q1312 q96 q1313, rfl, nm_X0_hardest, by decide⟩
theorem nm_X3_hardest : NMH yX3_hardest 3 := by unfold NMH; decide +kernel
theorem sv_L_123 : SV "TouchShelfLaw" 123 3 yX3_hardest cX3_hardest 10 (some .int) 3 := ⟨RX3, TX3, 62, rfl, lw_V q2204 q2205 q2206 q102 q2207, rfl, nm_X3_hardest, by decide⟩
theorem nm_X0_pairs : NMH yX0_pairs 2 := by unfold NMH; decide +kernel
theorem sv_L_124 : SV "TouchShelfLaw" 124 0 yX0_pairs cX0_pairs 7 (some .int) 2 := ⟨RX0, TX0, 4, rfl, lw_V q1284 q1285 q1286 q96 q1287, rfl, nm_X0_pairs, by decide⟩
theorem nm_X3_pairs : NMH yX3_pairs 2 := by unfold NMH; decide +kernel
theorem sv_L_127 : SV "TouchShelfLaw" 127 3 yX3_pairs cX3_pairs 8 (some .int) 2 := ⟨RX3, TX3, 62, rfl, lw_V q2213 q2214 q2215 q102 q2216, rfl, nm_X3_pairs, by decide⟩
theorem nm_X0_tells : NMH yX0_tells 1 := by unfold NMH; decide +kernel
theorem sv_L_128 : SV "TouchShelfLaw" 128 0 yX0_tells cX0_tells 8 (some .int) 1 := ⟨RX0, TX0, 4, rfl, lw_V q1288 q1289 q1290 q96 q1291, rfl, nm_X0_tells, by decide⟩
theorem nm_X3_tells : NMH yX3_tells 1 := by unfold NMH; decide +kernel
theorem sv_L_131 : SV "TouchShelfLaw" 131 3 yX3_tells cX3_tells 4 (some .int) 1 := ⟨RX3, TX3, 62, rfl, lw_V q2217 q2218 q2219 q102 q2220, rfl, nm_X3_tells, by decide⟩
theorem nm_X0_nearest : NMH yX0_nearest 3 := by unfold NMH; decide +kernel
theorem sv_L_132 : SV "TouchShelfLaw" 132 0 yX0_nearest cX0_nearest 9 (some .int) 3 := ⟨RX0, TX0, 4, rfl, lw_V q1292 q1293 q1294 q96 q1295, rfl, nm_X0_nearest, by decide⟩
theorem nm_X3_nearest : NMH yX3_nearest 3 := by unfold NMH; decide +kernel
theorem sv_L_135 : SV "TouchShelfLaw" 135 3 yX3_nearest cX3_nearest 8 (some .int) 3 := ⟨RX3, TX3, 62, rfl, lw_V q2225 q2226 q2227 q102 q2228, rfl, nm_X3_nearest, by decide⟩
theorem nm_X0_swaps : NMH yX0_swaps 3 := by unfold NMH; decide +kernel
theorem sv_L_136 : SV "TouchShelfLaw" 136 0 yX0_swaps cX0_swaps 11 (some .int) 3 := ⟨RX0, TX0, 4, rfl, lw_V q1353 q1354 q1355 q96 q1356, rfl, nm_X0_swaps, by decide⟩
theorem nm_X3_swaps : NMH yX3_swaps 3 := by unfold NMH; decide +kernel
theorem sv_L_139 : SV "TouchShelfLaw" 139 3 yX3_swaps cX3_swaps 8 (some .int) 3 := ⟨RX3, TX3, 62, rfl, lw_V q2229 q2230 q2231 q102 q2232, rfl, nm_X3_swaps, by decide⟩
theorem nm_X0_hands : NMH yX0_hands 3 := by unfold NMH; decide +kernel
theorem sv_L_140 : SV "TouchShelfLaw" 140 0 yX0_hands cX0_hands 5 (some .int) 3 := ⟨RX0, TX0, 4, rfl, lw_V q1503 q1504 q1505 q96 q1506, rfl, nm_X0_hands, by decide⟩
theorem nm_X3_hands : NMH yX3_hands 3 := by unfold NMH; decide +kernel
theorem sv_L_143 : SV "TouchShelfLaw" 143 3 yX3_hands cX3_hands 4 (some .int) 3 := ⟨RX3, TX3, 62, rfl, lw_V q2237 q2238 q2239 q102 q2240, rfl, nm_X3_hands, by decide⟩
theorem nm_X0_count : NMH yX0_count 1 := by unfold NMH; decide +kernel
theorem sv_L_144 : SV "TouchShelfLaw" 144 0 yX0_count cX0_count 2 (some .int) 1 := ⟨RX0, TX0, 4, rfl, lw_V q1579 q1580 q1581 q96 q1582, rfl, nm_X0_count, by decide⟩
theorem nm_X3_count : NMH yX3_count 1 := by unfold NMH; decide +kernel
theorem sv_L_147 : SV "TouchShelfLaw" 147 3 yX3_count cX3_count 2 (some .int) 1 := ⟨RX3, TX3, 62, rfl, lw_V q2241 q2242 q2243 q102 q2244, rfl, nm_X3_count, by decide⟩
theorem nm_X0_image : NMH yX0_image 1 := by unfold NMH; decide +kernel
theorem sv_L_148 : SV "TouchShelfLaw" 148 0 yX0_image cX0_image 2 (some .boolean) 1 := ⟨RX0, TX0, 4, rfl, lw_V q1583 q1584 q1585 q96 q1586, rfl, nm_X0_image, by decide⟩
theorem nm_X3_image : NMH yX3_image 1 := by unfold NMH; decide +kernel
theorem sv_L_152 : SV "TouchShelfLaw" 152 3 yX3_image cX3_image 2 (some .boolean) 1 := ⟨RX3, TX3, 62, rfl, lw_V q2245 q2246 q2247 q102 q2248, rfl, nm_X3_image, by decide⟩
theorem nm_X0_again : NMH yX0_again 1 := by unfold NMH; decide +kernel
theorem sv_L_153 : SV "TouchShelfLaw" 153 0 yX0_again cX0_again 2 (some .boolean) 1 := ⟨RX0, TX0, 4, rfl, lw_V q1611 q1612 q1613 q96 q1614, rfl, nm_X0_again, by decide⟩
theorem nm_X3_again : NMH yX3_again 1 := by unfold NMH; decide +kernel
theorem sv_L_156 : SV "TouchShelfLaw" 156 3 yX3_again cX3_again 2 (some .boolean) 1 := ⟨RX3, TX3, 62, rfl, lw_V q2256 q2257 q2258 q102 q2259, rfl, nm_X3_again, by decide⟩
theorem nm_X3_has : NMH yX3_has 2 := by unfold NMH; decide +kernel
theorem ss_X3_115 : SS RX3 115 yX3_has cX3_has 3 (some .boolean) 2 := ⟨lw_S q1916 q1917 q102 q1918, nm_X3_has, by decide⟩
theorem nm_X3_copyRow : NMH yX3_copyRow 4 := by unfold NMH; decide +kernel
theorem ss_X3_119 : SS RX3 119 yX3_copyRow cX3_copyRow 5 none 4 := ⟨lw_S q2253 q2254 q102 q2255, nm_X3_copyRow, by decide⟩
theorem nm_X3_in : NMH yX3_in 3 := by unfold NMH; decide +kernel
theorem ss_X3_123 : SS RX3 123 yX3_in cX3_in 3 (some .boolean) 3 := ⟨lw_S q1823 q1824 q102 q1825, nm_X3_in, by decide⟩
theorem nm_X3_four : NMH yX3_four 1 := by unfold NMH; decide +kernel
theorem sv_X3_127 : SV RX3 127 3 yX3_four cX3_four 3 none 1 := ⟨RX3, TX3, 62, rfl, lw_V q1815 q1817 qs30 q102 q1818, rfl, nm_X3_four, by decide⟩
theorem nm_X3_see : NMH yX3_see 0 := by unfold NMH; decide +kernel
theorem sv_X3_137 : SV RX3 137 3 yX3_see cX3_see 1 (some .int) 0 := ⟨RX3, TX3, 62, rfl, lw_V q1842 q1844 qs34 q102 q1845, rfl, nm_X3_see, by decide⟩
theorem nm_X3_stops : NMH yX3_stops 0 := by unfold NMH; decide +kernel
theorem sv_X3_163 : SV RX3 163 3 yX3_stops cX3_stops 1 (some .boolean) 0 := ⟨RX3, TX3, 62, rfl, lw_V q1859 q1861 qs37 q102 q1862, rfl, nm_X3_stops, by decide⟩
theorem nm_X3_later : NMH yX3_later 2 := by unfold NMH; decide +kernel
theorem sv_X3_167 : SV RX3 167 3 yX3_later cX3_later 3 none 2 := ⟨RX3, TX3, 62, rfl, lw_V q1867 q1869 qs39 q102 q1870, rfl, nm_X3_later, by decide⟩
theorem nm_X3_token : NMH yX3_token 0 := by unfold NMH; decide +kernel
theorem sv_X3_171 : SV RX3 171 3 yX3_token cX3_token 3 none 0 := ⟨RX3, TX3, 62, rfl, lw_V q1838 q1840 qs33 q102 q1841, rfl, nm_X3_token, by decide⟩
theorem nm_X3_takeNumber : NMH yX3_takeNumber 4 := by unfold NMH; decide +kernel
theorem sv_X3_174 : SV RX3 174 3 yX3_takeNumber cX3_takeNumber 5 (some .boolean) 4 := ⟨RX3, TX3, 62, rfl, lw_V q1871 q1873 qs40 q102 q1874, rfl, nm_X3_takeNumber, by decide⟩
theorem nm_X3_greater : NMH yX3_greater 2 := by unfold NMH; decide +kernel
theorem ss_X3_181 : SS RX3 181 yX3_greater cX3_greater 2 (some .int) 2 := ⟨lw_S q1875 q1876 q102 q1877, nm_X3_greater, by decide⟩
theorem nm_X3_shelfLine : NMH yX3_shelfLine 1 := by unfold NMH; decide +kernel
theorem sv_X3_195 : SV RX3 195 3 yX3_shelfLine cX3_shelfLine 4 (some .boolean) 1 := ⟨RX3, TX3, 62, rfl, lw_V q1863 q1865 qs38 q102 q1866, rfl, nm_X3_shelfLine, by decide⟩
theorem nm_X3_libraryLine : NMH yX3_libraryLine 2 := by unfold NMH; decide +kernel
theorem sv_X3_211 : SV RX3 211 3 yX3_libraryLine cX3_libraryLine 5 (some .boolean) 2 := ⟨RX3, TX3, 62, rfl, lw_V q1850 q1852 qs36 q102 q1853, rfl, nm_X3_libraryLine, by decide⟩
theorem nm_X3_bookLine : NMH yX3_bookLine 2 := by unfold NMH; decide +kernel
theorem sv_X3_214 : SV RX3 214 3 yX3_bookLine cX3_bookLine 6 (some .boolean) 2 := ⟨RX3, TX3, 62, rfl, lw_V q1878 q1880 qs41 q102 q1881, rfl, nm_X3_bookLine, by decide⟩
theorem nm_X3_roundLine : NMH yX3_roundLine 2 := by unfold NMH; decide +kernel
theorem sv_X3_217 : SV RX3 217 3 yX3_roundLine cX3_roundLine 6 (some .boolean) 2 := ⟨RX3, TX3, 62, rfl, lw_V q1886 q1888 qs42 q102 q1889, rfl, nm_X3_roundLine, by decide⟩
theorem nm_X3_lines : NMH yX3_lines 1 := by unfold NMH; decide +kernel
theorem sv_X3_220 : SV RX3 220 3 yX3_lines cX3_lines 6 (some .boolean) 1 := ⟨RX3, TX3, 62, rfl, lw_V q1846 q1848 qs35 q102 q1849, rfl, nm_X3_lines, by decide⟩
theorem nm_X3_is : NMH yX3_is 2 := by unfold NMH; decide +kernel
theorem sv_X3_223 : SV RX3 223 3 yX3_is cX3_is 3 (some .boolean) 2 := ⟨RX3, TX3, 62, rfl, lw_V q1830 q1832 qs31 q102 q1833, rfl, nm_X3_is, by decide⟩
theorem nm_X3_readText : NMH yX3_readText 1 := by unfold NMH; decide +kernel
theorem sv_X3_227 : SV RX3 227 3 yX3_readText cX3_readText 4 (some .boolean) 1 := ⟨RX3, TX3, 62, rfl, lw_V q1834 q1836 qs32 q102 q1837, rfl, nm_X3_readText, by decide⟩
theorem nm_X3_store : NMH yX3_store 3 := by unfold NMH; decide +kernel
theorem sv_X3_230 : SV RX3 230 3 yX3_store cX3_store 5 none 3 := ⟨RX3, TX3, 62, rfl, lw_V q1892 q1894 qs43 q102 q1895, rfl, nm_X3_store, by decide⟩
theorem nm_X3_isShelf : NMH yX3_isShelf 1 := by unfold NMH; decide +kernel
theorem sv_X3_246 : SV RX3 246 3 yX3_isShelf cX3_isShelf 2 (some .boolean) 1 := ⟨RX3, TX3, 62, rfl, lw_V q1941 q1943 qs50 q102 q1944, rfl, nm_X3_isShelf, by decide⟩
theorem nm_X3_tabletsOn : NMH yX3_tabletsOn 1 := by unfold NMH; decide +kernel
theorem sv_X3_249 : SV RX3 249 3 yX3_tabletsOn cX3_tabletsOn 4 (some .int) 1 := ⟨RX3, TX3, 62, rfl, lw_V q1929 q1931 qs48 q102 q1932, rfl, nm_X3_tabletsOn, by decide⟩
theorem nm_X3_ones : NMH yX3_ones 1 := by unfold NMH; decide +kernel
theorem ss_X3_253 : SS RX3 253 yX3_ones cX3_ones 4 (some .int) 1 := ⟨lw_S q1922 q1923 q102 q1924, nm_X3_ones, by decide⟩
theorem nm_X3_mayBe : NMH yX3_mayBe 3 := by unfold NMH; decide +kernel
theorem sv_X3_257 : SV RX3 257 3 yX3_mayBe cX3_mayBe 4 (some .boolean) 3 := ⟨RX3, TX3, 62, rfl, lw_V q2031 q2033 qs68 q102 q2034, rfl, nm_X3_mayBe, by decide⟩
theorem nm_X3_here : NMH yX3_here 0 := by unfold NMH; decide +kernel
theorem sv_X3_260 : SV RX3 260 3 yX3_here cX3_here 4 (some .long) 0 := ⟨RX3, TX3, 62, rfl, lw_V q1912 q1914 qs46 q102 q1915, rfl, nm_X3_here, by decide⟩
theorem nm_X3_offOf : NMH yX3_offOf 2 := by unfold NMH; decide +kernel
theorem ss_X3_264 : SS RX3 264 yX3_offOf cX3_offOf 2 (some .int) 2 := ⟨lw_S q1919 q1920 q102 q1921, nm_X3_offOf, by decide⟩
theorem nm_X3_tablets : NMH yX3_tablets 0 := by unfold NMH; decide +kernel
theorem sv_X3_267 : SV RX3 267 3 yX3_tablets cX3_tablets 3 (some .int) 0 := ⟨RX3, TX3, 62, rfl, lw_V q1925 q1927 qs47 q102 q1928, rfl, nm_X3_tablets, by decide⟩
theorem nm_X3_hand : NMH yX3_hand 1 := by unfold NMH; decide +kernel
theorem sv_X3_270 : SV RX3 270 3 yX3_hand cX3_hand 5 (some .boolean) 1 := ⟨RX3, TX3, 62, rfl, lw_V q1904 q1906 qs44 q102 q1907, rfl, nm_X3_hand, by decide⟩
theorem nm_X3_close : NMH yX3_close 0 := by unfold NMH; decide +kernel
theorem sv_X3_273 : SV RX3 273 3 yX3_close cX3_close 7 (some .int) 0 := ⟨RX3, TX3, 62, rfl, lw_V q1908 q1910 qs45 q102 q1911, rfl, nm_X3_close, by decide⟩
theorem nm_X3_even : NMH yX3_even 0 := by unfold NMH; decide +kernel
theorem sv_X3_276 : SV RX3 276 3 yX3_even cX3_even 8 (some .int) 0 := ⟨RX3, TX3, 62, rfl, lw_V q1933 q1935 qs49 q102 q1936, rfl, nm_X3_even, by decide⟩
theorem nm_X3_slot : NMH yX3_slot 1 := by unfold NMH; decide +kernel
theorem ss_X3_281 : SS RX3 281 yX3_slot cX3_slot 2 (some .int) 1 := ⟨lw_S q1981 q1982 q102 q1983, nm_X3_slot, by decide⟩
theorem nm_X3_find : NMH yX3_find 1 := by unfold NMH; decide +kernel
theorem sv_X3_284 : SV RX3 284 3 yX3_find cX3_find 4 (some .int) 1 := ⟨RX3, TX3, 62, rfl, lw_V q1977 q1979 qs59 q102 q1980, rfl, nm_X3_find, by decide⟩
theorem nm_X3_packed : NMH yX3_packed 0 := by unfold NMH; decide +kernel
theorem sv_X3_295 : SV RX3 295 3 yX3_packed cX3_packed 4 (some .long) 0 := ⟨RX3, TX3, 62, rfl, lw_V q1969 q1971 qs57 q102 q1972, rfl, nm_X3_packed, by decide⟩
theorem nm_X3_comesTo : NMH yX3_comesTo 2 := by unfold NMH; decide +kernel
theorem sv_X3_298 : SV RX3 298 3 yX3_comesTo cX3_comesTo 5 none 2 := ⟨RX3, TX3, 62, rfl, lw_V q1973 q1975 qs58 q102 q1976, rfl, nm_X3_comesTo, by decide⟩
theorem nm_X3_slideAll : NMH yX3_slideAll 2 := by unfold NMH; decide +kernel
theorem sv_X3_302 : SV RX3 302 3 yX3_slideAll cX3_slideAll 6 none 2 := ⟨RX3, TX3, 62, rfl, lw_V q1985 q1987 qs60 q102 q1988, rfl, nm_X3_slideAll, by decide⟩
theorem nm_X3_unpack : NMH yX3_unpack 1 := by unfold NMH; decide +kernel
theorem sv_X3_305 : SV RX3 305 3 yX3_unpack cX3_unpack 6 none 1 := ⟨RX3, TX3, 62, rfl, lw_V q1989 q1991 qs61 q102 q1992, rfl, nm_X3_unpack, by decide⟩
theorem nm_X3_swap : NMH yX3_swap 2 := by unfold NMH; decide +kernel
theorem sv_X3_309 : SV RX3 309 3 yX3_swap cX3_swap 4 none 2 := ⟨RX3, TX3, 62, rfl, lw_V q1994 q1996 qs62 q102 q1997, rfl, nm_X3_swap, by decide⟩
theorem nm_X3_slidesNow : NMH yX3_slidesNow 0 := by unfold NMH; decide +kernel
theorem sv_X3_318 : SV RX3 318 3 yX3_slidesNow cX3_slidesNow 2 (some .int) 0 := ⟨RX3, TX3, 62, rfl, lw_V q1998 q2000 qs63 q102 q2001, rfl, nm_X3_slidesNow, by decide⟩
theorem nm_X3_layCells : NMH yX3_layCells 1 := by unfold NMH; decide +kernel
theorem sv_X3_321 : SV RX3 321 3 yX3_layCells cX3_layCells 3 none 1 := ⟨RX3, TX3, 62, rfl, lw_V q1961 q1963 qs55 q102 q1964, rfl, nm_X3_layCells, by decide⟩
theorem nm_X3_findSlides : NMH yX3_findSlides 0 := by unfold NMH; decide +kernel
theorem sv_X3_324 : SV RX3 324 3 yX3_findSlides cX3_findSlides 7 none 0 := ⟨RX3, TX3, 62, rfl, lw_V q1965 q1967 qs56 q102 q1968, rfl, nm_X3_findSlides, by decide⟩
theorem nm_X3_findFirst : NMH yX3_findFirst 1 := by unfold NMH; decide +kernel
theorem sv_X3_327 : SV RX3 327 3 yX3_findFirst cX3_findFirst 5 none 1 := ⟨RX3, TX3, 62, rfl, lw_V q2002 q2004 qs64 q102 q2005, rfl, nm_X3_findFirst, by decide⟩
theorem nm_X3_layRow : NMH yX3_layRow 1 := by unfold NMH; decide +kernel
theorem sv_X3_333 : SV RX3 333 3 yX3_layRow cX3_layRow 3 none 1 := ⟨RX3, TX3, 62, rfl, lw_V q1945 q1947 qs51 q102 q1948, rfl, nm_X3_layRow, by decide⟩
theorem nm_X3_turned : NMH yX3_turned 0 := by unfold NMH; decide +kernel
theorem sv_X3_336 : SV RX3 336 3 yX3_turned cX3_turned 4 (some .int) 0 := ⟨RX3, TX3, 62, rfl, lw_V q1949 q1951 qs52 q102 q1952, rfl, nm_X3_turned, by decide⟩
theorem nm_X3_longest : NMH yX3_longest 0 := by unfold NMH; decide +kernel
theorem sv_X3_339 : SV RX3 339 3 yX3_longest cX3_longest 4 (some .int) 0 := ⟨RX3, TX3, 62, rfl, lw_V q1953 q1955 qs53 q102 q1956, rfl, nm_X3_longest, by decide⟩
theorem nm_X3_slidesOf : NMH yX3_slidesOf 2 := by unfold NMH; decide +kernel
theorem sv_X3_342 : SV RX3 342 3 yX3_slidesOf cX3_slidesOf 4 (some .int) 2 := ⟨RX3, TX3, 62, rfl, lw_V q1957 q1959 qs54 q102 q1960, rfl, nm_X3_slidesOf, by decide⟩
theorem nm_X3_isPlace : NMH yX3_isPlace 2 := by unfold NMH; decide +kernel
theorem sv_X3_345 : SV RX3 345 3 yX3_isPlace cX3_isPlace 3 (some .boolean) 2 := ⟨RX3, TX3, 62, rfl, lw_V q2010 q2012 qs65 q102 q2013, rfl, nm_X3_isPlace, by decide⟩
theorem nm_X3_isMark : NMH yX3_isMark 1 := by unfold NMH; decide +kernel
theorem sv_X3_348 : SV RX3 348 3 yX3_isMark cX3_isMark 2 (some .boolean) 1 := ⟨RX3, TX3, 62, rfl, lw_V q2018 q2020 qs66 q102 q2021, rfl, nm_X3_isMark, by decide⟩
theorem nm_X3_readingsOf : NMH yX3_readingsOf 1 := by unfold NMH; decide +kernel
theorem sv_X3_353 : SV RX3 353 3 yX3_readingsOf cX3_readingsOf 5 (some .long) 1 := ⟨RX3, TX3, 62, rfl, lw_V q2027 q2029 qs67 q102 q2030, rfl, nm_X3_readingsOf, by decide⟩
theorem nm_X3_apartFrom : NMH yX3_apartFrom 2 := by unfold NMH; decide +kernel
theorem sv_X3_357 : SV RX3 357 3 yX3_apartFrom cX3_apartFrom 6 (some .long) 2 := ⟨RX3, TX3, 62, rfl, lw_V q2043 q2045 qs69 q102 q2046, rfl, nm_X3_apartFrom, by decide⟩
theorem nm_X3_findSet : NMH yX3_findSet 2 := by unfold NMH; decide +kernel
theorem sv_X3_364 : SV RX3 364 3 yX3_findSet cX3_findSet 7 none 2 := ⟨RX3, TX3, 62, rfl, lw_V q2051 q2053 qs70 q102 q2054, rfl, nm_X3_findSet, by decide⟩
theorem nm_X3_nthOf : NMH yX3_nthOf 2 := by unfold NMH; decide +kernel
theorem ss_X3_367 : SS RX3 367 yX3_nthOf cX3_nthOf 5 (some .int) 2 := ⟨lw_S q2055 q2056 q102 q2057, nm_X3_nthOf, by decide⟩
theorem nm_X3_weights : NMH yX3_weights 0 := by unfold NMH; decide +kernel
theorem sv_X3_371 : SV RX3 371 3 yX3_weights cX3_weights 3 (some .int) 0 := ⟨RX3, TX3, 62, rfl, lw_V q2070 q2072 qs71 q102 q2073, rfl, nm_X3_weights, by decide⟩
theorem nm_X3_isOrder : NMH yX3_isOrder 1 := by unfold NMH; decide +kernel
theorem sv_X3_374 : SV RX3 374 3 yX3_isOrder cX3_isOrder 5 (some .boolean) 1 := ⟨RX3, TX3, 62, rfl, lw_V q2074 q2076 qs72 q102 q2077, rfl, nm_X3_isOrder, by decide⟩
theorem nm_X3_feltBy : NMH yX3_feltBy 0 := by unfold NMH; decide +kernel
theorem sv_X3_377 : SV RX3 377 3 yX3_feltBy cX3_feltBy 5 (some .int) 0 := ⟨RX3, TX3, 62, rfl, lw_V q2078 q2080 qs73 q102 q2081, rfl, nm_X3_feltBy, by decide⟩
theorem nm_X3_common : NMH yX3_common 2 := by unfold NMH; decide +kernel
theorem ss_X3_380 : SS RX3 380 yX3_common cX3_common 5 (some .int) 2 := ⟨lw_S q2082 q2083 q102 q2084, nm_X3_common, by decide⟩
theorem nm_X3_deeds : NMH yX3_deeds 0 := by unfold NMH; decide +kernel
theorem sv_X3_386 : SV RX3 386 3 yX3_deeds cX3_deeds 1 (some .int) 0 := ⟨RX3, TX3, 62, rfl, lw_V q2093 q2095 qs74 q102 q2096, rfl, nm_X3_deeds, by decide⟩
theorem nm_X3_deedOf : NMH yX3_deedOf 2 := by unfold NMH; decide +kernel
theorem sv_X3_389 : SV RX3 389 3 yX3_deedOf cX3_deedOf 3 (some .int) 2 := ⟨RX3, TX3, 62, rfl, lw_V q2097 q2099 qs75 q102 q2100, rfl, nm_X3_deedOf, by decide⟩
theorem nm_X3_handTo : NMH yX3_handTo 2 := by unfold NMH; decide +kernel
theorem sv_X3_407 : SV RX3 407 3 yX3_handTo cX3_handTo 5 none 2 := ⟨RX3, TX3, 62, rfl, lw_V q2117 q2119 qs79 q102 q2120, rfl, nm_X3_handTo, by decide⟩
theorem nm_X3_change : NMH yX3_change 2 := by unfold NMH; decide +kernel
theorem sv_X3_410 : SV RX3 410 3 yX3_change cX3_change 3 none 2 := ⟨RX3, TX3, 62, rfl, lw_V q2121 q2123 qs80 q102 q2124, rfl, nm_X3_change, by decide⟩
theorem nm_X3_does : NMH yX3_does 1 := by unfold NMH; decide +kernel
theorem sv_X3_413 : SV RX3 413 3 yX3_does cX3_does 10 (some .boolean) 1 := ⟨RX3, TX3, 62, rfl, lw_V q2113 q2115 qs78 q102 q2116, rfl, nm_X3_does, by decide⟩
theorem nm_X3_begin : NMH yX3_begin 0 := by unfold NMH; decide +kernel
theorem sv_X3_416 : SV RX3 416 3 yX3_begin cX3_begin 2 none 0 := ⟨RX3, TX3, 62, rfl, lw_V q2105 q2107 qs76 q102 q2108, rfl, nm_X3_begin, by decide⟩
theorem nm_X3_doAll : NMH yX3_doAll 1 := by unfold NMH; decide +kernel
theorem sv_X3_419 : SV RX3 419 3 yX3_doAll cX3_doAll 3 (some .int) 1 := ⟨RX3, TX3, 62, rfl, lw_V q2109 q2111 qs77 q102 q2112, rfl, nm_X3_doAll, by decide⟩
theorem nm_X3_layState : NMH yX3_layState 3 := by unfold NMH; decide +kernel
theorem sv_X3_422 : SV RX3 422 3 yX3_layState cX3_layState 4 (some .boolean) 3 := ⟨RX3, TX3, 62, rfl, lw_V q2129 q2131 qs81 q102 q2132, rfl, nm_X3_layState, by decide⟩
theorem nm_X3_lentSet : NMH yX3_lentSet 0 := by unfold NMH; decide +kernel
theorem sv_X3_427 : SV RX3 427 3 yX3_lentSet cX3_lentSet 4 (some .long) 0 := ⟨RX3, TX3, 62, rfl, lw_V q2138 q2140 qs82 q102 q2141, rfl, nm_X3_lentSet, by decide⟩
theorem nm_X3_movedNow : NMH yX3_movedNow 0 := by unfold NMH; decide +kernel
theorem sv_X3_430 : SV RX3 430 3 yX3_movedNow cX3_movedNow 3 (some .int) 0 := ⟨RX3, TX3, 62, rfl, lw_V q2142 q2144 qs83 q102 q2145, rfl, nm_X3_movedNow, by decide⟩
theorem nm_X3_sure : NMH yX3_sure 0 := by unfold NMH; decide +kernel
theorem sv_X3_433 : SV RX3 433 3 yX3_sure cX3_sure 4 (some .int) 0 := ⟨RX3, TX3, 62, rfl, lw_V q2146 q2148 qs84 q102 q2149, rfl, nm_X3_sure, by decide⟩
theorem nm_X3_inOrder : NMH yX3_inOrder 0 := by unfold NMH; decide +kernel
theorem sv_X3_436 : SV RX3 436 3 yX3_inOrder cX3_inOrder 4 (some .long) 0 := ⟨RX3, TX3, 62, rfl, lw_V q2150 q2152 qs85 q102 q2153, rfl, nm_X3_inOrder, by decide⟩
theorem nm_X3_unit : NMH yX3_unit 1 := by unfold NMH; decide +kernel
theorem ss_X3_445 : SS RX3 445 yX3_unit cX3_unit 1 (some .int) 1 := ⟨lw_S q2178 q2179 q102 q2180, nm_X3_unit, by decide⟩
theorem nm_X3_spotOf : NMH yX3_spotOf 2 := by unfold NMH; decide +kernel
theorem ss_X3_448 : SS RX3 448 yX3_spotOf cX3_spotOf 2 (some .int) 2 := ⟨lw_S q2175 q2176 q102 q2177, nm_X3_spotOf, by decide⟩
theorem nm_X3_stepsOf : NMH yX3_stepsOf 2 := by unfold NMH; decide +kernel
theorem ss_X3_451 : SS RX3 451 yX3_stepsOf cX3_stepsOf 2 (some .int) 2 := ⟨lw_S q2181 q2182 q102 q2183, nm_X3_stepsOf, by decide⟩
theorem nm_X3_moved : NMH yX3_moved 3 := by unfold NMH; decide +kernel
theorem ss_X3_454 : SS RX3 454 yX3_moved cX3_moved 3 (some .int) 3 := ⟨lw_S q2184 q2185 q102 q2186, nm_X3_moved, by decide⟩
theorem nm_X3_costBy : NMH yX3_costBy 3 := by unfold NMH; decide +kernel
theorem sv_X3_459 : SV RX3 459 3 yX3_costBy cX3_costBy 4 (some .int) 3 := ⟨RX3, TX3, 62, rfl, lw_V q2171 q2173 qs88 q102 q2174, rfl, nm_X3_costBy, by decide⟩
theorem nm_X3_layRound : NMH yX3_layRound 1 := by unfold NMH; decide +kernel
theorem sv_X3_462 : SV RX3 462 3 yX3_layRound cX3_layRound 3 (some .boolean) 1 := ⟨RX3, TX3, 62, rfl, lw_V q2162 q2164 qs86 q102 q2165, rfl, nm_X3_layRound, by decide⟩
theorem nm_X3_serve : NMH yX3_serve 0 := by unfold NMH; decide +kernel
theorem sv_X3_465 : SV RX3 465 3 yX3_serve cX3_serve 5 (some .int) 0 := ⟨RX3, TX3, 62, rfl, lw_V q2166 q2168 qs87 q102 q2169, rfl, nm_X3_serve, by decide⟩
theorem nm_X3_greedy : NMH yX3_greedy 0 := by unfold NMH; decide +kernel
theorem sv_X3_468 : SV RX3 468 3 yX3_greedy cX3_greedy 5 (some .int) 0 := ⟨RX3, TX3, 62, rfl, lw_V q2187 q2189 qs89 q102 q2190, rfl, nm_X3_greedy, by decide⟩
theorem nm_X3_draw : NMH yX3_draw 1 := by unfold NMH; decide +kernel
theorem sv_X3_475 : SV RX3 475 3 yX3_draw cX3_draw 2 (some .int) 1 := ⟨RX3, TX3, 62, rfl, lw_V q2195 q2197 qs90 q102 q2198, rfl, nm_X3_draw, by decide⟩
theorem nm_X3_hole : NMH yX3_hole 1 := by unfold NMH; decide +kernel
theorem sv_X3_478 : SV RX3 478 3 yX3_hole cX3_hole 5 (some .int) 1 := ⟨RX3, TX3, 62, rfl, lw_V q2208 q2210 qs91 q102 q2211, rfl, nm_X3_hole, by decide⟩
theorem sv_X3_481 : SV RX3 481 3 yX3_halving cX3_halving 11 (some .int) 4 := ⟨RX3, TX3, 62, rfl, lw_V q2212 q2063 q2064 q102 q2065, rfl, nm_X3_halving, by decide⟩
theorem nm_X3_tellBy : NMH yX3_tellBy 2 := by unfold NMH; decide +kernel
theorem sv_X3_485 : SV RX3 485 3 yX3_tellBy cX3_tellBy 6 (some .boolean) 2 := ⟨RX3, TX3, 62, rfl, lw_V q2221 q2223 qs92 q102 q2224, rfl, nm_X3_tellBy, by decide⟩
theorem nm_X3_countMarks : NMH yX3_countMarks 3 := by unfold NMH; decide +kernel
theorem sv_X3_488 : SV RX3 488 3 yX3_countMarks cX3_countMarks 6 (some .int) 3 := ⟨RX3, TX3, 62, rfl, lw_V q2233 q2235 qs93 q102 q2236, rfl, nm_X3_countMarks, by decide⟩
theorem nm_X3_copyAll : NMH yX3_copyAll 2 := by unfold NMH; decide +kernel
theorem sv_X3_491 : SV RX3 491 3 yX3_copyAll cX3_copyAll 4 none 2 := ⟨RX3, TX3, 62, rfl, lw_V q2249 q2251 qs94 q102 q2252, rfl, nm_X3_copyAll, by decide⟩
theorem nm_J7_newBytesFor : NMH yJ7_newBytesFor 1 := by unfold NMH; decide +kernel
theorem ss_J4_26 : SS RJ4 26 yJ7_newBytesFor cJ7_newBytesFor 1 (some (FieldType.array FieldType.byte)) 1 := ⟨lw_S q306 q307 q110 q308, nm_J7_newBytesFor, by decide⟩
theorem nm_J10_copyOf : NMH yJ10_copyOf 2 := by unfold NMH; decide +kernel
theorem ss_J4_108 : SS RJ4 108 yJ10_copyOf cJ10_copyOf 3 (some (FieldType.array FieldType.byte)) 2 := ⟨lw_S q359 q360 q113 q361, nm_J10_copyOf, by decide⟩
theorem nm_J8_newLength : NMH yJ8_newLength 3 := by unfold NMH; decide +kernel
theorem ss_J4_114 : SS RJ4 114 yJ8_newLength cJ8_newLength 4 (some .int) 3 := ⟨lw_S q348 q349 q111 q350, nm_J8_newLength, by decide⟩
theorem nm_J11_inflate : NMH yJ11_inflate 5 := by unfold NMH; decide +kernel
theorem ss_J4_125 : SS RJ4 125 yJ11_inflate cJ11_inflate 5 none 5 := ⟨lw_S q387 q388 q115 q389, nm_J11_inflate, by decide⟩
theorem nm_J11_canEncode : NMH yJ11_canEncode 1 := by unfold NMH; decide +kernel
theorem ss_J4_191 : SS RJ4 191 yJ11_canEncode cJ11_canEncode 1 (some .boolean) 1 := ⟨lw_S q380 q381 q115 q382, nm_J11_canEncode, by decide⟩
theorem nm_J7_putCharSB : NMH yJ7_putCharSB 3 := by unfold NMH; decide +kernel
theorem ss_J4_197 : SS RJ4 197 yJ7_putCharSB cJ7_putCharSB 3 none 3 := ⟨lw_S q416 q417 q110 q418, nm_J7_putCharSB, by decide⟩
theorem nm_J7_coderFromArrayLen : NMH yJ7_coderFromArrayLen 2 := by unfold NMH; decide +kernel
theorem ss_J6_47 : SS RJ6 47 yJ7_coderFromArrayLen cJ7_coderFromArrayLen 2 (some .byte) 2 := ⟨lw_S q468 q469 q110 q470, nm_J7_coderFromArrayLen, by decide⟩
theorem nm_J10_copyOfRange : NMH yJ10_copyOfRange 3 := by unfold NMH; decide +kernel
theorem ss_J6_54 : SS RJ6 54 yJ10_copyOfRange cJ10_copyOfRange 3 (some (FieldType.array FieldType.byte)) 3 := ⟨lw_S q448 q449 q113 q450, nm_J10_copyOfRange, by decide⟩
theorem nm_J11_equals : NMH yJ11_equals 2 := by unfold NMH; decide +kernel
theorem ss_J6_541 : SS RJ6 541 yJ11_equals cJ11_equals 3 (some .boolean) 2 := ⟨lw_S q595 q596 q115 q597, nm_J11_equals, by decide⟩
theorem nm_J7_compress : NMH yJ7_compress 3 := by unfold NMH; decide +kernel
theorem ss_J6_1051 : SS RJ6 1051 yJ7_compress cJ7_compress 6 (some (FieldType.array FieldType.byte)) 3 := ⟨lw_S q458 q459 q110 q460, nm_J7_compress, by decide⟩
theorem nm_J12_checkIndex : NMH yJ12_checkIndex 3 := by unfold NMH; decide +kernel
theorem ss_J6_1059 : SS RJ6 1059 yJ12_checkIndex cJ12_checkIndex 3 (some .int) 3 := ⟨lw_S q425 q426 q116 q427, nm_J12_checkIndex, by decide⟩
theorem nm_J12_checkFromIndexSize : NMH yJ12_checkFromIndexSize 4 := by unfold NMH; decide +kernel
theorem ss_J6_1065 : SS RJ6 1065 yJ12_checkFromIndexSize cJ12_checkFromIndexSize 4 (some .int) 4 := ⟨lw_S q404 q405 q116 q406, nm_J12_checkFromIndexSize, by decide⟩
theorem nm_J7_inflate : NMH yJ7_inflate 5 := by unfold NMH; decide +kernel
theorem ss_J11_240 : SS RJ11 240 yJ7_inflate cJ7_inflate 6 none 5 := ⟨lw_S q390 q391 q110 q392, nm_J7_inflate, by decide⟩
theorem nm_J7_newBytesLength : NMH yJ7_newBytesLength 1 := by unfold NMH; decide +kernel
theorem ss_J7_11 : SS RJ7 11 yJ7_newBytesLength cJ7_newBytesLength 1 (some .int) 1 := ⟨lw_S q309 q310 q110 q311, nm_J7_newBytesLength, by decide⟩
theorem nm_J7_length : NMH yJ7_length 1 := by unfold NMH; decide +kernel
theorem ss_J7_48 : SS RJ7 48 yJ7_length cJ7_length 1 (some .int) 1 := ⟨lw_S q396 q397 q110 q398, nm_J7_length, by decide⟩
theorem nm_J7_checkIndex : NMH yJ7_checkIndex 2 := by unfold NMH; decide +kernel
theorem ss_J7_67 : SS RJ7 67 yJ7_checkIndex cJ7_checkIndex 2 none 2 := ⟨lw_S q419 q420 q110 q421, nm_J7_checkIndex, by decide⟩
theorem nm_J7_getChar : NMH yJ7_getChar 2 := by unfold NMH; decide +kernel
theorem ss_J7_71 : SS RJ7 71 yJ7_getChar cJ7_getChar 2 (some .char) 2 := ⟨lw_S q464 q465 q110 q466, nm_J7_getChar, by decide⟩
theorem nm_J7_putChar : NMH yJ7_putChar 3 := by unfold NMH; decide +kernel
theorem ss_J7_111 : SS RJ7 111 yJ7_putChar cJ7_putChar 3 none 3 := ⟨lw_S q407 q408 q110 q409, nm_J7_putChar, by decide⟩
theorem nm_J7_compress_2 : NMH yJ7_compress_2 5 := by unfold NMH; decide +kernel
theorem ss_J7_123 : SS RJ7 123 yJ7_compress_2 cJ7_compress_2 7 (some .int) 5 := ⟨lw_S q461 q462 q110 q463, nm_J7_compress_2, by decide⟩
theorem ss_J7_126 : SS RJ7 126 yJ10_copyOfRange cJ10_copyOfRange 3 (some (FieldType.array FieldType.byte)) 3 := ⟨lw_S q467 q449 q113 q450, nm_J10_copyOfRange, by decide⟩
theorem nm_J7_checkBoundsOffCount : NMH yJ7_checkBoundsOffCount 3 := by unfold NMH; decide +kernel
theorem ss_J7_173 : SS RJ7 173 yJ7_checkBoundsOffCount cJ7_checkBoundsOffCount 3 none 3 := ⟨lw_S q393 q394 q110 q395, nm_J7_checkBoundsOffCount, by decide⟩
theorem nm_J6_checkIndex : NMH yJ6_checkIndex 2 := by unfold NMH; decide +kernel
theorem ss_J7_414 : SS RJ7 414 yJ6_checkIndex cJ6_checkIndex 2 none 2 := ⟨lw_S q422 q423 q109 q424, nm_J6_checkIndex, by decide⟩
theorem nm_J6_checkBoundsOffCount : NMH yJ6_checkBoundsOffCount 3 := by unfold NMH; decide +kernel
theorem ss_J7_419 : SS RJ7 419 yJ6_checkBoundsOffCount cJ6_checkBoundsOffCount 3 (some .int) 3 := ⟨lw_S q399 q400 q109 q401, nm_J6_checkBoundsOffCount, by decide⟩
theorem nm_J10_copyOf_2 : NMH yJ10_copyOf_2 2 := by unfold NMH; decide +kernel
theorem ss_J2_66 : SS RJ2 66 yJ10_copyOf_2 cJ10_copyOf_2 2 (some (FieldType.array (FieldType.object "java/lang/Object"))) 2 := ⟨lw_S q741 q742 q113 q743, nm_J10_copyOf_2, by decide⟩
theorem nm_J2_grow_2 : NMH yJ2_grow_2 1 := by unfold NMH; decide +kernel
theorem sv_J2_69 : SV RJ2 69 15 yJ2_grow_2 cJ2_grow_2 4 (some (FieldType.array (FieldType.object "java/lang/Object"))) 1 := ⟨RJ2, TJ2, 3, rfl, lw_V q734 q736 qs5 q100 q737, rfl, nm_J2_grow_2, by decide⟩
theorem ss_J2_73 : SS RJ2 73 yJ8_newLength cJ8_newLength 4 (some .int) 3 := ⟨lw_S q740 q349 q111 q350, nm_J8_newLength, by decide⟩
theorem ss_J2_79 : SS RJ2 79 yJ9_max cJ9_max 2 (some .int) 2 := ⟨lw_S q774 q352 q112 q353, nm_J9_max, by decide⟩
theorem nm_J15_checkIndex : NMH yJ15_checkIndex 2 := by unfold NMH; decide +kernel
theorem ss_J2_118 : SS RJ2 118 yJ15_checkIndex cJ15_checkIndex 2 (some .int) 2 := ⟨lw_S q854 q855 q125 q856, nm_J15_checkIndex, by decide⟩
theorem nm_J2_elementData : NMH yJ2_elementData 1 := by unfold NMH; decide +kernel
theorem sv_J2_123 : SV RJ2 123 15 yJ2_elementData cJ2_elementData 2 (some (FieldType.object "java/lang/Object")) 1 := ⟨RJ2, TJ2, 3, rfl, lw_V q858 q859 q860 q100 q861, rfl, nm_J2_elementData, by decide⟩
theorem nm_J2_grow : NMH yJ2_grow 0 := by unfold NMH; decide +kernel
theorem sv_J2_129 : SV RJ2 129 15 yJ2_grow cJ2_grow 1 (some (FieldType.array (FieldType.object "java/lang/Object"))) 0 := ⟨RJ2, TJ2, 3, rfl, lw_V q730 q732 qs4 q100 q733, rfl, nm_J2_grow, by decide⟩
theorem nm_J2_add_2 : NMH yJ2_add_2 3 := by unfold NMH; decide +kernel
theorem sv_J2_131 : SV RJ2 131 15 yJ2_add_2 cJ2_add_2 4 none 3 := ⟨RJ2, TJ2, 3, rfl, lw_V q726 q728 qs3 q100 q729, rfl, nm_J2_add_2, by decide⟩
theorem nm_J18_sort : NMH yJ18_sort 4 := by unfold NMH; decide +kernel
theorem ss_J10_7 : SS RJ10 7 yJ18_sort cJ18_sort 7 none 4 := ⟨lw_S q1139 q1140 q132 q1141, nm_J18_sort, by decide⟩
theorem nm_J10_copyOf_3 : NMH yJ10_copyOf_3 3 := by unfold NMH; decide +kernel
theorem ss_J10_300 : SS RJ10 300 yJ10_copyOf_3 cJ10_copyOf_3 4 (some (FieldType.array (FieldType.object "java/lang/Object"))) 3 := ⟨lw_S q769 q770 q113 q771, nm_J10_copyOf_3, by decide⟩
theorem ss_J10_304 : SS RJ10 304 yJ9_min cJ9_min 2 (some .int) 2 := ⟨lw_S q369 q370 q112 q371, nm_J9_min, by decide⟩
theorem nm_J10_copyOfRangeByte : NMH yJ10_copyOfRangeByte 3 := by unfold NMH; decide +kernel
theorem ss_J10_339 : SS RJ10 339 yJ10_copyOfRangeByte cJ10_copyOfRangeByte 5 (some (FieldType.array FieldType.byte)) 3 := ⟨lw_S q451 q452 q113 q453, nm_J10_copyOfRangeByte, by decide⟩
theorem nm_J10_checkLength : NMH yJ10_checkLength 2 := by unfold NMH; decide +kernel
theorem ss_J10_343 : SS RJ10 343 yJ10_checkLength cJ10_checkLength 2 none 2 := ⟨lw_S q454 q455 q113 q456, nm_J10_checkLength, by decide⟩
theorem nm_J18_sort_2 : NMH yJ18_sort_2 5 := by unfold NMH; decide +kernel
theorem ss_J18_26 : SS RJ18 26 yJ18_sort_2 cJ18_sort_2 21 none 5 := ⟨lw_S q1142 q1143 q132 q1144, nm_J18_sort_2, by decide⟩
theorem nm_J18_mixedInsertionSort : NMH yJ18_mixedInsertionSort 4 := by unfold NMH; decide +kernel
theorem ss_J18_30 : SS RJ18 30 yJ18_mixedInsertionSort cJ18_mixedInsertionSort 8 none 4 := ⟨lw_S q1145 q1146 q132 q1147, nm_J18_mixedInsertionSort, by decide⟩
theorem nm_J18_insertionSort : NMH yJ18_insertionSort 3 := by unfold NMH; decide +kernel
theorem ss_J18_34 : SS RJ18 34 yJ18_insertionSort cJ18_insertionSort 6 none 3 := ⟨lw_S q1148 q1149 q132 q1150, nm_J18_insertionSort, by decide⟩
theorem nm_J18_tryMergeRuns : NMH yJ18_tryMergeRuns 4 := by unfold NMH; decide +kernel
theorem ss_J18_38 : SS RJ18 38 yJ18_tryMergeRuns cJ18_tryMergeRuns 12 (some .boolean) 4 := ⟨lw_S q1151 q1152 q132 q1153, nm_J18_tryMergeRuns, by decide⟩
theorem nm_J18_heapSort : NMH yJ18_heapSort 3 := by unfold NMH; decide +kernel
theorem ss_J18_42 : SS RJ18 42 yJ18_heapSort cJ18_heapSort 4 none 3 := ⟨lw_S q1162 q1163 q132 q1164, nm_J18_heapSort, by decide⟩
theorem nm_J18_pushDown : NMH yJ18_pushDown 5 := by unfold NMH; decide +kernel
theorem ss_J18_49 : SS RJ18 49 yJ18_pushDown cJ18_pushDown 6 none 5 := ⟨lw_S q1165 q1166 q132 q1167, nm_J18_pushDown, by decide⟩
theorem ss_J18_53 : SS RJ18 53 yJ10_copyOf_4 cJ10_copyOf_4 3 (some (FieldType.array FieldType.int)) 2 := ⟨lw_S q1154 q816 q113 q817, nm_J10_copyOf_4, by decide⟩
theorem nm_J18_mergeRuns : NMH yJ18_mergeRuns 8 := by unfold NMH; decide +kernel
theorem ss_J18_69 : SS RJ18 69 yJ18_mergeRuns cJ18_mergeRuns 18 (some (FieldType.array FieldType.int)) 8 := ⟨lw_S q1156 q1157 q132 q1158, nm_J18_mergeRuns, by decide⟩
theorem nm_J18_mergeParts : NMH yJ18_mergeParts 9 := by unfold NMH; decide +kernel
theorem ss_J18_91 : SS RJ18 91 yJ18_mergeParts cJ18_mergeParts 14 none 9 := ⟨lw_S q1159 q1160 q132 q1161, nm_J18_mergeParts, by decide⟩
theorem ss_J15_105 : SS RJ15 105 yJ12_checkIndex cJ12_checkIndex 3 (some .int) 3 := ⟨lw_S q857 q426 q116 q427, nm_J12_checkIndex, by decide⟩
theorem ss_J8_194 : SS RJ8 194 yJ9_max cJ9_max 2 (some .int) 2 := ⟨lw_S q351 q352 q112 q353, nm_J9_max, by decide⟩
theorem nm_J8_hugeLength : NMH yJ8_hugeLength 2 := by unfold NMH; decide +kernel
theorem ss_J8_201 : SS RJ8 201 yJ8_hugeLength cJ8_hugeLength 3 (some .int) 2 := ⟨lw_S q355 q356 q111 q357, nm_J8_hugeLength, by decide⟩
