set_option maxRecDepth 100000
/-! THE REFERENCE: its plain functions -/
theorem c_in (E : zE) (M : zM) (v a b : Int32) : (Con E yX3_in cX3_in 3 (some .boolean) 1 0 0) [.int v, .int a, .int b] M (pI (fun x M' => x = bz (a ≤ v ∧ v ≤ b) ∧ M' = M)) := by
  refine Go.enter [some (.int v), some (.int a), some (.int b)] rfl (Nat.le_of_ble_eq_true rfl) rfl (Nat.le_of_ble_eq_true rfl) ?_
  refine g_ild0 (q := 1) dX3_in_0 rfl ?_
  refine g_ild1 (q := 2) dX3_in_1 rfl ?_
  refine g_ic_lt (t := 14) (q := 5) dX3_in_2 rfl rfl (fun c_2 => ?_) (fun c_2 => ?_)
  · refine g_iconst (q := 15) dX3_in_14 ki_0 rfl ?_
    refine g_zret dX3_in_15 rfl (Nat.zero_le _) (Nat.zero_le _) ?_
    first
      | exact ⟨_, rfl, bz_1 ⟨Int32.not_lt.mp c_2, Int32.not_lt.mp c_7⟩, rfl⟩
      | exact ⟨_, rfl, bz_z (fun h => absurd c_2 (Int32.not_lt.mpr h.1)), rfl⟩
      | exact ⟨_, rfl, bz_z (fun h => absurd c_7 (Int32.not_lt.mpr h.2)), rfl⟩
  · refine g_ild0 (q := 6) dX3_in_5 rfl ?_
    refine g_ild2 (q := 7) dX3_in_6 rfl ?_
    refine g_ic_gt (t := 14) (q := 10) dX3_in_7 rfl rfl (fun c_7 => ?_) (fun c_7 => ?_)
    · refine g_iconst (q := 15) dX3_in_14 ki_0 rfl ?_
      refine g_zret dX3_in_15 rfl (Nat.zero_le _) (Nat.zero_le _) ?_
      first
        | exact ⟨_, rfl, bz_1 ⟨Int32.not_lt.mp c_2, Int32.not_lt.mp c_7⟩, rfl⟩
        | exact ⟨_, rfl, bz_z (fun h => absurd c_2 (Int32.not_lt.mpr h.1)), rfl⟩
        | exact ⟨_, rfl, bz_z (fun h => absurd c_7 (Int32.not_lt.mpr h.2)), rfl⟩
    · refine g_iconst (q := 11) dX3_in_10 ki_1 rfl ?_
      refine g_goto (t := 15) dX3_in_11 rfl ?_
      refine g_zret dX3_in_15 rfl (Nat.zero_le _) (Nat.zero_le _) ?_
      first
        | exact ⟨_, rfl, bz_1 ⟨Int32.not_lt.mp c_2, Int32.not_lt.mp c_7⟩, rfl⟩
        | exact ⟨_, rfl, bz_z (fun h => absurd c_2 (Int32.not_lt.mpr h.1)), rfl⟩
        | exact ⟨_, rfl, bz_z (fun h => absurd c_7 (Int32.not_lt.mpr h.2)), rfl⟩
theorem c_greater (E : zE) (M : zM) (a b : Int32) : (Con E yX3_greater cX3_greater 2 (some .int) 1 0 0) [.int a, .int b] M (pI (fun x M' => x = (if b < a then a else b) ∧ M' = M)) := by
  refine Go.enter [some (.int a), some (.int b)] rfl (Nat.le_of_ble_eq_true rfl) rfl (Nat.le_of_ble_eq_true rfl) ?_
  refine g_ild0 (q := 1) dX3_greater_0 rfl ?_
  refine g_ild1 (q := 2) dX3_greater_1 rfl ?_
  refine g_ic_le (t := 9) (q := 5) dX3_greater_2 rfl rfl (fun c_2 => ?_) (fun c_2 => ?_)
  · refine g_ild1 (q := 10) dX3_greater_9 rfl ?_
    refine g_iret dX3_greater_10 (Nat.zero_le _) (Nat.zero_le _) ?_
    first | exact ⟨_, rfl, (if_neg (Int32.not_lt.mpr c_2)).symm, rfl⟩ | exact ⟨_, rfl, (if_pos (Int32.not_le.mp c_2)).symm, rfl⟩
  · refine g_ild0 (q := 6) dX3_greater_5 rfl ?_
    refine g_goto (t := 10) dX3_greater_6 rfl ?_
    refine g_iret dX3_greater_10 (Nat.zero_le _) (Nat.zero_le _) ?_
    first | exact ⟨_, rfl, (if_neg (Int32.not_lt.mpr c_2)).symm, rfl⟩ | exact ⟨_, rfl, (if_pos (Int32.not_le.mp c_2)).symm, rfl⟩
theorem gre {a b : Nat} (ha : a < 2 ^ 31) (hb : b < 2 ^ 31) : (if nI b < nI a then nI a else nI b) = nI (max a b) := by
  by_cases h : b < a
  · rw [if_pos ((nI_ltI hb ha).mpr h), Nat.max_eq_left (by omega)]
  · rw [if_neg (fun e => h ((nI_ltI hb ha).mp e)), Nat.max_eq_right (by omega)]
/-- one bit of a long -/
theorem c_has (E : zE) (M : zM) (x : Int64) (k : Nat) (hk : k < 64) : (Con E yX3_has cX3_has 3 (some .boolean) 1 0 0) [.long x, .int (nI k)] M (pI (fun y M' => y = bz (bl x k = true) ∧ M' = M)) := by
  refine Go.enter [some (.long x), none, some (.int (nI k))] rfl (Nat.le_of_ble_eq_true rfl) rfl (Nat.le_of_ble_eq_true rfl) ?_
  refine g_lld0 (q := 1) dX3_has_0 rfl ?_
  refine g_ild2 (q := 2) dX3_has_1 rfl ?_
  refine g_lshr (q := 3) dX3_has_2 rfl ?_
  refine g_lconst (v := 1) (q := 4) dX3_has_3 rfl rfl ?_
  refine g_land (q := 5) dX3_has_4 rfl ?_
  refine g_lconst (v := 1) (q := 6) dX3_has_5 rfl rfl ?_
  refine g_lcmp (q := 7) dX3_has_6 rfl ?_
  refine g_lcn (t := 14) (q := 10) dX3_has_7 rfl rfl (fun c_7 => ?_) (fun c_7 => ?_)
  · refine g_iconst (q := 15) dX3_has_14 ki_0 rfl ?_
    refine g_zret dX3_has_15 rfl (Nat.zero_le _) (Nat.zero_le _) ?_
    first | exact ⟨_, rfl, bz_1 ((bl_has x k hk).mp c_7), rfl⟩ | exact ⟨_, rfl, bz_z (fun h => c_7 ((bl_has x k hk).mpr h)), rfl⟩
  · refine g_iconst (q := 11) dX3_has_10 ki_1 rfl ?_
    refine g_goto (t := 15) dX3_has_11 rfl ?_
    refine g_zret dX3_has_15 rfl (Nat.zero_le _) (Nat.zero_le _) ?_
    first | exact ⟨_, rfl, bz_1 ((bl_has x k hk).mp c_7), rfl⟩ | exact ⟨_, rfl, bz_z (fun h => c_7 ((bl_has x k hk).mpr h)), rfl⟩
theorem lp_ones {E : zE} {M : zM} {x : Int64} {Post : Option Value → zM → Prop} (hpost : Post (some (.int (nI (fb_ct (bl x) 32)))) M) : ∀ p, p ≤ 32 → (GoR E yX3_ones cX3_ones 4 (some .int) 2 0 0) Post 4 [some (.long x), none, some (.int (nI (fb_ct (bl x) p))), some (.int (nI p))] [] M 0 0 := by
  refine up_ind 32 (fun p hp ih => ?_)
  have hc := fb_ct_le (bl x) p
  refine g_ild3 (q := 5) dX3_ones_4 rfl ?_
  refine g_bipush (q := 7) dX3_ones_5 kb_32 rfl ?_
  refine g_icN_ge (t := 32) (q := 10) dX3_ones_7 rfl rfl (by omega) (by omega) (fun c_7 => ?_) (fun c_7 => ?_)
  · obtain rfl : p = 32 := by omega
    refine g_ild2 (q := 33) dX3_ones_32 rfl ?_
    exact g_iret dX3_ones_33 (Nat.zero_le _) (Nat.zero_le _) hpost
  · refine g_ild2 (q := 11) dX3_ones_10 rfl ?_
    refine g_lld0 (q := 12) dX3_ones_11 rfl ?_
    refine g_ild3 (q := 13) dX3_ones_12 rfl ?_
    refine m_calls (q := 16) (c_has _ _ _ _ (by omega)) ss_X3_115 dX3_ones_13 rfl rfl rfl (Nat.le_of_ble_eq_true rfl) ⟨Nat.le_of_ble_eq_true rfl, Nat.le_of_ble_eq_true rfl⟩ ⟨Nat.zero_le _, Nat.zero_le _⟩ (gIe ?_)
    refine g_ifb_eq (t := 23) (q := 19) dX3_ones_16 rfl rfl (fun c_16 => ?_) (fun c_16 => ?_)
    · refine g_iconst (q := 24) dX3_ones_23 ki_0 rfl ?_
      refine g_iaddN (q := 25) dX3_ones_24 rfl ?_
      refine g_ist2 (q := 26) dX3_ones_25 rfl rfl ?_
      refine g_inc3 (w := nI (p + 1)) (q := 29) dX3_ones_26 rfl (nI_1 _) rfl ?_
      refine g_goto (t := 4) dX3_ones_29 rfl ?_
      have := ih (by omega)
      rw [fb_ct_succ] at this
      first | (rw [if_pos c_16] at this; exact this) | (rw [if_neg c_16] at this; exact this)
    · refine g_iconst (q := 20) dX3_ones_19 ki_1 rfl ?_
      refine g_goto (t := 24) dX3_ones_20 rfl ?_
      refine g_iaddN (q := 25) dX3_ones_24 rfl ?_
      refine g_ist2 (q := 26) dX3_ones_25 rfl rfl ?_
      refine g_inc3 (w := nI (p + 1)) (q := 29) dX3_ones_26 rfl (nI_1 _) rfl ?_
      refine g_goto (t := 4) dX3_ones_29 rfl ?_
      have := ih (by omega)
      rw [fb_ct_succ] at this
      first | (rw [if_pos c_16] at this; exact this) | (rw [if_neg c_16] at this; exact this)
theorem c_ones (E : zE) (M : zM) (x : Int64) : (Con E yX3_ones cX3_ones 4 (some .int) 2 0 0) [.long x] M (pI (fun y M' => y = nI (fb_ct (bl x) 32) ∧ M' = M)) := by
  refine Go.enter [some (.long x), none, none, none] rfl (Nat.le_of_ble_eq_true rfl) rfl (Nat.le_of_ble_eq_true rfl) ?_
  refine g_iconst (q := 1) dX3_ones_0 ki_0 rfl ?_
  refine g_ist2 (q := 2) dX3_ones_1 rfl rfl ?_
  refine g_iconst (q := 3) dX3_ones_2 ki_0 rfl ?_
  refine g_ist3 (q := 4) dX3_ones_3 rfl rfl ?_
  exact lp_ones ⟨_, rfl, rfl, rfl⟩ 0 (by omega)
/-- how many bits one has that the other has not -/
def dif (a b : Nat) : Nat := fb_ct (fun i => a.testBit i && !b.testBit i) 32
def off (a b : Nat) : Nat := max (dif a b) (dif b a)
def pmay (m z w : Nat) : Prop := dif z m = 0 ∧ dif m z ≤ w
theorem dif_le (a b : Nat) : dif a b ≤ 32 := fb_ct_le _ _
theorem off_le (a b : Nat) : off a b ≤ 32 := Nat.max_le.mpr ⟨dif_le a b, dif_le b a⟩
theorem off_comm (a b : Nat) : off a b = off b a := Nat.max_comm _ _
theorem bt_dif (a b : Nat) (i : Nat) (hi : i < 32) : bt (nI a &&& (nI b ^^^ (-1))) i = (a.testBit i && !b.testBit i) := by
  rw [b_and, b_xor, bt_nI i hi, bt_nI i hi, b_m1 i hi]
  cases a.testBit i <;> cases b.testBit i <;> rfl
theorem ct_dif (a b : Nat) : fb_ct (bl (nI a &&& (nI b ^^^ (-1))).toInt64) 32 = dif a b := by
  refine fb_ct_cong (fun i hi => ?_)
  rw [bl_ext32 _ (by omega), if_pos hi, bt_dif a b i hi]
theorem eq_dif (a b : Nat) : (nI a &&& (nI b ^^^ (-1))) = 0 ↔ dif a b = 0 := by
  unfold dif
  rw [fb_ct_zero]
  constructor
  · intro h i hi
    rw [← bt_dif a b i hi, h, b_0]
  · intro h
    refine b_ext (fun i hi => ?_)
    rw [bt_dif a b i hi, h i hi, b_0]
theorem c_offOf (E : zE) (M : zM) (a b : Nat) : (Con E yX3_offOf cX3_offOf 2 (some .int) 3 0 0) [.int (nI a), .int (nI b)] M (pI (fun y M' => y = nI (off a b) ∧ M' = M)) := by
  refine Go.enter [some (.int (nI a)), some (.int (nI b))] rfl (Nat.le_of_ble_eq_true rfl) rfl (Nat.le_of_ble_eq_true rfl) ?_
  refine g_ild0 (q := 1) dX3_offOf_0 rfl ?_
  refine g_ild1 (q := 2) dX3_offOf_1 rfl ?_
  refine g_iconst (q := 3) dX3_offOf_2 ki_m1 rfl ?_
  refine g_ixor (q := 4) dX3_offOf_3 rfl ?_
  refine g_iand (q := 5) dX3_offOf_4 rfl ?_
  refine g_i2l (q := 6) dX3_offOf_5 rfl ?_
  refine m_calls (q := 9) (c_ones _ _ _) ss_X3_253 dX3_offOf_6 rfl rfl rfl (Nat.le_of_ble_eq_true rfl) ⟨Nat.le_of_ble_eq_true rfl, Nat.le_of_ble_eq_true rfl⟩ ⟨Nat.zero_le _, Nat.zero_le _⟩ (gIe ?_)
  rw [ct_dif]
  refine g_ild1 (q := 10) dX3_offOf_9 rfl ?_
  refine g_ild0 (q := 11) dX3_offOf_10 rfl ?_
  refine g_iconst (q := 12) dX3_offOf_11 ki_m1 rfl ?_
  refine g_ixor (q := 13) dX3_offOf_12 rfl ?_
  refine g_iand (q := 14) dX3_offOf_13 rfl ?_
  refine g_i2l (q := 15) dX3_offOf_14 rfl ?_
  refine m_calls (q := 18) (c_ones _ _ _) ss_X3_253 dX3_offOf_15 rfl rfl rfl (Nat.le_of_ble_eq_true rfl) ⟨Nat.le_of_ble_eq_true rfl, Nat.le_of_ble_eq_true rfl⟩ ⟨Nat.zero_le _, Nat.zero_le _⟩ (gIe ?_)
  rw [ct_dif]
  refine m_calls (q := 21) (c_greater _ _ _ _) ss_X3_181 dX3_offOf_18 rfl rfl rfl (Nat.le_of_ble_eq_true rfl) ⟨Nat.le_of_ble_eq_true rfl, Nat.le_of_ble_eq_true rfl⟩ ⟨Nat.zero_le _, Nat.zero_le _⟩ (gIe ?_)
  refine g_iret dX3_offOf_21 (Nat.zero_le _) (Nat.zero_le _) ?_
  exact ⟨_, rfl, gre (Nat.lt_of_le_of_lt (dif_le _ _) (by decide)) (Nat.lt_of_le_of_lt (dif_le _ _) (by decide)), rfl⟩
theorem c_mayBe (E : zE) (M : zM) (o : Nat) (m z w : Nat) (hw : w < 2 ^ 31) (S : zS) : (Con E yX3_mayBe cX3_mayBe 4 (some .boolean) 3 0 0) [.ref o, .int (nI m), .int (nI z), .int (nI w)] (mv M o S) (pI (fun y M' => y = bz (dif z m = 0 ∧ dif m z ≤ w) ∧ M' = mv M o S)) := by
  have h32 := dif_le m z
  refine Go.enter [some (.ref o), some (.int (nI m)), some (.int (nI z)), some (.int (nI w))] rfl (Nat.le_of_ble_eq_true rfl) rfl (Nat.le_of_ble_eq_true rfl) ?_
  refine g_ild2 (q := 1) dX3_mayBe_0 rfl ?_
  refine g_ild1 (q := 2) dX3_mayBe_1 rfl ?_
  refine g_iconst (q := 3) dX3_mayBe_2 ki_m1 rfl ?_
  refine g_ixor (q := 4) dX3_mayBe_3 rfl ?_
  refine g_iand (q := 5) dX3_mayBe_4 rfl ?_
  refine g_if_ne (t := 25) (q := 8) dX3_mayBe_5 rfl rfl (fun c_5 => ?_) (fun c_5 => ?_)
  · refine g_iconst (q := 26) dX3_mayBe_25 ki_0 rfl ?_
    refine g_zret dX3_mayBe_26 rfl (Nat.zero_le _) (Nat.zero_le _) ?_
    first
      | exact ⟨_, rfl, bz_1 ⟨(eq_dif z m).mp c_5, by omega⟩, rfl⟩
      | exact ⟨_, rfl, bz_z (fun h => c_5 ((eq_dif z m).mpr h.1)), rfl⟩
      | exact ⟨_, rfl, bz_z (fun h => by omega), rfl⟩
  · refine g_ild1 (q := 9) dX3_mayBe_8 rfl ?_
    refine g_ild2 (q := 10) dX3_mayBe_9 rfl ?_
    refine g_iconst (q := 11) dX3_mayBe_10 ki_m1 rfl ?_
    refine g_ixor (q := 12) dX3_mayBe_11 rfl ?_
    refine g_iand (q := 13) dX3_mayBe_12 rfl ?_
    refine g_i2l (q := 14) dX3_mayBe_13 rfl ?_
    refine m_calls (q := 17) (c_ones _ _ _) ss_X3_253 dX3_mayBe_14 rfl rfl rfl (Nat.le_of_ble_eq_true rfl) ⟨Nat.le_of_ble_eq_true rfl, Nat.le_of_ble_eq_true rfl⟩ ⟨Nat.zero_le _, Nat.zero_le _⟩ (gIe ?_)
    rw [ct_dif]
    refine g_ild3 (q := 18) dX3_mayBe_17 rfl ?_
    refine g_icN_gt (t := 25) (q := 21) dX3_mayBe_18 rfl rfl (by omega) (by omega) (fun c_18 => ?_) (fun c_18 => ?_)
    · refine g_iconst (q := 26) dX3_mayBe_25 ki_0 rfl ?_
      refine g_zret dX3_mayBe_26 rfl (Nat.zero_le _) (Nat.zero_le _) ?_
      first
        | exact ⟨_, rfl, bz_1 ⟨(eq_dif z m).mp c_5, by omega⟩, rfl⟩
        | exact ⟨_, rfl, bz_z (fun h => c_5 ((eq_dif z m).mpr h.1)), rfl⟩
        | exact ⟨_, rfl, bz_z (fun h => by omega), rfl⟩
    · refine g_iconst (q := 22) dX3_mayBe_21 ki_1 rfl ?_
      refine g_goto (t := 26) dX3_mayBe_22 rfl ?_
      refine g_zret dX3_mayBe_26 rfl (Nat.zero_le _) (Nat.zero_le _) ?_
      first
        | exact ⟨_, rfl, bz_1 ⟨(eq_dif z m).mp c_5, by omega⟩, rfl⟩
        | exact ⟨_, rfl, bz_z (fun h => c_5 ((eq_dif z m).mpr h.1)), rfl⟩
        | exact ⟨_, rfl, bz_z (fun h => by omega), rfl⟩

