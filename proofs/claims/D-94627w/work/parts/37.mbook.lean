set_option maxRecDepth 100000
/-! A DAYBOOK's VALUE: how many deeds, each deed's four numbers -/
abbrev BV : Type := Nat × (Nat → Nat → Int32)
def BOK (B : BV) : Prop := B.1 ≤ 40 ∧ ∀ k, k < B.1 → (∃ w s p : Nat, w < 4 ∧ s < 4 ∧ p < 12 ∧ B.2 k 0 = nI w ∧ B.2 k 1 = nI s ∧ B.2 k 2 = nI p ∧ ((w = 1 ∧ B.2 k 3 = -1) ∨ (w ≠ 1 ∧ ∃ b, b < 32 ∧ (w = 2 → b < 12) ∧ B.2 k 3 = nI b)))
def BR (f : Nat → Int32) (a : Nat) (B : BV) : Prop := f a = nI B.1 ∧ ∀ k, k < B.1 → ∀ i, i < 4 → f (a + 1 + 4 * k + i) = B.2 k i
def MBs (S : zS) (n : Nat) (Bs : Nat → BV) : Prop := n ≤ 2 ∧ (S.1 5) 1 = nI n ∧ ∀ b, b < n → BR ((S.1 7)) (161 * b) (Bs b) ∧ BOK (Bs b)
def deA (B : BV) (k w : Int32) : Int32 := if k = -1 then (if w = 0 then nI B.1 else -2) else if ixo k B.1 ∧ ixo w 4 then B.2 k.toNatClampNeg w.toNatClampNeg else -2
def q_deed (n : Nat) (Bs : Nat → BV) (d k w : Int32) : Int32 := if ixo d n then deA (Bs d.toNatClampNeg) k w else -2
/-- all marks -/
def fulL (b : Nat) : Int64 := (1 : Int64) <<< ((nI (2 ^ b)).toInt64 &&& 63) - 1
def adI (a b : Int32) : Int32 := if 0 ≤ a - b then a - b else -(a - b)
section MBook
variable {E : zE} {M : zM} {o : Nat} {S S0 : zS} {n : Nat} {Bs : Nat → BV} {B : BV} {L : LV}
theorem c_deeds (hk0 : Sk E M o) {b : Nat} (hb : b < 2) (hbk : (S.1 46 0) = nI b) (hR : BR ((S.1 7)) (161 * b) B) : (Con E yX3_deeds cX3_deeds 1 (some .int) 1 0 0) [.ref o] (mv M o S) (pI (fun x M' => x = nI B.1 ∧ M' = mv M o S)) := by
  refine Go.enter [some (.ref o)] rfl (Nat.le_of_ble_eq_true rfl) rfl (Nat.le_of_ble_eq_true rfl) ?_
  refine g_ald0 (q := 1) dX3_deeds_0 rfl ?_
  refine m_getA (j := 7) (q := 4) hk0 fs_X3_29 dX3_deeds_1 rfl (fun _ _ => rfl) ⟨rfl, by decide, by decide⟩ ?_
  refine g_sipush (q := 7) dX3_deeds_4 ks_161 rfl ?_
  refine g_ald0 (q := 8) dX3_deeds_7 rfl ?_
  refine m_getI (q := 11) hk0 fs_X3_383 dX3_deeds_8 rfl rfl rfl ?_
  refine g_top hbk ?_
  refine g_imulN (q := 12) dX3_deeds_11 rfl ?_
  refine m_iald (n := (161 * b)) (q := 13) hk0 dX3_deeds_12 rfl ma_7 rfl (by omega) ?_
  refine g_iret dX3_deeds_13 (Nat.zero_le _) (Nat.zero_le _) ?_
  exact ⟨_, rfl, hR.1, rfl⟩
theorem c_deedOf (hk0 : Sk E M o) {b : Nat} (hb : b < 2) (hbk : (S.1 46 0) = nI b) (hR : BR ((S.1 7)) (161 * b) B) (h40 : B.1 ≤ 40) (k i : Nat) (hk : k < B.1) (hi : i < 4) : (Con E yX3_deedOf cX3_deedOf 3 (some .int) 1 0 0) [.ref o, .int (nI k), .int (nI i)] (mv M o S) (pI (fun x M' => x = B.2 k i ∧ M' = mv M o S)) := by
  refine Go.enter [some (.ref o), some (.int (nI k)), some (.int (nI i))] rfl (Nat.le_of_ble_eq_true rfl) rfl (Nat.le_of_ble_eq_true rfl) ?_
  refine g_ald0 (q := 1) dX3_deedOf_0 rfl ?_
  refine m_getA (j := 7) (q := 4) hk0 fs_X3_29 dX3_deedOf_1 rfl (fun _ _ => rfl) ⟨rfl, by decide, by decide⟩ ?_
  refine g_sipush (q := 7) dX3_deedOf_4 ks_161 rfl ?_
  refine g_ald0 (q := 8) dX3_deedOf_7 rfl ?_
  refine m_getI (q := 11) hk0 fs_X3_383 dX3_deedOf_8 rfl rfl rfl ?_
  refine g_top hbk ?_
  refine g_imulN (q := 12) dX3_deedOf_11 rfl ?_
  refine g_iconst (q := 13) dX3_deedOf_12 ki_1 rfl ?_
  refine g_iaddN (q := 14) dX3_deedOf_13 rfl ?_
  refine g_iconst (q := 15) dX3_deedOf_14 ki_4 rfl ?_
  refine g_ild1 (q := 16) dX3_deedOf_15 rfl ?_
  refine g_imulN (q := 17) dX3_deedOf_16 rfl ?_
  refine g_iaddN (q := 18) dX3_deedOf_17 rfl ?_
  refine g_ild2 (q := 19) dX3_deedOf_18 rfl ?_
  refine g_iaddN (q := 20) dX3_deedOf_19 rfl ?_
  refine m_iald (n := ((((161 * b) + 1) + ((4 * k))) + i)) (q := 21) hk0 dX3_deedOf_20 rfl ma_7 rfl (by omega) ?_
  refine g_iret dX3_deedOf_21 (Nat.zero_le _) (Nat.zero_le _) ?_
  exact ⟨_, rfl, hR.2 k hk i hi, rfl⟩
theorem c_deed (hk0 : Sk E M o) (hM : MBs S n Bs) (d k w : Int32) : (Con E yX3_deed cX3_deed 4 (some .int) 3 0 0) [.ref o, .int d, .int k, .int w] (mv M o S) (pI (fun x => mP M o (fun S' => x = q_deed n Bs d k w ∧ Kp [0, 46] S S'))) := by
  have h2 := hM.1
  refine Go.enter [some (.ref o), some (.int d), some (.int k), some (.int w)] rfl (Nat.le_of_ble_eq_true rfl) rfl (Nat.le_of_ble_eq_true rfl) ?_
  refine g_ald0 (q := 1) dX3_deed_0 rfl ?_
  refine g_iconst (q := 2) dX3_deed_1 ki_0 rfl ?_
  refine m_putI (q := 5) hk0 fs_X3_111 dX3_deed_2 rfl rfl rfl ?_
  refine g_ald0 (q := 6) dX3_deed_5 rfl ?_
  refine g_iconst (q := 7) dX3_deed_6 ki_1 rfl ?_
  refine g_ild1 (q := 8) dX3_deed_7 rfl ?_
  refine m_call (q := 11) hk0 (c_is E M o (ms1 S 0 0 (nI 0)) hk0 1 n (by omega) (by omega) hM.2.1 d) sv_X3_223 dX3_deed_8 rfl rfl rfl (Nat.le_of_ble_eq_true rfl) ⟨Nat.le_of_ble_eq_true rfl, Nat.le_of_ble_eq_true rfl⟩ ⟨Nat.zero_le _, Nat.zero_le _⟩ (gIe ?_)
  refine g_ifb_ne (t := 17) (q := 14) dX3_deed_11 rfl rfl (fun c_11 => ?_) (fun c_11 => ?_)
  · obtain ⟨d, hd, rfl⟩ := ixo_of c_11 (by omega)
    obtain ⟨hR, hB⟩ := hM.2.2 d hd
    have h40 := hB.1
    have hK : Kp [0, 46] S (ms1 (ms1 S 0 0 (nI 0)) 46 0 (nI d)) := (Kp.rf.s1 rfl).s1 rfl
    have R : ∀ x, x = deA (Bs d) k w → mP M o (fun S' => x = q_deed n Bs (nI d) k w ∧ Kp [0, 46] S S') (mv M o (ms1 (ms1 S 0 0 (nI 0)) 46 0 (nI d))) := fun x hx => ⟨_, rfl, by unfold q_deed; rw [nI_clamp (n := d) (by omega), if_pos c_11]; exact hx, hK⟩
    refine g_ald0 (q := 18) dX3_deed_17 rfl ?_
    refine g_ild1 (q := 19) dX3_deed_18 rfl ?_
    refine m_putI (q := 22) hk0 fs_X3_383 dX3_deed_19 rfl rfl rfl ?_
    refine g_ild2 (q := 23) dX3_deed_22 rfl ?_
    refine g_iconst (q := 24) dX3_deed_23 ki_m1 rfl ?_
    refine g_ic_ne (t := 41) (q := 27) dX3_deed_24 rfl rfl (fun c_24 => ?_) (fun c_24 => ?_)
    · refine g_ild2 (q := 42) dX3_deed_41 rfl ?_
      refine g_iconst (q := 43) dX3_deed_42 ki_0 rfl ?_
      refine g_ald0 (q := 44) dX3_deed_43 rfl ?_
      refine m_call (q := 47) hk0 (c_deeds hk0 (b := d) (by omega) (ms1_at _ _ _ _) hR) sv_X3_386 dX3_deed_44 rfl rfl rfl (Nat.le_of_ble_eq_true rfl) ⟨Nat.le_of_ble_eq_true rfl, Nat.le_of_ble_eq_true rfl⟩ ⟨Nat.zero_le _, Nat.zero_le _⟩ (gIe ?_)
      refine g_iconst (q := 48) dX3_deed_47 ki_1 rfl ?_
      refine g_isub (q := 49) dX3_deed_48 rfl ?_
      refine m_calls (q := 52) (c_in _ _ _ _ _) ss_X3_123 dX3_deed_49 rfl rfl rfl (Nat.le_of_ble_eq_true rfl) ⟨Nat.le_of_ble_eq_true rfl, Nat.le_of_ble_eq_true rfl⟩ ⟨Nat.zero_le _, Nat.zero_le _⟩ (gIe ?_)
      refine g_ifb_eq (t := 73) (q := 55) dX3_deed_52 rfl rfl (fun c_52 => ?_) (fun c_52 => ?_)
      · refine g_bipush (q := 75) dX3_deed_73 kb_m2 rfl ?_
        refine g_iret dX3_deed_75 (Nat.zero_le _) (Nat.zero_le _) ?_
        exact ⟨_, rfl, R _ (by unfold deA; rw [if_neg c_24, if_neg (fun h => c_52 ((in_ixo (by omega)).mpr h.1))])⟩
      · refine g_ild3 (q := 56) dX3_deed_55 rfl ?_
        refine g_iconst (q := 57) dX3_deed_56 ki_0 rfl ?_
        refine g_iconst (q := 58) dX3_deed_57 ki_3 rfl ?_
        refine m_calls (q := 61) (c_in _ _ _ _ _) ss_X3_123 dX3_deed_58 rfl rfl rfl (Nat.le_of_ble_eq_true rfl) ⟨Nat.le_of_ble_eq_true rfl, Nat.le_of_ble_eq_true rfl⟩ ⟨Nat.zero_le _, Nat.zero_le _⟩ (gIe ?_)
        refine g_ifb_eq (t := 73) (q := 64) dX3_deed_61 rfl rfl (fun c_61 => ?_) (fun c_61 => ?_)
        · refine g_bipush (q := 75) dX3_deed_73 kb_m2 rfl ?_
          refine g_iret dX3_deed_75 (Nat.zero_le _) (Nat.zero_le _) ?_
          exact ⟨_, rfl, R _ (by unfold deA; rw [if_neg c_24, if_neg (fun h => c_61 ((in_n (by omega)).mpr h.2))])⟩
        · have ck := (in_ixo (by omega)).mp c_52
          have cw := (in_n (by omega)).mp c_61
          obtain ⟨k, hk, rfl⟩ := ixo_of ck (by omega)
          obtain ⟨w, hw, rfl⟩ := ixo_of cw (by omega)
          refine g_ald0 (q := 65) dX3_deed_64 rfl ?_
          refine g_ild2 (q := 66) dX3_deed_65 rfl ?_
          refine g_ild3 (q := 67) dX3_deed_66 rfl ?_
          refine m_call (q := 70) hk0 (c_deedOf (S := ms1 (ms1 S 0 0 (nI 0)) 46 0 (nI d)) (B := Bs d) hk0 (b := d) (by omega) (ms1_at _ _ _ _) hR h40 k w hk hw) sv_X3_389 dX3_deed_67 rfl rfl rfl (Nat.le_of_ble_eq_true rfl) ⟨Nat.le_of_ble_eq_true rfl, Nat.le_of_ble_eq_true rfl⟩ ⟨Nat.zero_le _, Nat.zero_le _⟩ (gIe ?_)
          refine g_goto (t := 75) dX3_deed_70 rfl ?_
          refine g_iret dX3_deed_75 (Nat.zero_le _) (Nat.zero_le _) ?_
          exact ⟨_, rfl, R _ (by unfold deA; rw [if_neg c_24, if_pos ⟨ck, cw⟩, nI_clamp (by omega), nI_clamp (by omega)])⟩
    · refine g_ild3 (q := 28) dX3_deed_27 rfl ?_
      refine g_if_ne (t := 38) (q := 31) dX3_deed_28 rfl rfl (fun c_28 => ?_) (fun c_28 => ?_)
      · refine g_bipush (q := 40) dX3_deed_38 kb_m2 rfl ?_
        refine g_iret dX3_deed_40 (Nat.zero_le _) (Nat.zero_le _) ?_
        exact ⟨_, rfl, R _ (by unfold deA; rw [if_pos c_24, if_neg c_28])⟩
      · refine g_ald0 (q := 32) dX3_deed_31 rfl ?_
        refine m_call (q := 35) hk0 (c_deeds hk0 (b := d) (by omega) (ms1_at _ _ _ _) hR) sv_X3_386 dX3_deed_32 rfl rfl rfl (Nat.le_of_ble_eq_true rfl) ⟨Nat.le_of_ble_eq_true rfl, Nat.le_of_ble_eq_true rfl⟩ ⟨Nat.zero_le _, Nat.zero_le _⟩ (gIe ?_)
        refine g_goto (t := 40) dX3_deed_35 rfl ?_
        refine g_iret dX3_deed_40 (Nat.zero_le _) (Nat.zero_le _) ?_
        exact ⟨_, rfl, R _ (by unfold deA; rw [if_pos c_24, if_pos c_28])⟩
  · refine g_bipush (q := 16) dX3_deed_14 kb_m2 rfl ?_
    refine g_iret dX3_deed_16 (Nat.zero_le _) (Nat.zero_le _) ?_
    exact ⟨_, rfl, _, rfl, by unfold q_deed; rw [if_neg c_11], Kp.rf.s1 rfl⟩
/-- a course begins -/
def Begun (S' : zS) (b : Nat) : Prop := (∀ k, k < 48 → (S'.2 47) k = fulL b) ∧ (∀ m, m < 32 → (S'.1 48) m = nI 0) ∧ (S'.1 49 0) = nI 0 ∧ (S'.1 50 0) = -1 ∧ (S'.1 51 0) = nI 0 ∧ (S'.1 52 0) = nI 0 ∧ (S'.1 53 0) = nI 0
abbrev bks : List Nat := [47, 48, 49, 50, 51, 52, 53]
theorem lp_begin1 (hk0 : Sk E M o) {b : Nat} (hb : b ≤ 5) (hbt : (S0.1 21 0) = nI b) {Post : Option Value → zM → Prop} (kk : ∀ S', Kp bks S0 S' → (∀ k, k < 48 → (S'.2 47) k = fulL b) → (GoR E yX3_begin cX3_begin 2 none 1 0 0) Post 30 [some (.ref o), some (.int (nI 48))] [] (mv M o S') 0 0) :
    ∀ k, k ≤ 48 → ∀ S', Kp bks S0 S' → (∀ j, j < k → (S'.2 47) j = fulL b) → (GoR E yX3_begin cX3_begin 2 none 1 0 0) Post 2 [some (.ref o), some (.int (nI k))] [] (mv M o S') 0 0 := by
  refine up_ind _ (fun k hk ih S' hK hF => ?_)
  refine g_ild1 (q := 3) dX3_begin_2 rfl ?_
  refine g_bipush (q := 5) dX3_begin_3 kb_48 rfl ?_
  refine g_icN_ge (t := 30) (q := 8) dX3_begin_5 rfl rfl (by omega) (by omega) (fun c_5 => ?_) (fun c_5 => ?_)
  · obtain rfl : k = 48 := by omega
    exact kk S' hK hF
  · refine g_ald0 (q := 9) dX3_begin_8 rfl ?_
    refine m_getA (j := 26) (q := 12) hk0 fs_X3_89 dX3_begin_9 rfl (fun _ _ => rfl) ⟨rfl, by decide, by decide⟩ ?_
    refine g_ild1 (q := 13) dX3_begin_12 rfl ?_
    refine g_lconst (v := 1) (q := 14) dX3_begin_13 rfl rfl ?_
    refine g_iconst (q := 15) dX3_begin_14 ki_1 rfl ?_
    refine g_ald0 (q := 16) dX3_begin_15 rfl ?_
    refine m_getI (q := 19) hk0 fs_X3_234 dX3_begin_16 rfl rfl rfl ?_
    refine g_top (show (S'.1 21 0) = nI b by rw [(hK 21 rfl).1]; exact hbt) ?_
    refine g_ishl (q := 20) dX3_begin_19 rfl ?_
    refine g_top (shl1 _ (by omega)) ?_
    refine g_lshl (q := 21) dX3_begin_20 rfl ?_
    refine g_lconst (v := 1) (q := 22) dX3_begin_21 rfl rfl ?_
    refine g_lsub (q := 23) dX3_begin_22 rfl ?_
    refine m_last (n := k) (q := 24) hk0 dX3_begin_23 rfl ma_47 rfl (by omega) ?_
    refine g_inc1 (w := nI (k + 1)) (q := 27) dX3_begin_24 rfl (nI_1 _) rfl ?_
    refine g_goto (t := 2) dX3_begin_27 rfl ?_
    refine ih (by omega) _ (hK.s2 rfl) (fun j hj => ?_)
    by_cases e : j = k
    · rw [e, ms2_at]; rfl
    · rw [ms2_nj _ _ _ e]; exact hF j (by omega)
theorem lp_begin2 (hk0 : Sk E M o) {b : Nat} {Post : Option Value → zM → Prop} (hpost : ∀ S', Kp bks S0 S' → Begun S' b → Post none (mv M o S')) :
    ∀ m, m ≤ 32 → ∀ S', Kp bks S0 S' → (∀ k, k < 48 → (S'.2 47) k = fulL b) → (∀ j, j < m → (S'.1 48) j = nI 0) → (GoR E yX3_begin cX3_begin 2 none 1 0 0) Post 32 [some (.ref o), some (.int (nI m))] [] (mv M o S') 0 0 := by
  refine up_ind _ (fun m hm ih S' hK hF hN => ?_)
  refine g_ild1 (q := 33) dX3_begin_32 rfl ?_
  refine g_bipush (q := 35) dX3_begin_33 kb_32 rfl ?_
  refine g_icN_ge (t := 51) (q := 38) dX3_begin_35 rfl rfl (by omega) (by omega) (fun c_35 => ?_) (fun c_35 => ?_)
  · obtain rfl : m = 32 := by omega
    refine g_ald0 (q := 52) dX3_begin_51 rfl ?_
    refine g_iconst (q := 53) dX3_begin_52 ki_0 rfl ?_
    refine m_putI (q := 56) hk0 fs_X3_392 dX3_begin_53 rfl rfl rfl ?_
    refine g_ald0 (q := 57) dX3_begin_56 rfl ?_
    refine g_iconst (q := 58) dX3_begin_57 ki_m1 rfl ?_
    refine m_putI (q := 61) hk0 fs_X3_395 dX3_begin_58 rfl rfl rfl ?_
    refine g_ald0 (q := 62) dX3_begin_61 rfl ?_
    refine g_iconst (q := 63) dX3_begin_62 ki_0 rfl ?_
    refine m_putI (q := 66) hk0 fs_X3_398 dX3_begin_63 rfl rfl rfl ?_
    refine g_ald0 (q := 67) dX3_begin_66 rfl ?_
    refine g_iconst (q := 68) dX3_begin_67 ki_0 rfl ?_
    refine m_putI (q := 71) hk0 fs_X3_401 dX3_begin_68 rfl rfl rfl ?_
    refine g_ald0 (q := 72) dX3_begin_71 rfl ?_
    refine g_iconst (q := 73) dX3_begin_72 ki_0 rfl ?_
    refine m_putI (q := 76) hk0 fs_X3_404 dX3_begin_73 rfl rfl rfl ?_
    refine g_vret dX3_begin_76 (Nat.zero_le _) (Nat.zero_le _) ?_
    exact hpost _ (((((hK.s1 rfl).s1 rfl).s1 rfl).s1 rfl).s1 rfl) ⟨hF, hN, rfl, rfl, rfl, rfl, rfl⟩
  · refine g_ald0 (q := 39) dX3_begin_38 rfl ?_
    refine m_getA (j := 27) (q := 42) hk0 fs_X3_92 dX3_begin_39 rfl (fun _ _ => rfl) ⟨rfl, by decide, by decide⟩ ?_
    refine g_ild1 (q := 43) dX3_begin_42 rfl ?_
    refine g_iconst (q := 44) dX3_begin_43 ki_0 rfl ?_
    refine m_iast (n := m) (q := 45) hk0 dX3_begin_44 rfl ma_48 rfl (by omega) ?_
    refine g_inc1 (w := nI (m + 1)) (q := 48) dX3_begin_45 rfl (nI_1 _) rfl ?_
    refine g_goto (t := 32) dX3_begin_48 rfl ?_
    refine ih (by omega) _ (hK.s1 rfl) hF (fun j hj => ?_)
    by_cases e : j = m
    · rw [e, ms1_at]
    · rw [ms1_nj _ _ _ e]; exact hN j (by omega)
theorem c_begin (hk0 : Sk E M o) {b : Nat} (hb : b ≤ 5) (hbt : (S.1 21 0) = nI b) : (Con E yX3_begin cX3_begin 2 none 1 0 0) [.ref o] (mv M o S) (pV (mP M o (fun S' => Kp bks S S' ∧ Begun S' b))) := by
  refine Go.enter [some (.ref o), none] rfl (Nat.le_of_ble_eq_true rfl) rfl (Nat.le_of_ble_eq_true rfl) ?_
  refine g_iconst (q := 1) dX3_begin_0 ki_0 rfl ?_
  refine g_ist1 (q := 2) dX3_begin_1 rfl rfl ?_
  refine lp_begin1 (S0 := S) hk0 hb hbt (fun S' hK hF => ?_) 0 (by omega) S Kp.rf (fun j h => by omega)
  refine g_iconst (q := 31) dX3_begin_30 ki_0 rfl ?_
  refine g_ist1 (q := 32) dX3_begin_31 rfl rfl ?_
  exact lp_begin2 (S0 := S) hk0 (fun S2 h1 h2 => ⟨rfl, S2, rfl, h1, h2⟩) 0 (by omega) S' hK hF (fun j h => by omega)
theorem c_change (hk0 : Sk E M o) {b : Nat} (hb : b ≤ 5) (hbt : (S.1 21 0) = nI b) (k : Nat) (hk : k < 48) (m : Int32) : (Con E yX3_change cX3_change 3 none 1 0 0) [.ref o, .int (nI k), .int m] (mv M o S) (pV (fun M' => M' = mv M o (ms2 (ms1 S 27 k m) 47 k (fulL b)))) := by
  refine Go.enter [some (.ref o), some (.int (nI k)), some (.int m)] rfl (Nat.le_of_ble_eq_true rfl) rfl (Nat.le_of_ble_eq_true rfl) ?_
  refine g_ald0 (q := 1) dX3_change_0 rfl ?_
  refine m_getA (j := 13) (q := 4) hk0 fs_X3_47 dX3_change_1 rfl (fun _ _ => rfl) ⟨rfl, by decide, by decide⟩ ?_
  refine g_ild1 (q := 5) dX3_change_4 rfl ?_
  refine g_ild2 (q := 6) dX3_change_5 rfl ?_
  refine m_iast (n := k) (q := 7) hk0 dX3_change_6 rfl ma_27 rfl (by omega) ?_
  refine g_ald0 (q := 8) dX3_change_7 rfl ?_
  refine m_getA (j := 26) (q := 11) hk0 fs_X3_89 dX3_change_8 rfl (fun _ _ => rfl) ⟨rfl, by decide, by decide⟩ ?_
  refine g_ild1 (q := 12) dX3_change_11 rfl ?_
  refine g_lconst (v := 1) (q := 13) dX3_change_12 rfl rfl ?_
  refine g_iconst (q := 14) dX3_change_13 ki_1 rfl ?_
  refine g_ald0 (q := 15) dX3_change_14 rfl ?_
  refine m_getI (q := 18) hk0 fs_X3_234 dX3_change_15 rfl rfl rfl ?_
  refine g_top hbt ?_
  refine g_ishl (q := 19) dX3_change_18 rfl ?_
  refine g_top (shl1 _ (by omega)) ?_
  refine g_lshl (q := 20) dX3_change_19 rfl ?_
  refine g_lconst (v := 1) (q := 21) dX3_change_20 rfl rfl ?_
  refine g_lsub (q := 22) dX3_change_21 rfl ?_
  refine m_last (n := k) (q := 23) hk0 dX3_change_22 rfl ma_47 rfl (by omega) ?_
  refine g_vret dX3_change_23 (Nat.zero_le _) (Nat.zero_le _) ?_
  exact ⟨rfl, rfl⟩
theorem c_handTo (hk0 : Sk E M o) (s p : Int32) : (Con E yX3_handTo cX3_handTo 5 none 1 0 0) [.ref o, .int s, .int p] (mv M o S) (pV (fun M' => M' = mv M o (ms1 (ms1 (ms1 S 51 0 ((S.1 51 0) + (nI 10 * adI s ((S.1 52 0)) + adI p ((S.1 53 0))))) 52 0 s) 53 0 p))) := by
  refine Go.enter [some (.ref o), some (.int s), some (.int p), none, none] rfl (Nat.le_of_ble_eq_true rfl) rfl (Nat.le_of_ble_eq_true rfl) ?_
  refine g_ild1 (q := 1) dX3_handTo_0 rfl ?_
  refine g_ald0 (q := 2) dX3_handTo_1 rfl ?_
  refine m_getI (q := 5) hk0 fs_X3_401 dX3_handTo_2 rfl rfl rfl ?_
  refine g_isub (q := 6) dX3_handTo_5 rfl ?_
  refine g_ist3 (q := 7) dX3_handTo_6 rfl rfl ?_
  refine g_ild2 (q := 8) dX3_handTo_7 rfl ?_
  refine g_ald0 (q := 9) dX3_handTo_8 rfl ?_
  refine m_getI (q := 12) hk0 fs_X3_404 dX3_handTo_9 rfl rfl rfl ?_
  refine g_isub (q := 13) dX3_handTo_12 rfl ?_
  refine g_ist4 (q := 15) dX3_handTo_13 rfl rfl ?_
  refine g_ald0 (q := 16) dX3_handTo_15 rfl ?_
  refine g_dup (q := 17) dX3_handTo_16 rfl rfl ?_
  refine m_getI (q := 20) hk0 fs_X3_398 dX3_handTo_17 rfl rfl rfl ?_
  refine g_bipush (q := 22) dX3_handTo_20 kb_10 rfl ?_
  refine g_ild3 (q := 23) dX3_handTo_22 rfl ?_
  refine g_if_ge (t := 31) (q := 26) dX3_handTo_23 rfl rfl (fun c_23 => ?_) (fun c_23 => ?_)
  · refine g_ild3 (q := 32) dX3_handTo_31 rfl ?_
    refine g_imul (q := 33) dX3_handTo_32 rfl ?_
    refine g_ild4 (q := 35) dX3_handTo_33 rfl ?_
    refine g_if_ge (t := 44) (q := 38) dX3_handTo_35 rfl rfl (fun c_35 => ?_) (fun c_35 => ?_)
    · refine g_ild4 (q := 46) dX3_handTo_44 rfl ?_
      refine g_iadd (q := 47) dX3_handTo_46 rfl ?_
      refine g_iadd (q := 48) dX3_handTo_47 rfl ?_
      refine m_putI (q := 51) hk0 fs_X3_398 dX3_handTo_48 rfl rfl rfl ?_
      refine g_ald0 (q := 52) dX3_handTo_51 rfl ?_
      refine g_ild1 (q := 53) dX3_handTo_52 rfl ?_
      refine m_putI (q := 56) hk0 fs_X3_401 dX3_handTo_53 rfl rfl rfl ?_
      refine g_ald0 (q := 57) dX3_handTo_56 rfl ?_
      refine g_ild2 (q := 58) dX3_handTo_57 rfl ?_
      refine m_putI (q := 61) hk0 fs_X3_404 dX3_handTo_58 rfl rfl rfl ?_
      refine g_vret dX3_handTo_61 (Nat.zero_le _) (Nat.zero_le _) ?_
      refine ⟨rfl, ?_⟩
      unfold adI
      rw [if_pos c_23, if_pos c_35]
    · refine g_ild4 (q := 40) dX3_handTo_38 rfl ?_
      refine g_ineg (q := 41) dX3_handTo_40 rfl ?_
      refine g_goto (t := 46) dX3_handTo_41 rfl ?_
      refine g_iadd (q := 47) dX3_handTo_46 rfl ?_
      refine g_iadd (q := 48) dX3_handTo_47 rfl ?_
      refine m_putI (q := 51) hk0 fs_X3_398 dX3_handTo_48 rfl rfl rfl ?_
      refine g_ald0 (q := 52) dX3_handTo_51 rfl ?_
      refine g_ild1 (q := 53) dX3_handTo_52 rfl ?_
      refine m_putI (q := 56) hk0 fs_X3_401 dX3_handTo_53 rfl rfl rfl ?_
      refine g_ald0 (q := 57) dX3_handTo_56 rfl ?_
      refine g_ild2 (q := 58) dX3_handTo_57 rfl ?_
      refine m_putI (q := 61) hk0 fs_X3_404 dX3_handTo_58 rfl rfl rfl ?_
      refine g_vret dX3_handTo_61 (Nat.zero_le _) (Nat.zero_le _) ?_
      refine ⟨rfl, ?_⟩
      unfold adI
      rw [if_pos c_23, if_neg c_35]
  · refine g_ild3 (q := 27) dX3_handTo_26 rfl ?_
    refine g_ineg (q := 28) dX3_handTo_27 rfl ?_
    refine g_goto (t := 32) dX3_handTo_28 rfl ?_
    refine g_imul (q := 33) dX3_handTo_32 rfl ?_
    refine g_ild4 (q := 35) dX3_handTo_33 rfl ?_
    refine g_if_ge (t := 44) (q := 38) dX3_handTo_35 rfl rfl (fun c_35 => ?_) (fun c_35 => ?_)
    · refine g_ild4 (q := 46) dX3_handTo_44 rfl ?_
      refine g_iadd (q := 47) dX3_handTo_46 rfl ?_
      refine g_iadd (q := 48) dX3_handTo_47 rfl ?_
      refine m_putI (q := 51) hk0 fs_X3_398 dX3_handTo_48 rfl rfl rfl ?_
      refine g_ald0 (q := 52) dX3_handTo_51 rfl ?_
      refine g_ild1 (q := 53) dX3_handTo_52 rfl ?_
      refine m_putI (q := 56) hk0 fs_X3_401 dX3_handTo_53 rfl rfl rfl ?_
      refine g_ald0 (q := 57) dX3_handTo_56 rfl ?_
      refine g_ild2 (q := 58) dX3_handTo_57 rfl ?_
      refine m_putI (q := 61) hk0 fs_X3_404 dX3_handTo_58 rfl rfl rfl ?_
      refine g_vret dX3_handTo_61 (Nat.zero_le _) (Nat.zero_le _) ?_
      refine ⟨rfl, ?_⟩
      unfold adI
      rw [if_neg c_23, if_pos c_35]
    · refine g_ild4 (q := 40) dX3_handTo_38 rfl ?_
      refine g_ineg (q := 41) dX3_handTo_40 rfl ?_
      refine g_goto (t := 46) dX3_handTo_41 rfl ?_
      refine g_iadd (q := 47) dX3_handTo_46 rfl ?_
      refine g_iadd (q := 48) dX3_handTo_47 rfl ?_
      refine m_putI (q := 51) hk0 fs_X3_398 dX3_handTo_48 rfl rfl rfl ?_
      refine g_ald0 (q := 52) dX3_handTo_51 rfl ?_
      refine g_ild1 (q := 53) dX3_handTo_52 rfl ?_
      refine m_putI (q := 56) hk0 fs_X3_401 dX3_handTo_53 rfl rfl rfl ?_
      refine g_ald0 (q := 57) dX3_handTo_56 rfl ?_
      refine g_ild2 (q := 58) dX3_handTo_57 rfl ?_
      refine m_putI (q := 61) hk0 fs_X3_404 dX3_handTo_58 rfl rfl rfl ?_
      refine g_vret dX3_handTo_61 (Nat.zero_le _) (Nat.zero_le _) ?_
      refine ⟨rfl, ?_⟩
      unfold adI
      rw [if_neg c_23, if_neg c_35]
end MBook

