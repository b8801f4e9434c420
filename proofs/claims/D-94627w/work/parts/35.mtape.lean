set_option maxRecDepth 100000
/-- the k-th byte of a word -/
def byt (v : Int32) (k : Nat) : Int32 := (v >>> (nI k &&& 31)).toInt8.toInt32
def fourT (T : Nat → Int32) (z : Nat) (v : Int32) (j : Nat) : Int32 := if j = z + 3 then byt v 0 else if j = z + 2 then byt v 8 else if j = z + 1 then byt v 16 else if j = z then byt v 24 else T j
theorem ms1_fun (S : zS) (k j : Nat) (v : Int32) : (ms1 S k j v).1 k = fun i => if i = j then v else S.1 k i := by
  funext i
  by_cases h : i = j
  · rw [h, ms1_at, if_pos rfl]
  · rw [ms1_nj _ _ _ h, if_neg h]
section MTape
variable {E : zE} {M : zM} {o : Nat} {S S0 : zS} {n : Nat} {Ls : Nat → LV} {L : LV}
theorem four_step (hk0 : Sk E M o) {v k' : Int32} {k z : Nat} (hk : k < 25) (hk' : nI k + Int32.ofInt (-8) = k') (hz : (S.1 2) 0 = nI z) (hz2 : z < 2400) {Post : Option Value → zM → Prop} (kk : (GoR E yX3_four cX3_four 3 none 1 0 0) Post 3 [some (.ref o), some (.int v), some (.int k')] [] (mv M o (ms1 (ms1 S 1 z (byt v k)) 2 0 (nI (z + 1)))) 0 0) :
    (GoR E yX3_four cX3_four 3 none 1 0 0) Post 3 [some (.ref o), some (.int v), some (.int (nI k))] [] (mv M o S) 0 0 := by
  subst hk'
  refine g_ild2 (q := 4) dX3_four_3 rfl ?_
  refine g_if_lt (t := 38) (q := 7) dX3_four_4 rfl rfl (fun c_4 => ?_) (fun c_4 => ?_)
  · exact absurd c_4 (nI_pos (by omega))
  · refine g_ald0 (q := 8) dX3_four_7 rfl ?_
    refine m_getA (j := 1) (q := 11) hk0 fs_X3_7 dX3_four_8 rfl (fun _ _ => rfl) ⟨rfl, by decide, by decide⟩ ?_
    refine g_ald0 (q := 12) dX3_four_11 rfl ?_
    refine m_getA (j := 2) (q := 15) hk0 fs_X3_13 dX3_four_12 rfl (fun _ _ => rfl) ⟨rfl, by decide, by decide⟩ ?_
    refine g_iconst (q := 16) dX3_four_15 ki_0 rfl ?_
    refine m_iald (n := 0) (q := 17) hk0 dX3_four_16 rfl ma_2 rfl (by omega) ?_
    refine g_top hz ?_
    refine g_ild1 (q := 18) dX3_four_17 rfl ?_
    refine g_ild2 (q := 19) dX3_four_18 rfl ?_
    refine g_ishr (q := 20) dX3_four_19 rfl ?_
    refine g_i2b (q := 21) dX3_four_20 rfl ?_
    refine m_bast (n := z) (q := 22) hk0 dX3_four_21 rfl ma_1 rfl (by omega) (pk_nb _) ?_
    refine g_ald0 (q := 23) dX3_four_22 rfl ?_
    refine m_getA (j := 2) (q := 26) hk0 fs_X3_13 dX3_four_23 rfl (fun _ _ => rfl) ⟨rfl, by decide, by decide⟩ ?_
    refine g_iconst (q := 27) dX3_four_26 ki_0 rfl ?_
    refine g_dup2 (q := 28) dX3_four_27 rfl rfl rfl ?_
    refine m_iald (n := 0) (q := 29) hk0 dX3_four_28 rfl ma_2 rfl (by omega) ?_
    refine g_top (show (ms1 S 1 z _).1 2 0 = nI z from hz) ?_
    refine g_iconst (q := 30) dX3_four_29 ki_1 rfl ?_
    refine g_iaddN (q := 31) dX3_four_30 rfl ?_
    refine m_iast (n := 0) (q := 32) hk0 dX3_four_31 rfl ma_2 rfl (by omega) ?_
    refine g_inc2 (q := 35) dX3_four_32 rfl rfl rfl ?_
    refine g_goto (t := 3) dX3_four_35 rfl ?_
    exact kk
theorem c_four (hk0 : Sk E M o) (v : Int32) (z : Nat) (hz : (S.1 2) 0 = nI z) (hz2 : z + 4 ≤ 2400) : (Con E yX3_four cX3_four 3 none 1 0 0) [.ref o, .int v] (mv M o S) (pV (mP M o (fun S' => Kp [1, 2] S S' ∧ (S'.1 2) 0 = nI (z + 4) ∧ (∀ i, i ≠ 0 → (S'.1 2) i = (S.1 2) i) ∧ (S'.1 1) = fourT ((S.1 1)) z v))) := by
  refine Go.enter [some (.ref o), some (.int v), none] rfl (Nat.le_of_ble_eq_true rfl) rfl (Nat.le_of_ble_eq_true rfl) ?_
  refine g_bipush (q := 2) dX3_four_0 kb_24 rfl ?_
  refine g_ist2 (q := 3) dX3_four_2 rfl rfl ?_
  refine four_step hk0 (k := 24) (k' := nI 16) (by omega) (by decide) hz (by omega) ?_
  refine four_step hk0 (k := 16) (k' := nI 8) (z := z + 1) (by omega) (by decide) (ms1_at _ _ _ _) (by omega) ?_
  refine four_step hk0 (k := 8) (k' := nI 0) (z := z + 2) (by omega) (by decide) (ms1_at _ _ _ _) (by omega) ?_
  refine four_step hk0 (k := 0) (k' := -8) (z := z + 3) (by omega) (by decide) (ms1_at _ _ _ _) (by omega) ?_
  refine g_ild2 (q := 4) dX3_four_3 rfl ?_
  refine g_if_lt (t := 38) (q := 7) dX3_four_4 rfl rfl (fun _ => ?_) (fun c_ => absurd c_ (by decide))
  refine g_vret dX3_four_38 (Nat.zero_le _) (Nat.zero_le _) ?_
  refine ⟨rfl, _, rfl, ((((((((Kp.rf.s1 rfl).s1 rfl).s1 rfl).s1 rfl).s1 rfl).s1 rfl).s1 rfl).s1 rfl), ms1_at _ _ _ _, (fun i hi => ?_), ?_⟩
  · rw [ms1_nj _ _ _ hi, ms1_nk _ _ _ (by decide), ms1_nj _ _ _ hi, ms1_nk _ _ _ (by decide), ms1_nj _ _ _ hi, ms1_nk _ _ _ (by decide), ms1_nj _ _ _ hi, ms1_nk _ _ _ (by decide)]
  · rw [ms1_nk _ _ _ (by decide), ms1_fun, ms1_nk _ _ _ (by decide), ms1_fun, ms1_nk _ _ _ (by decide), ms1_fun, ms1_nk _ _ _ (by decide), ms1_fun]
    rfl
def feedT (T : Nat → Int32) (z : Nat) (a b c d e : Int32) : Nat → Int32 := fourT (fourT (fourT (fourT (fourT T z a) (z + 4) b) (z + 8) c) (z + 12) d) (z + 16) e
theorem c_feed (hk0 : Sk E M o) (a b c d e : Int32) (z : Nat) (hz : (S.1 2) 0 = nI z) (hz2 : z ≤ 600) : (Con E yX3_feed cX3_feed 6 (some .int) 2 0 0) [.ref o, .int a, .int b, .int c, .int d, .int e] (mv M o S) (pI (fun x => mP M o (fun S' => (600 < z + 20 ∧ x = -1 ∧ Kp [0] S S') ∨ (z + 20 ≤ 600 ∧ x = nI (z + 20) ∧ Kp [0, 1, 2] S S' ∧ (S'.1 2) 0 = nI (z + 20) ∧ (∀ i, i ≠ 0 → (S'.1 2) i = (S.1 2) i) ∧ (S'.1 1) = feedT ((S.1 1)) z a b c d e)))) := by
  refine Go.enter [some (.ref o), some (.int a), some (.int b), some (.int c), some (.int d), some (.int e)] rfl (Nat.le_of_ble_eq_true rfl) rfl (Nat.le_of_ble_eq_true rfl) ?_
  have up : ∀ k, ([1, 2] : List Nat).contains k = true → ([0, 1, 2] : List Nat).contains k = true := by
    intro k h
    simp only [List.contains_cons, List.contains_nil, Bool.or_false, Bool.or_eq_true, beq_iff_eq] at h ⊢
    omega
  refine g_ald0 (q := 1) dX3_feed_0 rfl ?_
  refine g_iconst (q := 2) dX3_feed_1 ki_0 rfl ?_
  refine m_putI (q := 5) hk0 fs_X3_111 dX3_feed_2 rfl rfl rfl ?_
  refine g_ald0 (q := 6) dX3_feed_5 rfl ?_
  refine m_getA (j := 2) (q := 9) hk0 fs_X3_13 dX3_feed_6 rfl (fun _ _ => rfl) ⟨rfl, by decide, by decide⟩ ?_
  refine g_iconst (q := 10) dX3_feed_9 ki_0 rfl ?_
  refine m_iald (n := 0) (q := 11) hk0 dX3_feed_10 rfl ma_2 rfl (by omega) ?_
  refine g_top hz ?_
  refine g_bipush (q := 13) dX3_feed_11 kb_20 rfl ?_
  refine g_iaddN (q := 14) dX3_feed_13 rfl ?_
  refine g_sipush (q := 17) dX3_feed_14 ks_600 rfl ?_
  refine g_icN_le (t := 22) (q := 20) dX3_feed_17 rfl rfl (by omega) (by omega) (fun c_17 => ?_) (fun c_17 => ?_)
  · refine g_ald0 (q := 23) dX3_feed_22 rfl ?_
    refine g_ild1 (q := 24) dX3_feed_23 rfl ?_
    refine m_call (q := 27) hk0 (c_four hk0 _ z hz (by omega)) sv_X3_127 dX3_feed_24 rfl rfl rfl (Nat.le_of_ble_eq_true rfl) ⟨Nat.le_of_ble_eq_true rfl, Nat.le_of_ble_eq_true rfl⟩ ⟨Nat.zero_le _, Nat.zero_le _⟩ (mgV fun S1 h1 => ?_)
    obtain ⟨K1, z1, u1, t1⟩ := h1
    refine g_ald0 (q := 28) dX3_feed_27 rfl ?_
    refine g_ild2 (q := 29) dX3_feed_28 rfl ?_
    refine m_call (q := 32) hk0 (c_four hk0 _ _ z1 (by omega)) sv_X3_127 dX3_feed_29 rfl rfl rfl (Nat.le_of_ble_eq_true rfl) ⟨Nat.le_of_ble_eq_true rfl, Nat.le_of_ble_eq_true rfl⟩ ⟨Nat.zero_le _, Nat.zero_le _⟩ (mgV fun S2 h2 => ?_)
    obtain ⟨K2, z2, u2, t2⟩ := h2
    refine g_ald0 (q := 33) dX3_feed_32 rfl ?_
    refine g_ild3 (q := 34) dX3_feed_33 rfl ?_
    refine m_call (q := 37) hk0 (c_four hk0 _ _ z2 (by omega)) sv_X3_127 dX3_feed_34 rfl rfl rfl (Nat.le_of_ble_eq_true rfl) ⟨Nat.le_of_ble_eq_true rfl, Nat.le_of_ble_eq_true rfl⟩ ⟨Nat.zero_le _, Nat.zero_le _⟩ (mgV fun S3 h3 => ?_)
    obtain ⟨K3, z3, u3, t3⟩ := h3
    refine g_ald0 (q := 38) dX3_feed_37 rfl ?_
    refine g_ild4 (q := 40) dX3_feed_38 rfl ?_
    refine m_call (q := 43) hk0 (c_four hk0 _ _ z3 (by omega)) sv_X3_127 dX3_feed_40 rfl rfl rfl (Nat.le_of_ble_eq_true rfl) ⟨Nat.le_of_ble_eq_true rfl, Nat.le_of_ble_eq_true rfl⟩ ⟨Nat.zero_le _, Nat.zero_le _⟩ (mgV fun S4 h4 => ?_)
    obtain ⟨K4, z4, u4, t4⟩ := h4
    refine g_ald0 (q := 44) dX3_feed_43 rfl ?_
    refine g_ild5 (q := 46) dX3_feed_44 rfl ?_
    refine m_call (q := 49) hk0 (c_four hk0 _ _ z4 (by omega)) sv_X3_127 dX3_feed_46 rfl rfl rfl (Nat.le_of_ble_eq_true rfl) ⟨Nat.le_of_ble_eq_true rfl, Nat.le_of_ble_eq_true rfl⟩ ⟨Nat.zero_le _, Nat.zero_le _⟩ (mgV fun S5 h5 => ?_)
    obtain ⟨K5, z5, u5, t5⟩ := h5
    refine g_ald0 (q := 50) dX3_feed_49 rfl ?_
    refine m_getA (j := 2) (q := 53) hk0 fs_X3_13 dX3_feed_50 rfl (fun _ _ => rfl) ⟨rfl, by decide, by decide⟩ ?_
    refine g_iconst (q := 54) dX3_feed_53 ki_0 rfl ?_
    refine m_iald (n := 0) (q := 55) hk0 dX3_feed_54 rfl ma_2 rfl (by omega) ?_
    refine g_iret dX3_feed_55 (Nat.zero_le _) (Nat.zero_le _) ⟨_, rfl, S5, rfl, Or.inr ⟨by omega, ?_, ?_, ?_, ?_, ?_⟩⟩
    · rw [z5]
    · exact ((((Kp.rf.s1 (ks := [0, 1, 2]) (k := 0) rfl).then (K1.up up)).then (K2.up up)).then (K3.up up)).then ((K4.then K5).up up)
    · exact z5
    · intro i hi
      rw [u5 i hi, u4 i hi, u3 i hi, u2 i hi, u1 i hi]
      rfl
    · rw [t5, t4, t3, t2, t1]
      rfl
  · refine g_iconst (q := 21) dX3_feed_20 ki_m1 rfl ?_
    exact g_iret dX3_feed_21 (Nat.zero_le _) (Nat.zero_le _) ⟨_, rfl, _, rfl, Or.inl ⟨by omega, rfl, Kp.rf.s1 rfl⟩⟩
theorem c_end (hk0 : Sk E M o) (k : Int32) (z : Nat) (hz : (S.1 2) 0 = nI z) (hz2 : z ≤ 600) : (Con E yX3_end cX3_end 2 (some .int) 2 0 0) [.ref o, .int k] (mv M o S) (pI (fun x => mP M o (fun S' => (¬ ixo k (z + 1) ∧ x = -1 ∧ Kp [0] S S') ∨ (ixo k (z + 1) ∧ x = k ∧ Kp [0, 2] S S' ∧ (S'.1 2) 0 = k ∧ (∀ i, i ≠ 0 → (S'.1 2) i = (S.1 2) i))))) := by
  refine Go.enter [some (.ref o), some (.int k)] rfl (Nat.le_of_ble_eq_true rfl) rfl (Nat.le_of_ble_eq_true rfl) ?_
  refine g_ald0 (q := 1) dX3_end_0 rfl ?_
  refine g_iconst (q := 2) dX3_end_1 ki_0 rfl ?_
  refine m_putI (q := 5) hk0 fs_X3_111 dX3_end_2 rfl rfl rfl ?_
  refine g_ild1 (q := 6) dX3_end_5 rfl ?_
  refine g_iconst (q := 7) dX3_end_6 ki_0 rfl ?_
  refine g_ald0 (q := 8) dX3_end_7 rfl ?_
  refine m_getA (j := 2) (q := 11) hk0 fs_X3_13 dX3_end_8 rfl (fun _ _ => rfl) ⟨rfl, by decide, by decide⟩ ?_
  refine g_iconst (q := 12) dX3_end_11 ki_0 rfl ?_
  refine m_iald (n := 0) (q := 13) hk0 dX3_end_12 rfl ma_2 rfl (by omega) ?_
  refine g_top hz ?_
  refine m_calls (q := 16) (c_in _ _ _ _ _) ss_X3_123 dX3_end_13 rfl rfl rfl (Nat.le_of_ble_eq_true rfl) ⟨Nat.le_of_ble_eq_true rfl, Nat.le_of_ble_eq_true rfl⟩ ⟨Nat.zero_le _, Nat.zero_le _⟩ (gIe ?_)
  refine g_ifb_ne (t := 21) (q := 19) dX3_end_16 rfl rfl (fun c_16 => ?_) (fun c_16 => ?_)
  · refine g_ald0 (q := 22) dX3_end_21 rfl ?_
    refine m_getA (j := 2) (q := 25) hk0 fs_X3_13 dX3_end_22 rfl (fun _ _ => rfl) ⟨rfl, by decide, by decide⟩ ?_
    refine g_iconst (q := 26) dX3_end_25 ki_0 rfl ?_
    refine g_ild1 (q := 27) dX3_end_26 rfl ?_
    refine m_iast (n := 0) (q := 28) hk0 dX3_end_27 rfl ma_2 rfl (by omega) ?_
    refine g_ild1 (q := 29) dX3_end_28 rfl ?_
    exact g_iret dX3_end_29 (Nat.zero_le _) (Nat.zero_le _) ⟨_, rfl, _, rfl, Or.inr ⟨(in_n (by omega)).mp c_16, rfl, (Kp.rf.s1 rfl).s1 rfl, ms1_at _ _ _ _, fun i hi => ms1_nj _ _ _ hi⟩⟩
  · refine g_iconst (q := 20) dX3_end_19 ki_m1 rfl ?_
    exact g_iret dX3_end_20 (Nat.zero_le _) (Nat.zero_le _) ⟨_, rfl, _, rfl, Or.inl ⟨fun h => c_16 ((in_n (by omega)).mpr h), rfl, Kp.rf.s1 rfl⟩⟩
def ftA (a b w : Int32) : Int32 := if w = 0 then a else if w = nI 1 then b else -1
theorem c_fault (hk0 : Sk E M o) (w : Int32) : (Con E yX3_fault cX3_fault 2 (some .int) 1 0 0) [.ref o, .int w] (mv M o S) (pI (fun x => mP M o (fun S' => x = ftA ((S.1 3) 0) ((S.1 4) 0) w ∧ Kp [0] S S'))) := by
  refine Go.enter [some (.ref o), some (.int w)] rfl (Nat.le_of_ble_eq_true rfl) rfl (Nat.le_of_ble_eq_true rfl) ?_
  refine g_ald0 (q := 1) dX3_fault_0 rfl ?_
  refine g_iconst (q := 2) dX3_fault_1 ki_0 rfl ?_
  refine m_putI (q := 5) hk0 fs_X3_111 dX3_fault_2 rfl rfl rfl ?_
  refine g_ild1 (q := 6) dX3_fault_5 rfl ?_
  refine g_if_ne (t := 18) (q := 9) dX3_fault_6 rfl rfl (fun c_6 => ?_) (fun c_6 => ?_)
  · refine g_ild1 (q := 19) dX3_fault_18 rfl ?_
    refine g_iconst (q := 20) dX3_fault_19 ki_1 rfl ?_
    refine g_ic_ne (t := 32) (q := 23) dX3_fault_20 rfl rfl (fun c_20 => ?_) (fun c_20 => ?_)
    · refine g_iconst (q := 33) dX3_fault_32 ki_m1 rfl ?_
      exact g_iret dX3_fault_33 (Nat.zero_le _) (Nat.zero_le _) ⟨_, rfl, _, rfl, by unfold ftA; rw [if_neg c_6, if_neg c_20], Kp.rf.s1 rfl⟩
    · refine g_ald0 (q := 24) dX3_fault_23 rfl ?_
      refine m_getA (j := 4) (q := 27) hk0 fs_X3_20 dX3_fault_24 rfl (fun _ _ => rfl) ⟨rfl, by decide, by decide⟩ ?_
      refine g_iconst (q := 28) dX3_fault_27 ki_0 rfl ?_
      refine m_iald (n := 0) (q := 29) hk0 dX3_fault_28 rfl ma_4 rfl (by omega) ?_
      refine g_goto (t := 33) dX3_fault_29 rfl ?_
      exact g_iret dX3_fault_33 (Nat.zero_le _) (Nat.zero_le _) ⟨_, rfl, _, rfl, by unfold ftA; rw [if_neg c_6, if_pos c_20]; rfl, Kp.rf.s1 rfl⟩
  · refine g_ald0 (q := 10) dX3_fault_9 rfl ?_
    refine m_getA (j := 3) (q := 13) hk0 fs_X3_17 dX3_fault_10 rfl (fun _ _ => rfl) ⟨rfl, by decide, by decide⟩ ?_
    refine g_iconst (q := 14) dX3_fault_13 ki_0 rfl ?_
    refine m_iald (n := 0) (q := 15) hk0 dX3_fault_14 rfl ma_3 rfl (by omega) ?_
    refine g_goto (t := 33) dX3_fault_15 rfl ?_
    exact g_iret dX3_fault_33 (Nat.zero_le _) (Nat.zero_le _) ⟨_, rfl, _, rfl, by unfold ftA; rw [if_pos c_6]; rfl, Kp.rf.s1 rfl⟩
theorem c_count (hk0 : Sk E M o) (w : Int32) : (Con E yX3_count cX3_count 2 (some .int) 2 0 0) [.ref o, .int w] (mv M o S) (pI (fun x => mP M o (fun S' => x = (if ixo w 3 then (S.1 5) w.toNatClampNeg else -2) ∧ Kp [0] S S'))) := by
  refine Go.enter [some (.ref o), some (.int w)] rfl (Nat.le_of_ble_eq_true rfl) rfl (Nat.le_of_ble_eq_true rfl) ?_
  refine g_ald0 (q := 1) dX3_count_0 rfl ?_
  refine g_iconst (q := 2) dX3_count_1 ki_0 rfl ?_
  refine m_putI (q := 5) hk0 fs_X3_111 dX3_count_2 rfl rfl rfl ?_
  refine g_ild1 (q := 6) dX3_count_5 rfl ?_
  refine g_iconst (q := 7) dX3_count_6 ki_0 rfl ?_
  refine g_iconst (q := 8) dX3_count_7 ki_2 rfl ?_
  refine m_calls (q := 11) (c_in _ _ _ _ _) ss_X3_123 dX3_count_8 rfl rfl rfl (Nat.le_of_ble_eq_true rfl) ⟨Nat.le_of_ble_eq_true rfl, Nat.le_of_ble_eq_true rfl⟩ ⟨Nat.zero_le _, Nat.zero_le _⟩ (gIe ?_)
  refine g_ifb_eq (t := 23) (q := 14) dX3_count_11 rfl rfl (fun c_11 => ?_) (fun c_11 => ?_)
  · refine g_bipush (q := 25) dX3_count_23 kb_m2 rfl ?_
    exact g_iret dX3_count_25 (Nat.zero_le _) (Nat.zero_le _) ⟨_, rfl, _, rfl, by rw [if_neg (fun h => c_11 ((in_n (by omega)).mpr h))], Kp.rf.s1 rfl⟩
  · obtain ⟨w, hw, rfl⟩ := ixo_of ((in_n (by omega)).mp c_11) (by omega)
    refine g_ald0 (q := 15) dX3_count_14 rfl ?_
    refine m_getA (j := 5) (q := 18) hk0 fs_X3_23 dX3_count_15 rfl (fun _ _ => rfl) ⟨rfl, by decide, by decide⟩ ?_
    refine g_ild1 (q := 19) dX3_count_18 rfl ?_
    refine m_iald (n := w) (q := 20) hk0 dX3_count_19 rfl ma_5 rfl (by omega) ?_
    refine g_goto (t := 25) dX3_count_20 rfl ?_
    exact g_iret dX3_count_25 (Nat.zero_le _) (Nat.zero_le _) ⟨_, rfl, _, rfl, by rw [if_pos ((in_n (by omega)).mp c_11), nI_clamp (by omega)]; rfl, Kp.rf.s1 rfl⟩
end MTape

