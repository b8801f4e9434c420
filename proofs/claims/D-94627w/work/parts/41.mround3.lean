set_option maxRecDepth 100000
section MRound3
variable {E : zE} {M : zM} {o : Nat} {S S0 : zS} {n : Nat} {Rs : Nat → RV} {R : RV}
theorem lp_greOut (hk0 : Sk E M o) (hO : ROK R) (hQ : RLaid S0 R) {Post : Option Value → zM → Prop} (hpost : ∀ S', Kp [57] S0 S' → Post (some (.int (nI (gSum R R.2.1)))) (mv M o S')) :
    ∀ i, i ≤ R.2.1 → ∀ S', Kp [57] S0 S' → (∀ k, k < 3 → (S'.1 57) k = nI (gSp R i k)) → ∀ x3 x4, (GoR E yX3_greedy cX3_greedy 5 (some .int) 2 0 0) Post 4 [some (.ref o), some (.int (nI (gSum R i))), some (.int (nI i)), x3, x4] [] (mv M o S') 0 0 := by
  have h12 := hO.2.1
  refine up_ind _ (fun i hi ih S' hK hs x3 x4 => ?_)
  have hb := gbF_le (gSp R i) (R.2.2.2 i) (R.1 - 1)
  have h3 := hO.1
  have hl := gSp_lt hO i (gbF (gSp R i) (R.2.2.2 i) (R.1 - 1))
  have ha2 := hO.2.2.2 i
  have hask : i < R.2.1 → (S'.1 58) i = nI (R.2.2.2 i) := fun h => by rw [(hK 58 rfl).1]; exact hQ.2.2.2 i h
  refine g_ild2 (q := 5) dX3_greedy_4 rfl ?_
  refine g_ald0 (q := 6) dX3_greedy_5 rfl ?_
  refine m_getI (q := 9) hk0 fs_X3_442 dX3_greedy_6 rfl rfl rfl ?_
  refine g_top (show (S'.1 56 0) = nI R.2.1 by rw [(hK 56 rfl).1]; exact hQ.2.1) ?_
  refine g_icN_ge (t := 109) (q := 12) dX3_greedy_9 rfl rfl (by omega) (by omega) (fun c_9 => ?_) (fun c_9 => ?_)
  · obtain rfl : i = R.2.1 := by omega
    refine g_ild1 (q := 110) dX3_greedy_109 rfl ?_
    exact g_iret dX3_greedy_110 (Nat.zero_le _) (Nat.zero_le _) (hpost S' hK)
  · refine g_iconst (q := 13) dX3_greedy_12 ki_0 rfl ?_
    refine g_ist3 (q := 14) dX3_greedy_13 rfl rfl ?_
    refine g_iconst (q := 15) dX3_greedy_14 ki_1 rfl ?_
    refine g_ist4 (q := 17) dX3_greedy_15 rfl rfl ?_
    refine lp_greIn (sp := gSp R i) hk0 h3.2 (by rw [(hK 55 rfl).1]; exact hQ.1) h3.1 hs (gSp_lt hO i) (by omega) (hask (by omega)) ha2 ?_ 0 (Nat.zero_le _)
    refine g_ild1 (q := 74) dX3_greedy_73 rfl ?_
    refine g_ald0 (q := 75) dX3_greedy_74 rfl ?_
    refine m_getA (j := 29) (q := 78) hk0 fs_X3_98 dX3_greedy_75 rfl (fun _ _ => rfl) ⟨rfl, by decide, by decide⟩ ?_
    refine g_ild3 (q := 79) dX3_greedy_78 rfl ?_
    refine m_iald (n := (gbF (gSp R i) (R.2.2.2 i) (R.1 - 1))) (q := 80) hk0 dX3_greedy_79 rfl ma_57 rfl (by omega) ?_
    refine g_top (hs _ (by omega)) ?_
    refine g_ald0 (q := 81) dX3_greedy_80 rfl ?_
    refine m_getA (j := 30) (q := 84) hk0 fs_X3_101 dX3_greedy_81 rfl (fun _ _ => rfl) ⟨rfl, by decide, by decide⟩ ?_
    refine g_ild2 (q := 85) dX3_greedy_84 rfl ?_
    refine m_iald (n := i) (q := 86) hk0 dX3_greedy_85 rfl ma_58 rfl (by omega) ?_
    refine g_top (hask (by omega)) ?_
    refine m_calls (q := 89) (c_stepsOf _ _ _ _ (by omega) (by omega)) ss_X3_451 dX3_greedy_86 rfl rfl rfl (Nat.le_of_ble_eq_true rfl) ⟨Nat.le_of_ble_eq_true rfl, Nat.le_of_ble_eq_true rfl⟩ ⟨Nat.zero_le _, Nat.zero_le _⟩ (gIe ?_)
    refine g_iaddN (q := 90) dX3_greedy_89 rfl ?_
    refine g_ist1 (q := 91) dX3_greedy_90 rfl rfl ?_
    refine g_ald0 (q := 92) dX3_greedy_91 rfl ?_
    refine m_getA (j := 29) (q := 95) hk0 fs_X3_98 dX3_greedy_92 rfl (fun _ _ => rfl) ⟨rfl, by decide, by decide⟩ ?_
    refine g_ild3 (q := 96) dX3_greedy_95 rfl ?_
    refine g_ald0 (q := 97) dX3_greedy_96 rfl ?_
    refine m_getA (j := 30) (q := 100) hk0 fs_X3_101 dX3_greedy_97 rfl (fun _ _ => rfl) ⟨rfl, by decide, by decide⟩ ?_
    refine g_ild2 (q := 101) dX3_greedy_100 rfl ?_
    refine m_iald (n := i) (q := 102) hk0 dX3_greedy_101 rfl ma_58 rfl (by omega) ?_
    refine g_top (hask (by omega)) ?_
    refine m_iast (n := (gbF (gSp R i) (R.2.2.2 i) (R.1 - 1))) (q := 103) hk0 dX3_greedy_102 rfl ma_57 rfl (by omega) ?_
    refine g_inc2 (w := nI (i + 1)) (q := 106) dX3_greedy_103 rfl (nI_1 _) rfl ?_
    refine g_goto (t := 4) dX3_greedy_106 rfl ?_
    refine ih (by omega) _ (hK.s1 rfl) (fun k hk => ?_) _ _
    unfold gSp
    by_cases e : k = gbF (gSp R i) (R.2.2.2 i) (R.1 - 1)
    · rw [if_pos e, e, ms1_at]
    · rw [if_neg e, ms1_nj _ _ _ e]; exact hs k hk
theorem c_greedy (hk0 : Sk E M o) (hO : ROK R) (hQ : RLaid S R) : (Con E yX3_greedy cX3_greedy 5 (some .int) 2 0 0) [.ref o] (mv M o S) (pI (fun x => mP M o (fun S' => x = nI (gSum R R.2.1) ∧ Kp [57] S S'))) := by
  refine Go.enter [some (.ref o), none, none, none, none] rfl (Nat.le_of_ble_eq_true rfl) rfl (Nat.le_of_ble_eq_true rfl) ?_
  refine g_iconst (q := 1) dX3_greedy_0 ki_0 rfl ?_
  refine g_ist1 (q := 2) dX3_greedy_1 rfl rfl ?_
  refine g_iconst (q := 3) dX3_greedy_2 ki_0 rfl ?_
  refine g_ist2 (q := 4) dX3_greedy_3 rfl rfl ?_
  exact lp_greOut (S0 := S) hk0 hO hQ (fun S' h => ⟨_, rfl, S', rfl, rfl, h⟩) 0 (Nat.zero_le _) S Kp.rf hQ.2.2.1 _ _
theorem c_costBy (hk0 : Sk E M o) (hO : ROK R) (hQ : RLaid S R) (k c r v : Nat) (hk : k < R.2.1) (hc : c < 1728) (hr : r < 3) (hv : (S.1 54) (1728 * (k + 1) + mvd c r (R.2.2.2 k)) = nI v) : (Con E yX3_costBy cX3_costBy 4 (some .int) 4 0 0) [.ref o, .int (nI k), .int (nI c), .int (nI r)] (mv M o S) (pI (fun x M' => x = nI (dst (spo c r) (R.2.2.2 k) + v) ∧ M' = mv M o S)) := by
  have h12 := hO.2.1
  have ha := hO.2.2.2 k
  have hm := mvd_lt hc hr ha
  have hs := spo_lt c r
  refine Go.enter [some (.ref o), some (.int (nI k)), some (.int (nI c)), some (.int (nI r))] rfl (Nat.le_of_ble_eq_true rfl) rfl (Nat.le_of_ble_eq_true rfl) ?_
  refine g_ild2 (q := 1) dX3_costBy_0 rfl ?_
  refine g_ild3 (q := 2) dX3_costBy_1 rfl ?_
  refine m_calls (q := 5) (c_spotOf _ _ _ _ (by omega) (by omega)) ss_X3_448 dX3_costBy_2 rfl rfl rfl (Nat.le_of_ble_eq_true rfl) ⟨Nat.le_of_ble_eq_true rfl, Nat.le_of_ble_eq_true rfl⟩ ⟨Nat.zero_le _, Nat.zero_le _⟩ (gIe ?_)
  refine g_top rfl ?_
  refine g_ald0 (q := 6) dX3_costBy_5 rfl ?_
  refine m_getA (j := 30) (q := 9) hk0 fs_X3_101 dX3_costBy_6 rfl (fun _ _ => rfl) ⟨rfl, by decide, by decide⟩ ?_
  refine g_ild1 (q := 10) dX3_costBy_9 rfl ?_
  refine m_iald (n := k) (q := 11) hk0 dX3_costBy_10 rfl ma_58 rfl (by omega) ?_
  refine g_top (hQ.2.2.2 k hk) ?_
  refine m_calls (q := 14) (c_stepsOf _ _ _ _ (by omega) (by omega)) ss_X3_451 dX3_costBy_11 rfl rfl rfl (Nat.le_of_ble_eq_true rfl) ⟨Nat.le_of_ble_eq_true rfl, Nat.le_of_ble_eq_true rfl⟩ ⟨Nat.zero_le _, Nat.zero_le _⟩ (gIe ?_)
  refine g_ald0 (q := 15) dX3_costBy_14 rfl ?_
  refine m_getA (j := 28) (q := 18) hk0 fs_X3_95 dX3_costBy_15 rfl (fun _ _ => rfl) ⟨rfl, by decide, by decide⟩ ?_
  refine g_sipush (q := 21) dX3_costBy_18 ks_1728 rfl ?_
  refine g_ild1 (q := 22) dX3_costBy_21 rfl ?_
  refine g_iconst (q := 23) dX3_costBy_22 ki_1 rfl ?_
  refine g_iaddN (q := 24) dX3_costBy_23 rfl ?_
  refine g_imulN (q := 25) dX3_costBy_24 rfl ?_
  refine g_ild2 (q := 26) dX3_costBy_25 rfl ?_
  refine g_ild3 (q := 27) dX3_costBy_26 rfl ?_
  refine g_ald0 (q := 28) dX3_costBy_27 rfl ?_
  refine m_getA (j := 30) (q := 31) hk0 fs_X3_101 dX3_costBy_28 rfl (fun _ _ => rfl) ⟨rfl, by decide, by decide⟩ ?_
  refine g_ild1 (q := 32) dX3_costBy_31 rfl ?_
  refine m_iald (n := k) (q := 33) hk0 dX3_costBy_32 rfl ma_58 rfl (by omega) ?_
  refine g_top (hQ.2.2.2 k hk) ?_
  refine m_calls (q := 36) (c_moved _ _ _ _ _ (by omega) (by omega)) ss_X3_454 dX3_costBy_33 rfl rfl rfl (Nat.le_of_ble_eq_true rfl) ⟨Nat.le_of_ble_eq_true rfl, Nat.le_of_ble_eq_true rfl⟩ ⟨Nat.zero_le _, Nat.zero_le _⟩ (gIe ?_)
  refine g_top rfl ?_
  refine g_iaddN (q := 37) dX3_costBy_36 rfl ?_
  refine m_iald (n := ((1728 * ((k + 1))) + ((mvd c r (R.2.2.2 k))))) (q := 38) hk0 dX3_costBy_37 rfl ma_54 rfl (by omega) ?_
  refine g_top hv ?_
  refine g_iaddN (q := 39) dX3_costBy_38 rfl ?_
  refine g_iret dX3_costBy_39 (Nat.zero_le _) (Nat.zero_le _) ?_
  exact ⟨_, rfl, rfl, rfl⟩
end MRound3

