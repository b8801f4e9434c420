set_option maxRecDepth 100000
abbrev rks : List Nat := [55, 56, 57, 58]
theorem spo_lt (c r : Nat) : spo c r < 12 := Nat.mod_lt _ (by decide)
theorem dst_le {a b c : Nat} (ha : a ≤ c) (hb : b ≤ c) : dst a b ≤ c := by unfold dst; split <;> omega
theorem mvd_lt {c r t : Nat} (hc : c < 1728) (hr : r < 3) (ht : t < 12) : mvd c r t < 1728 := by
  unfold mvd spo
  rcases (show r = 0 ∨ r = 1 ∨ r = 2 by omega) with rfl | rfl | rfl
  · simp only [Nat.pow_zero]; omega
  · simp only [Nat.pow_one]; omega
  · simp only [show 12 ^ 2 = 144 from rfl]; omega
/-- readers that are asked by greed: the nearest first one -/
def gbF (sp : Nat → Nat) (a : Nat) : Nat → Nat
  | 0 => 0
  | k + 1 => if dst (sp (k + 1)) a < dst (sp (gbF sp a k)) a then k + 1 else gbF sp a k
def gSp (R : RV) : Nat → Nat → Nat
  | 0, k => if k < R.1 then R.2.2.1 k else 0
  | i + 1, k => if k = gbF (gSp R i) (R.2.2.2 i) (R.1 - 1) then R.2.2.2 i else gSp R i k
def gSum (R : RV) : Nat → Nat
  | 0 => 0
  | i + 1 => gSum R i + dst (gSp R i (gbF (gSp R i) (R.2.2.2 i) (R.1 - 1))) (R.2.2.2 i)
theorem gbF_le (sp : Nat → Nat) (a : Nat) : ∀ k, gbF sp a k ≤ k
  | 0 => Nat.le_refl 0
  | k + 1 => by
    have := gbF_le sp a k
    unfold gbF
    split <;> omega
theorem gSp_lt {R : RV} (h : ROK R) : ∀ i k, gSp R i k < 12
  | 0, k => by unfold gSp; split; exact h.2.2.1 k; omega
  | i + 1, k => by unfold gSp; split; exact h.2.2.2 i; exact gSp_lt h i k
section MRound2
variable {E : zE} {M : zM} {o : Nat} {S S0 : zS} {n : Nat} {Rs : Nat → RV} {R : RV}
theorem lp_layR2 (hk0 : Sk E M o) {r : Nat} (hr : r < 2) (hO : ROK R) (hR : RR ((S0.1 8)) (17 * r) R) {Post : Option Value → zM → Prop} (hpost : ∀ S', Kp rks S0 S' → RLaid S' R → Post (some (.int 1)) (mv M o S')) :
    ∀ k, k ≤ 12 → ∀ S', Kp rks S0 S' → (S'.1 55 0) = nI R.1 → (S'.1 56 0) = nI R.2.1 → (∀ k, k < 3 → (S'.1 57) k = nI (if k < R.1 then R.2.2.1 k else 0)) → (∀ j, j < k → j < R.2.1 → (S'.1 58) j = nI (R.2.2.2 j)) → (GoR E yX3_layRound cX3_layRound 3 (some .boolean) 3 0 0) Post 85 [some (.ref o), some (.int (nI r)), some (.int (nI k))] [] (mv M o S') 0 0 := by
  have h12 := hO.2.1
  refine up_ind _ (fun k hk ih S' hK h1 h2 h3 h5 => ?_)
  refine g_ild2 (q := 86) dX3_layRound_85 rfl ?_
  refine g_bipush (q := 88) dX3_layRound_86 kb_12 rfl ?_
  refine g_icN_ge (t := 116) (q := 91) dX3_layRound_88 rfl rfl (by omega) (by omega) (fun c_88 => ?_) (fun c_88 => ?_)
  · obtain rfl : k = 12 := by omega
    refine g_iconst (q := 117) dX3_layRound_116 ki_1 rfl ?_
    exact g_zret dX3_layRound_117 rfl (Nat.zero_le _) (Nat.zero_le _) (hpost S' hK ⟨h1, h2, h3, fun j hj => h5 j (by omega) hj⟩)
  · refine g_ald0 (q := 92) dX3_layRound_91 rfl ?_
    refine m_getA (j := 30) (q := 95) hk0 fs_X3_101 dX3_layRound_92 rfl (fun _ _ => rfl) ⟨rfl, by decide, by decide⟩ ?_
    refine g_ild2 (q := 96) dX3_layRound_95 rfl ?_
    refine g_ald0 (q := 97) dX3_layRound_96 rfl ?_
    refine m_getA (j := 8) (q := 100) hk0 fs_X3_32 dX3_layRound_97 rfl (fun _ _ => rfl) ⟨rfl, by decide, by decide⟩ ?_
    refine g_bipush (q := 102) dX3_layRound_100 kb_17 rfl ?_
    refine g_ild1 (q := 103) dX3_layRound_102 rfl ?_
    refine g_imulN (q := 104) dX3_layRound_103 rfl ?_
    refine g_iconst (q := 105) dX3_layRound_104 ki_5 rfl ?_
    refine g_iaddN (q := 106) dX3_layRound_105 rfl ?_
    refine g_ild2 (q := 107) dX3_layRound_106 rfl ?_
    refine g_iaddN (q := 108) dX3_layRound_107 rfl ?_
    refine m_iald (n := (((17 * r) + 5) + k)) (q := 109) hk0 dX3_layRound_108 rfl ma_8 rfl (by omega) ?_
    refine m_iast (n := k) (q := 110) hk0 dX3_layRound_109 rfl ma_58 rfl (by omega) ?_
    refine g_inc2 (w := nI (k + 1)) (q := 113) dX3_layRound_110 rfl (nI_1 _) rfl ?_
    refine g_goto (t := 85) dX3_layRound_113 rfl ?_
    refine ih (by omega) _ (hK.s1 rfl) h1 h2 h3 (fun j hj hj2 => ?_)
    by_cases e : j = k
    · rw [e, ms1_at, (hK 8 rfl).1]; exact hR.2.2.2 k (by omega)
    · rw [ms1_nj _ _ _ e]; exact h5 j (by omega) hj2
theorem lp_layR1 (hk0 : Sk E M o) {r : Nat} (hr : r < 2) (hO : ROK R) (hR : RR ((S0.1 8)) (17 * r) R) {Post : Option Value → zM → Prop} (kk : ∀ S', Kp rks S0 S' → (S'.1 55 0) = nI R.1 → (S'.1 56 0) = nI R.2.1 → (∀ k, k < 3 → (S'.1 57) k = nI (if k < R.1 then R.2.2.1 k else 0)) → (GoR E yX3_layRound cX3_layRound 3 (some .boolean) 3 0 0) Post 83 [some (.ref o), some (.int (nI r)), some (.int (nI 3))] [] (mv M o S') 0 0) :
    ∀ k, k ≤ 3 → ∀ S', Kp rks S0 S' → (S'.1 55 0) = nI R.1 → (S'.1 56 0) = nI R.2.1 → (∀ j, j < k → (S'.1 57) j = nI (if j < R.1 then R.2.2.1 j else 0)) → (GoR E yX3_layRound cX3_layRound 3 (some .boolean) 3 0 0) Post 41 [some (.ref o), some (.int (nI r)), some (.int (nI k))] [] (mv M o S') 0 0 := by
  have h3' := hO.1.2
  refine up_ind _ (fun k hk ih S' hK h1 h2 h3 => ?_)
  refine g_ild2 (q := 42) dX3_layRound_41 rfl ?_
  refine g_iconst (q := 43) dX3_layRound_42 ki_3 rfl ?_
  refine g_icN_ge (t := 83) (q := 46) dX3_layRound_43 rfl rfl (by omega) (by omega) (fun c_43 => ?_) (fun c_43 => ?_)
  · obtain rfl : k = 3 := by omega
    exact kk S' hK h1 h2 h3
  · refine g_ald0 (q := 47) dX3_layRound_46 rfl ?_
    refine m_getA (j := 29) (q := 50) hk0 fs_X3_98 dX3_layRound_47 rfl (fun _ _ => rfl) ⟨rfl, by decide, by decide⟩ ?_
    refine g_ild2 (q := 51) dX3_layRound_50 rfl ?_
    refine g_ild2 (q := 52) dX3_layRound_51 rfl ?_
    refine g_ald0 (q := 53) dX3_layRound_52 rfl ?_
    refine m_getI (q := 56) hk0 fs_X3_439 dX3_layRound_53 rfl rfl rfl ?_
    refine g_top h1 ?_
    refine g_icN_ge (t := 75) (q := 59) dX3_layRound_56 rfl rfl (by omega) (by omega) (fun c_56 => ?_) (fun c_56 => ?_)
    · refine g_iconst (q := 76) dX3_layRound_75 ki_0 rfl ?_
      refine m_iast (n := k) (q := 77) hk0 dX3_layRound_76 rfl ma_57 rfl (by omega) ?_
      refine g_inc2 (w := nI (k + 1)) (q := 80) dX3_layRound_77 rfl (nI_1 _) rfl ?_
      refine g_goto (t := 41) dX3_layRound_80 rfl ?_
      refine ih (by omega) _ (hK.s1 rfl) h1 h2 (fun j hj => ?_)
      by_cases e : j = k
      · rw [e, ms1_at, if_neg (by omega)]
      · rw [ms1_nj _ _ _ e]; exact h3 j (by omega)
    · refine g_ald0 (q := 60) dX3_layRound_59 rfl ?_
      refine m_getA (j := 8) (q := 63) hk0 fs_X3_32 dX3_layRound_60 rfl (fun _ _ => rfl) ⟨rfl, by decide, by decide⟩ ?_
      refine g_bipush (q := 65) dX3_layRound_63 kb_17 rfl ?_
      refine g_ild1 (q := 66) dX3_layRound_65 rfl ?_
      refine g_imulN (q := 67) dX3_layRound_66 rfl ?_
      refine g_iconst (q := 68) dX3_layRound_67 ki_2 rfl ?_
      refine g_iaddN (q := 69) dX3_layRound_68 rfl ?_
      refine g_ild2 (q := 70) dX3_layRound_69 rfl ?_
      refine g_iaddN (q := 71) dX3_layRound_70 rfl ?_
      refine m_iald (n := (((17 * r) + 2) + k)) (q := 72) hk0 dX3_layRound_71 rfl ma_8 rfl (by omega) ?_
      refine g_goto (t := 76) dX3_layRound_72 rfl ?_
      refine m_iast (n := k) (q := 77) hk0 dX3_layRound_76 rfl ma_57 rfl (by omega) ?_
      refine g_inc2 (w := nI (k + 1)) (q := 80) dX3_layRound_77 rfl (nI_1 _) rfl ?_
      refine g_goto (t := 41) dX3_layRound_80 rfl ?_
      refine ih (by omega) _ (hK.s1 rfl) h1 h2 (fun j hj => ?_)
      by_cases e : j = k
      · rw [e, ms1_at, if_pos c_56, (hK 8 rfl).1]; exact hR.2.2.1 k c_56
      · rw [ms1_nj _ _ _ e]; exact h3 j (by omega)
theorem c_layRound (hk0 : Sk E M o) (hM : MRs S n Rs) (r : Int32) : (Con E yX3_layRound cX3_layRound 3 (some .boolean) 3 0 0) [.ref o, .int r] (mv M o S) (pI (fun x => mP M o (fun S' => x = bz (ixo r n) ∧ Kp rks S S' ∧ (ixo r n → RLaid S' (Rs r.toNatClampNeg))))) := by
  have h2 := hM.1
  refine Go.enter [some (.ref o), some (.int r), none] rfl (Nat.le_of_ble_eq_true rfl) rfl (Nat.le_of_ble_eq_true rfl) ?_
  refine g_ald0 (q := 1) dX3_layRound_0 rfl ?_
  refine g_iconst (q := 2) dX3_layRound_1 ki_2 rfl ?_
  refine g_ild1 (q := 3) dX3_layRound_2 rfl ?_
  refine m_call (q := 6) hk0 (c_is E M o S hk0 2 n (by omega) (by omega) hM.2.1 r) sv_X3_223 dX3_layRound_3 rfl rfl rfl (Nat.le_of_ble_eq_true rfl) ⟨Nat.le_of_ble_eq_true rfl, Nat.le_of_ble_eq_true rfl⟩ ⟨Nat.zero_le _, Nat.zero_le _⟩ (gIe ?_)
  refine g_ifb_ne (t := 11) (q := 9) dX3_layRound_6 rfl rfl (fun c_6 => ?_) (fun c_6 => ?_)
  · obtain ⟨r, hr, rfl⟩ := ixo_of c_6 (by omega)
    obtain ⟨hR, hO⟩ := hM.2.2 r hr
    refine g_ald0 (q := 12) dX3_layRound_11 rfl ?_
    refine g_ald0 (q := 13) dX3_layRound_12 rfl ?_
    refine m_getA (j := 8) (q := 16) hk0 fs_X3_32 dX3_layRound_13 rfl (fun _ _ => rfl) ⟨rfl, by decide, by decide⟩ ?_
    refine g_bipush (q := 18) dX3_layRound_16 kb_17 rfl ?_
    refine g_ild1 (q := 19) dX3_layRound_18 rfl ?_
    refine g_imulN (q := 20) dX3_layRound_19 rfl ?_
    refine m_iald (n := (17 * r)) (q := 21) hk0 dX3_layRound_20 rfl ma_8 rfl (by omega) ?_
    refine m_putI (q := 24) hk0 fs_X3_439 dX3_layRound_21 rfl rfl rfl ?_
    refine g_ald0 (q := 25) dX3_layRound_24 rfl ?_
    refine g_ald0 (q := 26) dX3_layRound_25 rfl ?_
    refine m_getA (j := 8) (q := 29) hk0 fs_X3_32 dX3_layRound_26 rfl (fun _ _ => rfl) ⟨rfl, by decide, by decide⟩ ?_
    refine g_bipush (q := 31) dX3_layRound_29 kb_17 rfl ?_
    refine g_ild1 (q := 32) dX3_layRound_31 rfl ?_
    refine g_imulN (q := 33) dX3_layRound_32 rfl ?_
    refine g_iconst (q := 34) dX3_layRound_33 ki_1 rfl ?_
    refine g_iaddN (q := 35) dX3_layRound_34 rfl ?_
    refine m_iald (n := ((17 * r) + 1)) (q := 36) hk0 dX3_layRound_35 rfl ma_8 rfl (by omega) ?_
    refine m_putI (q := 39) hk0 fs_X3_442 dX3_layRound_36 rfl rfl rfl ?_
    refine g_iconst (q := 40) dX3_layRound_39 ki_0 rfl ?_
    refine g_ist2 (q := 41) dX3_layRound_40 rfl rfl ?_
    refine lp_layR1 (S0 := S) hk0 (by omega) hO hR (fun S' hK q1 q2 q3 => ?_) 0 (by omega) _ ((Kp.rf.s1 rfl).s1 rfl) ?_ ?_ (fun j h => by omega)
    · refine g_iconst (q := 84) dX3_layRound_83 ki_0 rfl ?_
      refine g_ist2 (q := 85) dX3_layRound_84 rfl rfl ?_
      exact lp_layR2 (S0 := S) hk0 (by omega) hO hR (fun S2 h1 h2 => ⟨_, rfl, S2, rfl, bz_1 c_6, h1, fun _ => by rw [nI_clamp (by omega)]; exact h2⟩) 0 (by omega) S' hK q1 q2 q3 (fun j h => by omega)
    · exact hR.1
    · exact hR.2.1
  · refine g_iconst (q := 10) dX3_layRound_9 ki_0 rfl ?_
    exact g_zret dX3_layRound_10 rfl (Nat.zero_le _) (Nat.zero_le _) ⟨_, rfl, S, rfl, bz_z c_6, Kp.rf, fun h => absurd h c_6⟩
theorem lp_greIn (hk0 : Sk E M o) {i sm a nr : Nat} {sp : Nat → Nat} (hn : nr ≤ 3) (hr : (S.1 55 0) = nI nr) (h1 : 1 ≤ nr) (hs : ∀ k, k < 3 → (S.1 57) k = nI (sp k)) (hl : ∀ k, sp k < 12) (hi : i < 12) (ha : (S.1 58) i = nI a) (ha2 : a < 12) {Post : Option Value → zM → Prop} (kk : (GoR E yX3_greedy cX3_greedy 5 (some .int) 2 0 0) Post 73 [some (.ref o), some (.int (nI sm)), some (.int (nI i)), some (.int (nI (gbF sp a (nr - 1)))), some (.int (nI nr))] [] (mv M o S) 0 0) :
    ∀ k, k ≤ nr - 1 → (GoR E yX3_greedy cX3_greedy 5 (some .int) 2 0 0) Post 17 [some (.ref o), some (.int (nI sm)), some (.int (nI i)), some (.int (nI (gbF sp a k))), some (.int (nI (k + 1)))] [] (mv M o S) 0 0 := by
  refine up_ind _ (fun k hk ih => ?_)
  have hg := gbF_le sp a k
  have hl1 := hl (k + 1)
  have hl2 := hl (gbF sp a k)
  have d1 := dst_le (a := sp (k + 1)) (b := a) (c := 12) (by omega) (by omega)
  have d2 := dst_le (a := sp (gbF sp a k)) (b := a) (c := 12) (by omega) (by omega)
  refine g_ild4 (q := 19) dX3_greedy_17 rfl ?_
  refine g_ald0 (q := 20) dX3_greedy_19 rfl ?_
  refine m_getI (q := 23) hk0 fs_X3_439 dX3_greedy_20 rfl rfl rfl ?_
  refine g_top hr ?_
  refine g_icN_ge (t := 73) (q := 26) dX3_greedy_23 rfl rfl (by omega) (by omega) (fun c_23 => ?_) (fun c_23 => ?_)
  · have e : k + 1 = nr := by omega
    rw [show gbF sp a k = gbF sp a (nr - 1) by rw [← e]; rfl, e]
    exact kk
  · refine g_ald0 (q := 27) dX3_greedy_26 rfl ?_
    refine m_getA (j := 29) (q := 30) hk0 fs_X3_98 dX3_greedy_27 rfl (fun _ _ => rfl) ⟨rfl, by decide, by decide⟩ ?_
    refine g_ild4 (q := 32) dX3_greedy_30 rfl ?_
    refine m_iald (n := (k + 1)) (q := 33) hk0 dX3_greedy_32 rfl ma_57 rfl (by omega) ?_
    refine g_top (hs _ (by omega)) ?_
    refine g_ald0 (q := 34) dX3_greedy_33 rfl ?_
    refine m_getA (j := 30) (q := 37) hk0 fs_X3_101 dX3_greedy_34 rfl (fun _ _ => rfl) ⟨rfl, by decide, by decide⟩ ?_
    refine g_ild2 (q := 38) dX3_greedy_37 rfl ?_
    refine m_iald (n := i) (q := 39) hk0 dX3_greedy_38 rfl ma_58 rfl (by omega) ?_
    refine g_top ha ?_
    refine m_calls (q := 42) (c_stepsOf _ _ _ _ (by omega) (by omega)) ss_X3_451 dX3_greedy_39 rfl rfl rfl (Nat.le_of_ble_eq_true rfl) ⟨Nat.le_of_ble_eq_true rfl, Nat.le_of_ble_eq_true rfl⟩ ⟨Nat.zero_le _, Nat.zero_le _⟩ (gIe ?_)
    refine g_ald0 (q := 43) dX3_greedy_42 rfl ?_
    refine m_getA (j := 29) (q := 46) hk0 fs_X3_98 dX3_greedy_43 rfl (fun _ _ => rfl) ⟨rfl, by decide, by decide⟩ ?_
    refine g_ild3 (q := 47) dX3_greedy_46 rfl ?_
    refine m_iald (n := (gbF sp a k)) (q := 48) hk0 dX3_greedy_47 rfl ma_57 rfl (by omega) ?_
    refine g_top (hs _ (by omega)) ?_
    refine g_ald0 (q := 49) dX3_greedy_48 rfl ?_
    refine m_getA (j := 30) (q := 52) hk0 fs_X3_101 dX3_greedy_49 rfl (fun _ _ => rfl) ⟨rfl, by decide, by decide⟩ ?_
    refine g_ild2 (q := 53) dX3_greedy_52 rfl ?_
    refine m_iald (n := i) (q := 54) hk0 dX3_greedy_53 rfl ma_58 rfl (by omega) ?_
    refine g_top ha ?_
    refine m_calls (q := 57) (c_stepsOf _ _ _ _ (by omega) (by omega)) ss_X3_451 dX3_greedy_54 rfl rfl rfl (Nat.le_of_ble_eq_true rfl) ⟨Nat.le_of_ble_eq_true rfl, Nat.le_of_ble_eq_true rfl⟩ ⟨Nat.zero_le _, Nat.zero_le _⟩ (gIe ?_)
    refine g_icN_ge (t := 65) (q := 60) dX3_greedy_57 rfl rfl (by omega) (by omega) (fun c_57 => ?_) (fun c_57 => ?_)
    · refine g_ild3 (q := 66) dX3_greedy_65 rfl ?_
      refine g_ist3 (q := 67) dX3_greedy_66 rfl rfl ?_
      refine g_inc4 (w := nI ((k + 1) + 1)) (q := 70) dX3_greedy_67 rfl (nI_1 _) rfl ?_
      refine g_goto (t := 17) dX3_greedy_70 rfl ?_
      have := ih (by omega)
      unfold gbF at this
      rw [if_neg (by omega)] at this
      exact this
    · refine g_ild4 (q := 62) dX3_greedy_60 rfl ?_
      refine g_goto (t := 66) dX3_greedy_62 rfl ?_
      refine g_ist3 (q := 67) dX3_greedy_66 rfl rfl ?_
      refine g_inc4 (w := nI ((k + 1) + 1)) (q := 70) dX3_greedy_67 rfl (nI_1 _) rfl ?_
      refine g_goto (t := 17) dX3_greedy_70 rfl ?_
      have := ih (by omega)
      unfold gbF at this
      rw [if_pos c_57] at this
      exact this
end MRound2

