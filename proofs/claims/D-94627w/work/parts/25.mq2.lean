set_option maxRecDepth 100000
/-- the first of some, or what else -/
def Fst (P : Nat → Prop) (n : Nat) (g : Nat → Int32) (d r : Int32) : Prop := (∃ k, k < n ∧ P k ∧ (∀ j, j < k → ¬ P j) ∧ r = g k) ∨ ((∀ k, k < n → ¬ P k) ∧ r = d)
theorem Fst.one {P : Nat → Prop} {n : Nat} {g : Nat → Int32} {d r r' : Int32} (h : Fst P n g d r) (h' : Fst P n g d r') : r = r' := by
  rcases h with ⟨k, h1, h2, h3, h4⟩ | ⟨h1, h2⟩ <;> rcases h' with ⟨k', g1, g2, g3, g4⟩ | ⟨g1, g2⟩
  · have : k = k' := by
      rcases Nat.lt_trichotomy k k' with e | e | e
      · exact absurd h2 (g3 k e)
      · exact e
      · exact absurd g2 (h3 k' e)
    rw [h4, g4, this]
  · exact absurd h2 (g1 k h1)
  · exact absurd g2 (h1 k' g1)
  · rw [h2, g2]
theorem in01 {w : Int32} : (nI 0 ≤ w ∧ w ≤ nI 1) ↔ (w = 0 ∨ w = 1) := by
  constructor
  · rintro ⟨h1, h2⟩
    obtain ⟨j, hj, rfl⟩ := nI_of2 (M := nI 1) (n := 1) rfl (Int32.not_lt.mpr h1) h2
    rcases (show j = 0 ∨ j = 1 by omega) with rfl | rfl
    · exact Or.inl rfl
    · exact Or.inr rfl
  · rintro (rfl | rfl) <;> decide
def q_walk (n : Nat) (Ls : Nat → LV) (l s f m x : Int32) : Prop := if ixo l n ∧ (ixo s (vN (Ls l.toNatClampNeg)) ∧ ixo f (vP (Ls l.toNatClampNeg) s.toNatClampNeg)) ∧ ixo m (2 ^ vB (Ls l.toNatClampNeg)) then Fst (fun k => vM (Ls l.toNatClampNeg) s.toNatClampNeg ((f.toNatClampNeg + k) % vP (Ls l.toNatClampNeg) s.toNatClampNeg) = m) (vP (Ls l.toNatClampNeg) s.toNatClampNeg) (fun k => nI (k + 1)) (-1) x else x = -1
def q_fresh (n : Nat) (Ls : Nat → LV) (l w x : Int32) : Prop := if ixo w 6 ∧ ixo l n then Fst (fun k => ∀ i, i < 32 → hB (Ls l.toNatClampNeg) i = true → w.toNatClampNeg < off k i) (2 ^ vB (Ls l.toNatClampNeg)) nI (-1) x else x = -1
section MQ2
variable {E : zE} {M : zM} {o : Nat} {S : zS} {n : Nat} {Ls : Nat → LV} {L : LV}
theorem c_readings (hk0 : Sk E M o) (hM : MLs S n Ls) (l z w : Int32) : (Con E yX3_readings cX3_readings 4 (some .long) 5 0 0) [.ref o, .int l, .int z, .int w] (mv M o S) (pL (fun x => mP M o (fun S' => x = q_readings n Ls l z w ∧ Kp scr S S'))) := by
  have h2 := hM.1
  refine Go.enter [some (.ref o), some (.int l), some (.int z), some (.int w)] rfl (Nat.le_of_ble_eq_true rfl) rfl (Nat.le_of_ble_eq_true rfl) ?_
  refine g_ald0 (q := 1) dX3_readings_0 rfl ?_
  refine g_iconst (q := 2) dX3_readings_1 ki_0 rfl ?_
  refine m_putI (q := 5) hk0 fs_X3_111 dX3_readings_2 rfl rfl rfl ?_
  refine g_ald0 (q := 6) dX3_readings_5 rfl ?_
  refine g_ild1 (q := 7) dX3_readings_6 rfl ?_
  refine m_call (q := 10) hk0 (c_hand hk0 hM.cd _) sv_X3_270 dX3_readings_7 rfl rfl rfl (Nat.le_of_ble_eq_true rfl) ⟨Nat.le_of_ble_eq_true rfl, Nat.le_of_ble_eq_true rfl⟩ ⟨Nat.zero_le _, Nat.zero_le _⟩ (mgI fun x S' h => ?_)
  obtain ⟨rfl, hK, hJ⟩ := h
  have hK : Kp scr S S' := (Kp.rf.s1 (ks := scr) (k := 0) rfl).then (hK.up hks_scr)
  refine g_ifb_eq (t := 30) (q := 13) dX3_readings_10 rfl rfl (fun c_10 => ?_) (fun c_10 => ?_)
  · refine g_ldc2 (v := -1) (q := 33) q2026 dX3_readings_30 rfl ?_
    exact g_lret dX3_readings_33 (Nat.zero_le _) (Nat.zero_le _) ⟨_, rfl, _, rfl, by unfold q_readings; rw [if_neg (fun h => c_10 h.1)], hK⟩
  · obtain ⟨hH, hBg⟩ := hJ c_10
    obtain ⟨l, hl, rfl⟩ := ixo_of c_10 (by omega)
    rw [nI_clamp (by omega)] at hH
    have hL := (hM.2.2 l hl).2
    have h4 := hL.2.2.2.1
    have h5 := hL.1.2
    have h32 := pow_b hL.1.2
    refine g_ald0 (q := 14) dX3_readings_13 rfl ?_
    refine g_ild2 (q := 15) dX3_readings_14 rfl ?_
    refine m_call (q := 18) hk0 (c_isMark hk0 hH hL _) sv_X3_348 dX3_readings_15 rfl rfl rfl (Nat.le_of_ble_eq_true rfl) ⟨Nat.le_of_ble_eq_true rfl, Nat.le_of_ble_eq_true rfl⟩ ⟨Nat.zero_le _, Nat.zero_le _⟩ (gIe ?_)
    refine g_ifb_eq (t := 30) (q := 21) dX3_readings_18 rfl rfl (fun c_18 => ?_) (fun c_18 => ?_)
    · refine g_ldc2 (v := -1) (q := 33) q2026 dX3_readings_30 rfl ?_
      exact g_lret dX3_readings_33 (Nat.zero_le _) (Nat.zero_le _) ⟨_, rfl, _, rfl, by unfold q_readings; rw [nI_clamp (by omega), if_neg (fun h => c_18 h.2.1)], hK⟩
    · refine g_ild3 (q := 22) dX3_readings_21 rfl ?_
      refine g_iconst (q := 23) dX3_readings_22 ki_0 rfl ?_
      refine g_iconst (q := 24) dX3_readings_23 ki_1 rfl ?_
      refine m_calls (q := 27) (c_in _ _ _ _ _) ss_X3_123 dX3_readings_24 rfl rfl rfl (Nat.le_of_ble_eq_true rfl) ⟨Nat.le_of_ble_eq_true rfl, Nat.le_of_ble_eq_true rfl⟩ ⟨Nat.zero_le _, Nat.zero_le _⟩ (gIe ?_)
      refine g_ifb_ne (t := 34) (q := 30) dX3_readings_27 rfl rfl (fun c_27 => ?_) (fun c_27 => ?_)
      · obtain ⟨z, hz, rfl⟩ := ixo_of c_18 (by omega)
        have cw := in01.mp c_27
        refine g_ild3 (q := 35) dX3_readings_34 rfl ?_
        refine g_if_ne (t := 46) (q := 38) dX3_readings_35 rfl rfl (fun c_35 => ?_) (fun c_35 => ?_)
        · refine g_ald0 (q := 47) dX3_readings_46 rfl ?_
          refine g_ild2 (q := 48) dX3_readings_47 rfl ?_
          refine m_call (q := 51) hk0 (c_readingsOf hk0 hH hL z) sv_X3_353 dX3_readings_48 rfl rfl rfl (Nat.le_of_ble_eq_true rfl) ⟨Nat.le_of_ble_eq_true rfl, Nat.le_of_ble_eq_true rfl⟩ ⟨Nat.zero_le _, Nat.zero_le _⟩ (gL fun r M' hr => ?_)
          obtain ⟨hr, rfl⟩ := hr
          refine g_ald0 (q := 52) dX3_readings_51 rfl ?_
          refine m_call (q := 55) hk0 (c_here hk0 hH hL) sv_X3_260 dX3_readings_52 rfl rfl rfl (Nat.le_of_ble_eq_true rfl) ⟨Nat.le_of_ble_eq_true rfl, Nat.le_of_ble_eq_true rfl⟩ ⟨Nat.zero_le _, Nat.zero_le _⟩ (gL fun r2 M' hr2 => ?_)
          obtain ⟨hr2, rfl⟩ := hr2
          refine g_land (q := 56) dX3_readings_55 rfl ?_
          refine g_lret dX3_readings_56 (Nat.zero_le _) (Nat.zero_le _) ⟨_, rfl, _, rfl, ?_, hK⟩
          unfold q_readings
          rw [nI_clamp (by omega), nI_clamp (by omega), if_pos ⟨c_10, c_18, cw⟩, if_neg c_35]
          refine eq_mkL (by omega) (fun i hi => ?_)
          rw [bl_and, hr i hi, hr2 i hi, Bool.and_assoc]
        · refine g_ald0 (q := 39) dX3_readings_38 rfl ?_
          refine g_ild2 (q := 40) dX3_readings_39 rfl ?_
          refine m_call (q := 43) hk0 (c_readingsOf hk0 hH hL z) sv_X3_353 dX3_readings_40 rfl rfl rfl (Nat.le_of_ble_eq_true rfl) ⟨Nat.le_of_ble_eq_true rfl, Nat.le_of_ble_eq_true rfl⟩ ⟨Nat.zero_le _, Nat.zero_le _⟩ (gL fun r M' hr => ?_)
          obtain ⟨hr, rfl⟩ := hr
          refine g_goto (t := 56) dX3_readings_43 rfl ?_
          refine g_lret dX3_readings_56 (Nat.zero_le _) (Nat.zero_le _) ⟨_, rfl, _, rfl, ?_, hK⟩
          unfold q_readings
          rw [nI_clamp (by omega), nI_clamp (by omega), if_pos ⟨c_10, c_18, cw⟩, if_pos c_35]
          exact eq_mkL (by omega) hr
      · refine g_ldc2 (v := -1) (q := 33) q2026 dX3_readings_30 rfl ?_
        exact g_lret dX3_readings_33 (Nat.zero_le _) (Nat.zero_le _) ⟨_, rfl, _, rfl, by unfold q_readings; rw [nI_clamp (by omega), if_neg (fun h => c_27 (in01.mpr h.2.2))], hK⟩
theorem lp_weights (hk0 : Sk E M o) (hH : Hand S L) (hL : LOK L) {Post : Option Value → zM → Prop} (hpost : Post (some (.int (nI (fb_sm (vT L) (vN L))))) (mv M o S)) :
    ∀ s, s ≤ vN L → (GoR E yX3_weights cX3_weights 3 (some .int) 1 0 0) Post 4 [some (.ref o), some (.int (nI (fb_sm (vT L) s))), some (.int (nI s))] [] (mv M o S) 0 0 := by
  have h4 := hL.2.2.2.1
  refine up_ind _ (fun s hs ih => ?_)
  refine g_ild2 (q := 5) dX3_weights_4 rfl ?_
  refine g_ald0 (q := 6) dX3_weights_5 rfl ?_
  refine m_getI (q := 9) hk0 fs_X3_243 dX3_weights_6 rfl rfl rfl ?_
  refine g_top hH.2.2.2.1 ?_
  refine g_icN_ge (t := 27) (q := 12) dX3_weights_9 rfl rfl (by omega) (by omega) (fun c_9 => ?_) (fun c_9 => ?_)
  · obtain rfl : s = vN L := by omega
    refine g_ild1 (q := 28) dX3_weights_27 rfl ?_
    exact g_iret dX3_weights_28 (Nat.zero_le _) (Nat.zero_le _) hpost
  · refine g_ild1 (q := 13) dX3_weights_12 rfl ?_
    refine g_ald0 (q := 14) dX3_weights_13 rfl ?_
    refine m_getA (j := 12) (q := 17) hk0 fs_X3_44 dX3_weights_14 rfl (fun _ _ => rfl) ⟨rfl, by decide, by decide⟩ ?_
    refine g_ild2 (q := 18) dX3_weights_17 rfl ?_
    refine m_iald (n := s) (q := 19) hk0 dX3_weights_18 rfl ma_26 rfl (by omega) ?_
    refine g_top (hH.2.2.2.2.2.1 s (by omega)) ?_
    refine g_iaddN (q := 20) dX3_weights_19 rfl ?_
    refine g_ist1 (q := 21) dX3_weights_20 rfl rfl ?_
    refine g_inc2 (w := nI (s + 1)) (q := 24) dX3_weights_21 rfl (nI_1 _) rfl ?_
    refine g_goto (t := 4) dX3_weights_24 rfl ?_
    exact ih (by omega)
theorem c_weights (hk0 : Sk E M o) (hH : Hand S L) (hL : LOK L) : (Con E yX3_weights cX3_weights 3 (some .int) 1 0 0) [.ref o] (mv M o S) (pI (fun x M' => x = nI (fb_sm (vT L) (vN L)) ∧ M' = mv M o S)) := by
  refine Go.enter [some (.ref o), none, none] rfl (Nat.le_of_ble_eq_true rfl) rfl (Nat.le_of_ble_eq_true rfl) ?_
  refine g_iconst (q := 1) dX3_weights_0 ki_0 rfl ?_
  refine g_ist1 (q := 2) dX3_weights_1 rfl rfl ?_
  refine g_iconst (q := 3) dX3_weights_2 ki_0 rfl ?_
  refine g_ist2 (q := 4) dX3_weights_3 rfl rfl ?_
  exact lp_weights hk0 hH hL ⟨_, rfl, rfl, rfl⟩ 0 (by omega)
theorem lp_walk (hk0 : Sk E M o) (hH : Hand S L) (hL : LOK L) {l m : Int32} {s f : Nat} (hs : s < 4) (hf : f < vP L s) {Post : Option Value → zM → Prop} (hpost : ∀ x, Fst (fun k => vM L s ((f + k) % vP L s) = m) (vP L s) (fun k => nI (k + 1)) (-1) x → Post (some (.int x)) (mv M o S)) :
    ∀ p, p ≤ vP L s → (∀ j, j < p → ¬ vM L s ((f + j) % vP L s) = m) → (GoR E yX3_walk cX3_walk 6 (some .int) 4 0 0) Post 36 [some (.ref o), some (.int l), some (.int (nI s)), some (.int (nI f)), some (.int m), some (.int (nI p))] [] (mv M o S) 0 0 := by
  have h12 := hL.p12 s
  refine up_ind _ (fun p hp ih hno => ?_)
  have hmod : (f + p) % vP L s < vP L s := Nat.mod_lt _ (by omega)
  refine g_ild5 (q := 38) dX3_walk_36 rfl ?_
  refine g_ald0 (q := 39) dX3_walk_38 rfl ?_
  refine m_getA (j := 11) (q := 42) hk0 fs_X3_41 dX3_walk_39 rfl (fun _ _ => rfl) ⟨rfl, by decide, by decide⟩ ?_
  refine g_ild2 (q := 43) dX3_walk_42 rfl ?_
  refine m_iald (n := s) (q := 44) hk0 dX3_walk_43 rfl ma_25 rfl (by omega) ?_
  refine g_top (hH.2.2.2.2.1 s hs) ?_
  refine g_icN_ge (t := 84) (q := 47) dX3_walk_44 rfl rfl (by omega) (by omega) (fun c_44 => ?_) (fun c_44 => ?_)
  · obtain rfl : p = vP L s := by omega
    refine g_iconst (q := 85) dX3_walk_84 ki_m1 rfl ?_
    exact g_iret dX3_walk_85 (Nat.zero_le _) (Nat.zero_le _) (hpost _ (Or.inr ⟨hno, rfl⟩))
  · refine g_ald0 (q := 48) dX3_walk_47 rfl ?_
    refine m_getA (j := 13) (q := 51) hk0 fs_X3_47 dX3_walk_48 rfl (fun _ _ => rfl) ⟨rfl, by decide, by decide⟩ ?_
    refine g_bipush (q := 53) dX3_walk_51 kb_12 rfl ?_
    refine g_ild2 (q := 54) dX3_walk_53 rfl ?_
    refine g_imulN (q := 55) dX3_walk_54 rfl ?_
    refine g_ild3 (q := 56) dX3_walk_55 rfl ?_
    refine g_ild5 (q := 58) dX3_walk_56 rfl ?_
    refine g_iaddN (q := 59) dX3_walk_58 rfl ?_
    refine g_ald0 (q := 60) dX3_walk_59 rfl ?_
    refine m_getA (j := 11) (q := 63) hk0 fs_X3_41 dX3_walk_60 rfl (fun _ _ => rfl) ⟨rfl, by decide, by decide⟩ ?_
    refine g_ild2 (q := 64) dX3_walk_63 rfl ?_
    refine m_iald (n := s) (q := 65) hk0 dX3_walk_64 rfl ma_25 rfl (by omega) ?_
    refine g_top (hH.2.2.2.2.1 s hs) ?_
    refine g_iremN (q := 66) dX3_walk_65 (by omega) (by omega) (by omega) rfl ?_
    refine g_iaddN (q := 67) dX3_walk_66 rfl ?_
    refine m_iald (n := ((12 * s) + ((((f + p)) % ((vP L s)))))) (q := 68) hk0 dX3_walk_67 rfl ma_27 rfl (by omega) ?_
    refine g_top (hH.2.2.2.2.2.2 s _ hs (by omega)) ?_
    refine g_ild4 (q := 70) dX3_walk_68 rfl ?_
    refine g_ic_ne (t := 78) (q := 73) dX3_walk_70 rfl rfl (fun c_70 => ?_) (fun c_70 => ?_)
    · refine g_inc5 (w := nI (p + 1)) (q := 81) dX3_walk_78 rfl (nI_1 _) rfl ?_
      refine g_goto (t := 36) dX3_walk_81 rfl ?_
      exact ih (by omega) (lt_s hno c_70)
    · refine g_ild5 (q := 75) dX3_walk_73 rfl ?_
      refine g_iconst (q := 76) dX3_walk_75 ki_1 rfl ?_
      refine g_iaddN (q := 77) dX3_walk_76 rfl ?_
      exact g_iret dX3_walk_77 (Nat.zero_le _) (Nat.zero_le _) (hpost _ (Or.inl ⟨p, by omega, c_70, hno, rfl⟩))
theorem c_walk (hk0 : Sk E M o) (hM : MLs S n Ls) (l s f m : Int32) : (Con E yX3_walk cX3_walk 6 (some .int) 4 0 0) [.ref o, .int l, .int s, .int f, .int m] (mv M o S) (pI (fun x => mP M o (fun S' => q_walk n Ls l s f m x ∧ Kp scr S S'))) := by
  have h2 := hM.1
  refine Go.enter [some (.ref o), some (.int l), some (.int s), some (.int f), some (.int m), none] rfl (Nat.le_of_ble_eq_true rfl) rfl (Nat.le_of_ble_eq_true rfl) ?_
  refine g_ald0 (q := 1) dX3_walk_0 rfl ?_
  refine g_iconst (q := 2) dX3_walk_1 ki_0 rfl ?_
  refine m_putI (q := 5) hk0 fs_X3_111 dX3_walk_2 rfl rfl rfl ?_
  refine g_ald0 (q := 6) dX3_walk_5 rfl ?_
  refine g_ild1 (q := 7) dX3_walk_6 rfl ?_
  refine m_call (q := 10) hk0 (c_hand hk0 hM.cd _) sv_X3_270 dX3_walk_7 rfl rfl rfl (Nat.le_of_ble_eq_true rfl) ⟨Nat.le_of_ble_eq_true rfl, Nat.le_of_ble_eq_true rfl⟩ ⟨Nat.zero_le _, Nat.zero_le _⟩ (mgI fun x S' h => ?_)
  obtain ⟨rfl, hK, hJ⟩ := h
  have hK : Kp scr S S' := (Kp.rf.s1 (ks := scr) (k := 0) rfl).then (hK.up hks_scr)
  refine g_ifb_eq (t := 31) (q := 13) dX3_walk_10 rfl rfl (fun c_10 => ?_) (fun c_10 => ?_)
  · refine g_iconst (q := 32) dX3_walk_31 ki_m1 rfl ?_
    refine g_iret dX3_walk_32 (Nat.zero_le _) (Nat.zero_le _) ?_
    first
      | exact ⟨_, rfl, _, rfl, by unfold q_walk; rw [if_neg (fun h => c_10 h.1)], hK⟩
      | exact ⟨_, rfl, _, rfl, by unfold q_walk; rw [nI_clamp (by omega), if_neg (fun h => c_19 h.2.1)], hK⟩
      | exact ⟨_, rfl, _, rfl, by unfold q_walk; rw [nI_clamp (by omega), if_neg (fun h => c_28 h.2.2)], hK⟩
  · obtain ⟨hH, hBg⟩ := hJ c_10
    obtain ⟨l, hl, rfl⟩ := ixo_of c_10 (by omega)
    rw [nI_clamp (by omega)] at hH
    have hL := (hM.2.2 l hl).2
    have h4 := hL.2.2.2.1
    have h5 := hL.1.2
    have h32 := pow_b hL.1.2
    refine g_ald0 (q := 14) dX3_walk_13 rfl ?_
    refine g_ild2 (q := 15) dX3_walk_14 rfl ?_
    refine g_ild3 (q := 16) dX3_walk_15 rfl ?_
    refine m_call (q := 19) hk0 (c_isPlace hk0 hH hL _ _) sv_X3_345 dX3_walk_16 rfl rfl rfl (Nat.le_of_ble_eq_true rfl) ⟨Nat.le_of_ble_eq_true rfl, Nat.le_of_ble_eq_true rfl⟩ ⟨Nat.zero_le _, Nat.zero_le _⟩ (gIe ?_)
    refine g_ifb_eq (t := 31) (q := 22) dX3_walk_19 rfl rfl (fun c_19 => ?_) (fun c_19 => ?_)
    · refine g_iconst (q := 32) dX3_walk_31 ki_m1 rfl ?_
      refine g_iret dX3_walk_32 (Nat.zero_le _) (Nat.zero_le _) ?_
      first
        | exact ⟨_, rfl, _, rfl, by unfold q_walk; rw [if_neg (fun h => c_10 h.1)], hK⟩
        | exact ⟨_, rfl, _, rfl, by unfold q_walk; rw [nI_clamp (by omega), if_neg (fun h => c_19 h.2.1)], hK⟩
        | exact ⟨_, rfl, _, rfl, by unfold q_walk; rw [nI_clamp (by omega), if_neg (fun h => c_28 h.2.2)], hK⟩
    · refine g_ald0 (q := 23) dX3_walk_22 rfl ?_
      refine g_ild4 (q := 25) dX3_walk_23 rfl ?_
      refine m_call (q := 28) hk0 (c_isMark hk0 hH hL _) sv_X3_348 dX3_walk_25 rfl rfl rfl (Nat.le_of_ble_eq_true rfl) ⟨Nat.le_of_ble_eq_true rfl, Nat.le_of_ble_eq_true rfl⟩ ⟨Nat.zero_le _, Nat.zero_le _⟩ (gIe ?_)
      refine g_ifb_ne (t := 33) (q := 31) dX3_walk_28 rfl rfl (fun c_28 => ?_) (fun c_28 => ?_)
      · obtain ⟨c1, c2⟩ := c_19
        obtain ⟨s, hs, rfl⟩ := ixo_of c1 (by omega)
        rw [nI_clamp (by omega)] at c2
        have h12 := hL.p12 s
        obtain ⟨f, hf, rfl⟩ := ixo_of c2 (by omega)
        refine g_iconst (q := 34) dX3_walk_33 ki_0 rfl ?_
        refine g_ist5 (q := 36) dX3_walk_34 rfl rfl ?_
        refine lp_walk hk0 hH hL (by omega) hf (fun x hx => ⟨_, rfl, _, rfl, ?_, hK⟩) 0 (by omega) (fun j h => by omega)
        unfold q_walk
        rw [nI_clamp (by omega), nI_clamp (by omega), nI_clamp (by omega), if_pos ⟨c_10, ⟨c1, c2⟩, c_28⟩]
        exact hx
      · refine g_iconst (q := 32) dX3_walk_31 ki_m1 rfl ?_
        refine g_iret dX3_walk_32 (Nat.zero_le _) (Nat.zero_le _) ?_
        first
          | exact ⟨_, rfl, _, rfl, by unfold q_walk; rw [if_neg (fun h => c_10 h.1)], hK⟩
          | exact ⟨_, rfl, _, rfl, by unfold q_walk; rw [nI_clamp (by omega), if_neg (fun h => c_19 h.2.1)], hK⟩
          | exact ⟨_, rfl, _, rfl, by unfold q_walk; rw [nI_clamp (by omega), if_neg (fun h => c_28 h.2.2)], hK⟩
end MQ2

