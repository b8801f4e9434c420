set_option maxRecDepth 100000
section MQ5
variable {E : zE} {M : zM} {o : Nat} {S : zS} {n : Nat} {Ls : Nat → LV} {L : LV}
theorem lp_nthOf {x : Int64} {K : Nat} {k0 : Int32} (hK : K < 2 ^ 31) {Post : Option Value → zM → Prop} (hpost : ∀ r, qnth (bl x) K r → Post (some (.int r)) M) :
    ∀ m, m ≤ 32 → fb_ct (bl x) m ≤ K → (∀ j, j < m → ¬ (bl x j = true ∧ fb_ct (bl x) j = K)) → (GoR E yX3_nthOf cX3_nthOf 5 (some .int) 2 0 0) Post 5 [some (.long x), none, some (.int k0), some (.int (nI (K - fb_ct (bl x) m))), some (.int (nI m))] [] M 0 0 := by
  refine up_ind _ (fun m hm ih hle hno => ?_)
  refine g_ild4 (q := 7) dX3_nthOf_5 rfl ?_
  refine g_bipush (q := 9) dX3_nthOf_7 kb_32 rfl ?_
  refine g_icN_ge (t := 37) (q := 12) dX3_nthOf_9 rfl rfl (by omega) (by omega) (fun c_9 => ?_) (fun c_9 => ?_)
  · obtain rfl : m = 32 := by omega
    refine g_iconst (q := 38) dX3_nthOf_37 ki_m1 rfl ?_
    exact g_iret dX3_nthOf_38 (Nat.zero_le _) (Nat.zero_le _) (hpost _ (Or.inr ⟨hno, rfl⟩))
  · refine g_lld0 (q := 13) dX3_nthOf_12 rfl ?_
    refine g_ild4 (q := 15) dX3_nthOf_13 rfl ?_
    refine m_calls (q := 18) (c_has _ _ _ _ (by omega)) ss_X3_115 dX3_nthOf_15 rfl rfl rfl (Nat.le_of_ble_eq_true rfl) ⟨Nat.le_of_ble_eq_true rfl, Nat.le_of_ble_eq_true rfl⟩ ⟨Nat.zero_le _, Nat.zero_le _⟩ (gIe ?_)
    refine g_ifb_eq (t := 31) (q := 21) dX3_nthOf_18 rfl rfl (fun c_18 => ?_) (fun c_18 => ?_)
    · refine g_inc4 (w := nI (m + 1)) (q := 34) dX3_nthOf_31 rfl (nI_1 _) rfl ?_
      refine g_goto (t := 5) dX3_nthOf_34 rfl ?_
      have e : fb_ct (bl x) (m + 1) = fb_ct (bl x) m := by rw [fb_ct_succ, if_neg c_18]; rfl
      have := ih (by omega) (by rw [e]; exact hle) (lt_s hno (fun h => c_18 h.1))
      rw [e] at this
      exact this
    · refine g_ild3 (q := 22) dX3_nthOf_21 rfl ?_
      refine g_if_ne (t := 28) (q := 25) dX3_nthOf_22 rfl rfl (fun c_22 => ?_) (fun c_22 => ?_)
      · have h0 : ¬ K - fb_ct (bl x) m = 0 := fun e => c_22 (by rw [e]; rfl)
        refine g_inc3 (w := nI ((K - fb_ct (bl x) m) - 1)) (q := 31) dX3_nthOf_28 rfl (sb_m1 (by omega)) rfl ?_
        refine g_inc4 (w := nI (m + 1)) (q := 34) dX3_nthOf_31 rfl (nI_1 _) rfl ?_
        refine g_goto (t := 5) dX3_nthOf_34 rfl ?_
        have e : fb_ct (bl x) (m + 1) = fb_ct (bl x) m + 1 := by rw [fb_ct_succ, if_pos c_18]
        have := ih (by omega) (by rw [e]; omega) (lt_s hno (fun h => h0 (by omega)))
        rw [e, show K - (fb_ct (bl x) m + 1) = K - fb_ct (bl x) m - 1 by omega] at this
        exact this
      · refine g_ild4 (q := 27) dX3_nthOf_25 rfl ?_
        refine g_iret dX3_nthOf_27 (Nat.zero_le _) (Nat.zero_le _) (hpost _ (Or.inl ⟨m, by omega, ⟨c_18, ?_⟩, hno, rfl⟩))
        have := (nI_eq (a := K - fb_ct (bl x) m) (b := 0) (by omega) (by omega)).mp c_22
        omega
theorem c_nthOf (E : zE) (M : zM) (x : Int64) (K : Nat) (hK : K < 2 ^ 31) : (Con E yX3_nthOf cX3_nthOf 5 (some .int) 2 0 0) [.long x, .int (nI K)] M (pI (fun r M' => qnth (bl x) K r ∧ M' = M)) := by
  refine Go.enter [some (.long x), none, some (.int (nI K)), none, none] rfl (Nat.le_of_ble_eq_true rfl) rfl (Nat.le_of_ble_eq_true rfl) ?_
  refine g_ild2 (q := 1) dX3_nthOf_0 rfl ?_
  refine g_ist3 (q := 2) dX3_nthOf_1 rfl rfl ?_
  refine g_iconst (q := 3) dX3_nthOf_2 ki_0 rfl ?_
  refine g_ist4 (q := 5) dX3_nthOf_3 rfl rfl ?_
  exact lp_nthOf hK (fun r hr => ⟨_, rfl, hr, rfl⟩) 0 (by omega) (Nat.zero_le _) (fun j h => by omega)
/-- pairs -/
theorem lp_pairsIn (hk0 : Sk E M o) (hH : Hand S L) (hL : LOK L) {l : Int32} {y a c0 : Nat} {h : Int64} (hy : y < 1000) (ha : a < 32) {Post : Option Value → zM → Prop}
    (kk : (GoR E yX3_pairs cX3_pairs 8 (some .int) 4 0 0) Post 104 [some (.ref o), some (.int l), some (.int (nI y)), some (.long h), none, some (.int (nI (c0 + fb_ct (fun b => bl h a && (bl h b && decide (off a b ≤ y / vR L))) a))), some (.int (nI a)), some (.int (nI a))] [] (mv M o S) 0 0) :
    ∀ b, b ≤ a → (GoR E yX3_pairs cX3_pairs 8 (some .int) 4 0 0) Post 47 [some (.ref o), some (.int l), some (.int (nI y)), some (.long h), none, some (.int (nI (c0 + fb_ct (fun b => bl h a && (bl h b && decide (off a b ≤ y / vR L))) b))), some (.int (nI a)), some (.int (nI b))] [] (mv M o S) 0 0 := by
  have hr := hL.2.2.1
  refine up_ind _ (fun b hb ih => ?_)
  have hof := off_le a b
  have hdv : y / vR L ≤ y := Nat.div_le_self _ _
  refine g_ild7 (q := 49) dX3_pairs_47 rfl ?_
  refine g_ild6 (q := 51) dX3_pairs_49 rfl ?_
  refine g_icN_ge (t := 104) (q := 54) dX3_pairs_51 rfl rfl (by omega) (by omega) (fun c_51 => ?_) (fun c_51 => ?_)
  · obtain rfl : b = a := by omega
    exact kk
  · refine g_ild5 (q := 56) dX3_pairs_54 rfl ?_
    refine g_lld3 (q := 57) dX3_pairs_56 rfl ?_
    refine g_ild6 (q := 59) dX3_pairs_57 rfl ?_
    refine m_calls (q := 62) (c_has _ _ _ _ (by omega)) ss_X3_115 dX3_pairs_59 rfl rfl rfl (Nat.le_of_ble_eq_true rfl) ⟨Nat.le_of_ble_eq_true rfl, Nat.le_of_ble_eq_true rfl⟩ ⟨Nat.zero_le _, Nat.zero_le _⟩ (gIe ?_)
    refine g_ifb_eq (t := 94) (q := 65) dX3_pairs_62 rfl rfl (fun c_62 => ?_) (fun c_62 => ?_)
    · refine g_iconst (q := 95) dX3_pairs_94 ki_0 rfl ?_
      refine g_iaddN (q := 96) dX3_pairs_95 rfl ?_
      refine g_ist5 (q := 98) dX3_pairs_96 rfl rfl ?_
      refine g_inc7 (w := nI (b + 1)) (q := 101) dX3_pairs_98 rfl (nI_1 _) rfl ?_
      refine g_goto (t := 47) dX3_pairs_101 rfl ?_
      have := ih (by omega)
      rw [fb_ct_succ, if_neg (by rw [Bool.and_eq_true]; exact fun e => c_62 e.1)] at this
      exact this
    · refine g_lld3 (q := 66) dX3_pairs_65 rfl ?_
      refine g_ild7 (q := 68) dX3_pairs_66 rfl ?_
      refine m_calls (q := 71) (c_has _ _ _ _ (by omega)) ss_X3_115 dX3_pairs_68 rfl rfl rfl (Nat.le_of_ble_eq_true rfl) ⟨Nat.le_of_ble_eq_true rfl, Nat.le_of_ble_eq_true rfl⟩ ⟨Nat.zero_le _, Nat.zero_le _⟩ (gIe ?_)
      refine g_ifb_eq (t := 94) (q := 74) dX3_pairs_71 rfl rfl (fun c_71 => ?_) (fun c_71 => ?_)
      · refine g_iconst (q := 95) dX3_pairs_94 ki_0 rfl ?_
        refine g_iaddN (q := 96) dX3_pairs_95 rfl ?_
        refine g_ist5 (q := 98) dX3_pairs_96 rfl rfl ?_
        refine g_inc7 (w := nI (b + 1)) (q := 101) dX3_pairs_98 rfl (nI_1 _) rfl ?_
        refine g_goto (t := 47) dX3_pairs_101 rfl ?_
        have := ih (by omega)
        rw [fb_ct_succ, if_neg (by rw [Bool.and_eq_true, Bool.and_eq_true]; exact fun e => c_71 e.2.1)] at this
        exact this
      · refine g_ild6 (q := 76) dX3_pairs_74 rfl ?_
        refine g_ild7 (q := 78) dX3_pairs_76 rfl ?_
        refine m_calls (q := 81) (c_offOf _ _ _ _) ss_X3_264 dX3_pairs_78 rfl rfl rfl (Nat.le_of_ble_eq_true rfl) ⟨Nat.le_of_ble_eq_true rfl, Nat.le_of_ble_eq_true rfl⟩ ⟨Nat.zero_le _, Nat.zero_le _⟩ (gIe ?_)
        refine g_top rfl ?_
        refine g_ild2 (q := 82) dX3_pairs_81 rfl ?_
        refine g_ald0 (q := 83) dX3_pairs_82 rfl ?_
        refine m_getI (q := 86) hk0 fs_X3_240 dX3_pairs_83 rfl rfl rfl ?_
        refine g_top hH.2.2.1 ?_
        refine g_idivN (q := 87) dX3_pairs_86 (by omega) (by omega) (by omega) rfl ?_
        refine g_icN_gt (t := 94) (q := 90) dX3_pairs_87 rfl rfl (by omega) (by omega) (fun c_87 => ?_) (fun c_87 => ?_)
        · refine g_iconst (q := 95) dX3_pairs_94 ki_0 rfl ?_
          refine g_iaddN (q := 96) dX3_pairs_95 rfl ?_
          refine g_ist5 (q := 98) dX3_pairs_96 rfl rfl ?_
          refine g_inc7 (w := nI (b + 1)) (q := 101) dX3_pairs_98 rfl (nI_1 _) rfl ?_
          refine g_goto (t := 47) dX3_pairs_101 rfl ?_
          have := ih (by omega)
          rw [fb_ct_succ, if_neg (by rw [Bool.and_eq_true, Bool.and_eq_true, decide_eq_true_eq]; exact fun e => absurd e.2.2 (by omega))] at this
          exact this
        · refine g_iconst (q := 91) dX3_pairs_90 ki_1 rfl ?_
          refine g_goto (t := 95) dX3_pairs_91 rfl ?_
          refine g_iaddN (q := 96) dX3_pairs_95 rfl ?_
          refine g_ist5 (q := 98) dX3_pairs_96 rfl rfl ?_
          refine g_inc7 (w := nI (b + 1)) (q := 101) dX3_pairs_98 rfl (nI_1 _) rfl ?_
          refine g_goto (t := 47) dX3_pairs_101 rfl ?_
          have := ih (by omega)
          rw [fb_ct_succ, if_pos (by rw [Bool.and_eq_true, Bool.and_eq_true, decide_eq_true_eq]; exact ⟨c_62, c_71, c_87⟩)] at this
          exact this
theorem lp_pairsOut (hk0 : Sk E M o) (hH : Hand S L) (hL : LOK L) {l : Int32} {y : Nat} {h : Int64} (hy : y < 1000) {Post : Option Value → zM → Prop} (hpost : Post (some (.int (nI (prs (bl h) (y / vR L) 32)))) (mv M o S)) :
    ∀ a, a ≤ 32 → ∀ x7, (GoR E yX3_pairs cX3_pairs 8 (some .int) 4 0 0) Post 37 [some (.ref o), some (.int l), some (.int (nI y)), some (.long h), none, some (.int (nI (prs (bl h) (y / vR L) a))), some (.int (nI a)), x7] [] (mv M o S) 0 0 := by
  refine up_ind _ (fun a ha ih x7 => ?_)
  refine g_ild6 (q := 39) dX3_pairs_37 rfl ?_
  refine g_bipush (q := 41) dX3_pairs_39 kb_32 rfl ?_
  refine g_icN_ge (t := 110) (q := 44) dX3_pairs_41 rfl rfl (by omega) (by omega) (fun c_41 => ?_) (fun c_41 => ?_)
  · obtain rfl : a = 32 := by omega
    refine g_ild5 (q := 112) dX3_pairs_110 rfl ?_
    exact g_iret dX3_pairs_112 (Nat.zero_le _) (Nat.zero_le _) hpost
  · refine g_iconst (q := 45) dX3_pairs_44 ki_0 rfl ?_
    refine g_ist7 (q := 47) dX3_pairs_45 rfl rfl ?_
    refine lp_pairsIn hk0 hH hL hy (by omega) ?_ 0 (by omega)
    refine g_inc6 (w := nI (a + 1)) (q := 107) dX3_pairs_104 rfl (nI_1 _) rfl ?_
    refine g_goto (t := 37) dX3_pairs_107 rfl ?_
    exact ih (by omega) _
theorem prs_cong {p q : Nat → Bool} {t m : Nat} (h : ∀ i, i < m → p i = q i) : prs p t m = prs q t m := by
  refine fb_sm_cong (fun a ha => fb_ct_cong (fun b hb => ?_))
  rw [h a ha, h b (by omega)]
theorem c_pairs (hk0 : Sk E M o) (hM : MLs S n Ls) (l y : Int32) : (Con E yX3_pairs cX3_pairs 8 (some .int) 4 0 0) [.ref o, .int l, .int y] (mv M o S) (pI (fun x => mP M o (fun S' => x = q_pairs n Ls l y ∧ Kp scr S S'))) := by
  have h2 := hM.1
  refine Go.enter [some (.ref o), some (.int l), some (.int y), none, none, none, none, none] rfl (Nat.le_of_ble_eq_true rfl) rfl (Nat.le_of_ble_eq_true rfl) ?_
  refine g_ald0 (q := 1) dX3_pairs_0 rfl ?_
  refine g_iconst (q := 2) dX3_pairs_1 ki_0 rfl ?_
  refine m_putI (q := 5) hk0 fs_X3_111 dX3_pairs_2 rfl rfl rfl ?_
  refine g_ild2 (q := 6) dX3_pairs_5 rfl ?_
  refine g_iconst (q := 7) dX3_pairs_6 ki_0 rfl ?_
  refine g_sipush (q := 10) dX3_pairs_7 ks_999 rfl ?_
  refine m_calls (q := 13) (c_in _ _ _ _ _) ss_X3_123 dX3_pairs_10 rfl rfl rfl (Nat.le_of_ble_eq_true rfl) ⟨Nat.le_of_ble_eq_true rfl, Nat.le_of_ble_eq_true rfl⟩ ⟨Nat.zero_le _, Nat.zero_le _⟩ (gIe ?_)
  refine g_ifb_eq (t := 24) (q := 16) dX3_pairs_13 rfl rfl (fun c_13 => ?_) (fun c_13 => ?_)
  · refine g_iconst (q := 25) dX3_pairs_24 ki_m1 rfl ?_
    refine g_iret dX3_pairs_25 (Nat.zero_le _) (Nat.zero_le _) ?_
    first
      | exact ⟨_, rfl, _, rfl, by unfold q_pairs; rw [if_neg (fun h => c_13 ((in_n (by omega)).mpr h.1))], Kp.rf.s1 rfl⟩
      | exact ⟨_, rfl, _, rfl, by unfold q_pairs; rw [if_neg (fun h => c_21 h.2)], hK⟩
  · obtain ⟨y, hy, rfl⟩ := ixo_of ((in_n (by omega)).mp c_13) (by omega)
    have hy2 := (in_n (by omega)).mp c_13
    refine g_ald0 (q := 17) dX3_pairs_16 rfl ?_
    refine g_ild1 (q := 18) dX3_pairs_17 rfl ?_
    refine m_call (q := 21) hk0 (c_hand hk0 hM.cd _) sv_X3_270 dX3_pairs_18 rfl rfl rfl (Nat.le_of_ble_eq_true rfl) ⟨Nat.le_of_ble_eq_true rfl, Nat.le_of_ble_eq_true rfl⟩ ⟨Nat.zero_le _, Nat.zero_le _⟩ (mgI fun x S' h => ?_)
    obtain ⟨rfl, hK, hJ⟩ := h
    have hK : Kp scr S S' := (Kp.rf.s1 (ks := scr) (k := 0) rfl).then (hK.up hks_scr)
    refine g_ifb_ne (t := 26) (q := 24) dX3_pairs_21 rfl rfl (fun c_21 => ?_) (fun c_21 => ?_)
    · obtain ⟨hH, hBg⟩ := hJ c_21
      obtain ⟨l, hl, rfl⟩ := ixo_of c_21 (by omega)
      rw [nI_clamp (by omega)] at hH
      have hL := (hM.2.2 l hl).2
      have h4 := hL.2.2.2.1
      have h5 := hL.1.2
      have h32 := pow_b hL.1.2
      refine g_ald0 (q := 27) dX3_pairs_26 rfl ?_
      refine m_call (q := 30) hk0 (c_here hk0 hH hL) sv_X3_260 dX3_pairs_27 rfl rfl rfl (Nat.le_of_ble_eq_true rfl) ⟨Nat.le_of_ble_eq_true rfl, Nat.le_of_ble_eq_true rfl⟩ ⟨Nat.zero_le _, Nat.zero_le _⟩ (gL fun r M' hr => ?_)
      obtain ⟨hr, rfl⟩ := hr
      refine g_lst3 (q := 31) dX3_pairs_30 rfl rfl ?_
      refine g_iconst (q := 32) dX3_pairs_31 ki_0 rfl ?_
      refine g_ist5 (q := 34) dX3_pairs_32 rfl rfl ?_
      refine g_iconst (q := 35) dX3_pairs_34 ki_0 rfl ?_
      refine g_ist6 (q := 37) dX3_pairs_35 rfl rfl ?_
      refine lp_pairsOut hk0 hH hL hy ⟨_, rfl, _, rfl, ?_, hK⟩ 0 (Nat.zero_le _) _
      unfold q_pairs
      rw [nI_clamp (n := l) (by omega), nI_clamp (n := y) (by omega), if_pos ⟨hy2, c_21⟩, prs_cong (fun i hi => hr i (by omega))]
    · refine g_iconst (q := 25) dX3_pairs_24 ki_m1 rfl ?_
      refine g_iret dX3_pairs_25 (Nat.zero_le _) (Nat.zero_le _) ?_
      first
        | exact ⟨_, rfl, _, rfl, by unfold q_pairs; rw [if_neg (fun h => c_13 ((in_n (by omega)).mpr h.1))], Kp.rf.s1 rfl⟩
        | exact ⟨_, rfl, _, rfl, by unfold q_pairs; rw [if_neg (fun h => c_21 h.2)], hK⟩
/-- what tells all apart -/
theorem lp_tellIn {h : Int64} {f a : Nat} (ha : a < 32) {Post : Option Value → zM → Prop} (hno : ¬ TellP (bl h) f → Post (some (.int 0)) M) (kk : (∀ b, b < a → bl h a = true → bl h b = true → (a ^^^ b) &&& f ≠ 0) → (GoR E yX3_tellBy cX3_tellBy 6 (some .boolean) 2 0 0) Post 56 [some (.ref o), some (.long h), none, some (.int (nI f)), some (.int (nI a)), some (.int (nI a))] [] M 0 0) (hf : f < 32) :
    ∀ b, b ≤ a → (∀ j, j < b → bl h a = true → bl h j = true → (a ^^^ j) &&& f ≠ 0) → (GoR E yX3_tellBy cX3_tellBy 6 (some .boolean) 2 0 0) Post 13 [some (.ref o), some (.long h), none, some (.int (nI f)), some (.int (nI a)), some (.int (nI b))] [] M 0 0 := by
  refine up_ind _ (fun b hb ih hall => ?_)
  have hx : (a ^^^ b) &&& f ≤ f := Nat.and_le_right
  refine g_ild5 (q := 15) dX3_tellBy_13 rfl ?_
  refine g_ild4 (q := 17) dX3_tellBy_15 rfl ?_
  refine g_icN_ge (t := 56) (q := 20) dX3_tellBy_17 rfl rfl (by omega) (by omega) (fun c_17 => ?_) (fun c_17 => ?_)
  · obtain rfl : b = a := by omega
    exact kk hall
  · refine g_lld1 (q := 21) dX3_tellBy_20 rfl ?_
    refine g_ild4 (q := 23) dX3_tellBy_21 rfl ?_
    refine m_calls (q := 26) (c_has _ _ _ _ (by omega)) ss_X3_115 dX3_tellBy_23 rfl rfl rfl (Nat.le_of_ble_eq_true rfl) ⟨Nat.le_of_ble_eq_true rfl, Nat.le_of_ble_eq_true rfl⟩ ⟨Nat.zero_le _, Nat.zero_le _⟩ (gIe ?_)
    refine g_ifb_eq (t := 50) (q := 29) dX3_tellBy_26 rfl rfl (fun c_26 => ?_) (fun c_26 => ?_)
    · refine g_inc5 (w := nI (b + 1)) (q := 53) dX3_tellBy_50 rfl (nI_1 _) rfl ?_
      refine g_goto (t := 13) dX3_tellBy_53 rfl ?_
      exact ih (by omega) (lt_s hall (fun h1 => absurd h1 c_26))
    · refine g_lld1 (q := 30) dX3_tellBy_29 rfl ?_
      refine g_ild5 (q := 32) dX3_tellBy_30 rfl ?_
      refine m_calls (q := 35) (c_has _ _ _ _ (by omega)) ss_X3_115 dX3_tellBy_32 rfl rfl rfl (Nat.le_of_ble_eq_true rfl) ⟨Nat.le_of_ble_eq_true rfl, Nat.le_of_ble_eq_true rfl⟩ ⟨Nat.zero_le _, Nat.zero_le _⟩ (gIe ?_)
      refine g_ifb_eq (t := 50) (q := 38) dX3_tellBy_35 rfl rfl (fun c_35 => ?_) (fun c_35 => ?_)
      · refine g_inc5 (w := nI (b + 1)) (q := 53) dX3_tellBy_50 rfl (nI_1 _) rfl ?_
        refine g_goto (t := 13) dX3_tellBy_53 rfl ?_
        exact ih (by omega) (lt_s hall (fun _ h1 => absurd h1 c_35))
      · refine g_ild4 (q := 40) dX3_tellBy_38 rfl ?_
        refine g_ild5 (q := 42) dX3_tellBy_40 rfl ?_
        refine g_ixor (q := 43) dX3_tellBy_42 rfl ?_
        refine g_ild3 (q := 44) dX3_tellBy_43 rfl ?_
        refine g_iand (q := 45) dX3_tellBy_44 rfl ?_
        refine g_top ((congrArg (fun z => z &&& nI f) (fb_xorI a b)).trans (nI_and _ _)) ?_
        refine g_if_ne (t := 50) (q := 48) dX3_tellBy_45 rfl rfl (fun c_45 => ?_) (fun c_45 => ?_)
        · refine g_inc5 (w := nI (b + 1)) (q := 53) dX3_tellBy_50 rfl (nI_1 _) rfl ?_
          refine g_goto (t := 13) dX3_tellBy_53 rfl ?_
          exact ih (by omega) (lt_s hall (fun _ _ e => c_45 (by rw [e]; rfl)))
        · refine g_iconst (q := 49) dX3_tellBy_48 ki_0 rfl ?_
          exact g_zret dX3_tellBy_49 rfl (Nat.zero_le _) (Nat.zero_le _) (hno (fun h => h a ha b c_17 c_26 c_35 ((nI_eq (by omega) (by omega)).mp c_45)))
theorem lp_tellOut {h : Int64} {f : Nat} (hf : f < 32) {Post : Option Value → zM → Prop} (hno : ¬ TellP (bl h) f → Post (some (.int 0)) M) (hyes : TellP (bl h) f → Post (some (.int 1)) M) :
    ∀ a, a ≤ 32 → (∀ i, i < a → ∀ b, b < i → bl h i = true → bl h b = true → (i ^^^ b) &&& f ≠ 0) → ∀ x5, (GoR E yX3_tellBy cX3_tellBy 6 (some .boolean) 2 0 0) Post 3 [some (.ref o), some (.long h), none, some (.int (nI f)), some (.int (nI a)), x5] [] M 0 0 := by
  refine up_ind _ (fun a ha ih hall x5 => ?_)
  refine g_ild4 (q := 5) dX3_tellBy_3 rfl ?_
  refine g_bipush (q := 7) dX3_tellBy_5 kb_32 rfl ?_
  refine g_icN_ge (t := 62) (q := 10) dX3_tellBy_7 rfl rfl (by omega) (by omega) (fun c_7 => ?_) (fun c_7 => ?_)
  · obtain rfl : a = 32 := by omega
    refine g_iconst (q := 63) dX3_tellBy_62 ki_1 rfl ?_
    exact g_zret dX3_tellBy_63 rfl (Nat.zero_le _) (Nat.zero_le _) (hyes hall)
  · refine g_iconst (q := 11) dX3_tellBy_10 ki_0 rfl ?_
    refine g_ist5 (q := 13) dX3_tellBy_11 rfl rfl ?_
    refine lp_tellIn (by omega) hno (fun hb => ?_) hf 0 (by omega) (fun j h => by omega)
    refine g_inc4 (w := nI (a + 1)) (q := 59) dX3_tellBy_56 rfl (nI_1 _) rfl ?_
    refine g_goto (t := 3) dX3_tellBy_59 rfl ?_
    exact ih (by omega) (lt_s hall hb) _
theorem c_tellBy (E : zE) (M : zM) (o : Nat) (h : Int64) (f : Nat) (hf : f < 32) : (Con E yX3_tellBy cX3_tellBy 6 (some .boolean) 2 0 0) [.ref o, .long h, .int (nI f)] M (pI (fun x M' => x = bz (dB (TellP (bl h) f) = true) ∧ M' = M)) := by
  refine Go.enter [some (.ref o), some (.long h), none, some (.int (nI f)), none, none] rfl (Nat.le_of_ble_eq_true rfl) rfl (Nat.le_of_ble_eq_true rfl) ?_
  refine g_iconst (q := 1) dX3_tellBy_0 ki_0 rfl ?_
  refine g_ist4 (q := 3) dX3_tellBy_1 rfl rfl ?_
  exact lp_tellOut hf (fun h => ⟨_, rfl, (bz_f (by rw [dB_f h]; decide)).symm, rfl⟩) (fun h => ⟨_, rfl, (bz_t (dB_t h)).symm, rfl⟩) 0 (by omega) (fun i h => by omega) _
theorem TellP_cong {p q : Nat → Bool} {f : Nat} (h : ∀ i, i < 32 → p i = q i) : TellP p f ↔ TellP q f := by
  unfold TellP
  constructor
  · intro g a ha b hb h1 h2
    exact g a ha b hb (by rw [h a ha]; exact h1) (by rw [h b (by omega)]; exact h2)
  · intro g a ha b hb h1 h2
    exact g a ha b hb (by rw [← h a ha]; exact h1) (by rw [← h b (by omega)]; exact h2)
theorem lp_tells (hk0 : Sk E M o) (hH : Hand S L) (hL : LOK L) {l : Int32} {Post : Option Value → zM → Prop} (hpost : Post (some (.int (tlB (hB L) (2 ^ vB L)))) (mv M o S)) :
    ∀ k, k ≤ 2 ^ vB L → (GoR E yX3_tells cX3_tells 4 (some .int) 4 0 0) Post 19 [some (.ref o), some (.int l), some (.int (tlB (hB L) k)), some (.int (nI k))] [] (mv M o S) 0 0 := by
  have h32 := pow_b hL.1.2
  have h5 := hL.1.2
  refine up_ind _ (fun k hk ih => ?_)
  have p1 : pcI (nI k) ≤ 32 := fb_ct_le _ _
  have p2 : pcI (tlB (hB L) k) ≤ 32 := fb_ct_le _ _
  have J : k < 2 ^ vB L → (tlB (hB L) k = -1 ∨ pcI (nI k) < pcI (tlB (hB L) k)) → (GoR E yX3_tells cX3_tells 4 (some .int) 4 0 0) Post 47 [some (.ref o), some (.int l), some (.int (tlB (hB L) k)), some (.int (nI k))] [] (mv M o S) 0 0 := by
    intro hkl hc
    refine g_ald0 (q := 48) dX3_tells_47 rfl ?_
    refine g_ald0 (q := 49) dX3_tells_48 rfl ?_
    refine m_call (q := 52) hk0 (c_here hk0 hH hL) sv_X3_260 dX3_tells_49 rfl rfl rfl (Nat.le_of_ble_eq_true rfl) ⟨Nat.le_of_ble_eq_true rfl, Nat.le_of_ble_eq_true rfl⟩ ⟨Nat.zero_le _, Nat.zero_le _⟩ (gL fun r M' hr => ?_)
    obtain ⟨hr, rfl⟩ := hr
    refine g_ild3 (q := 53) dX3_tells_52 rfl ?_
    refine m_call (q := 56) hk0 (c_tellBy E _ o r k (by omega)) sv_X3_485 dX3_tells_53 rfl rfl rfl (Nat.le_of_ble_eq_true rfl) ⟨Nat.le_of_ble_eq_true rfl, Nat.le_of_ble_eq_true rfl⟩ ⟨Nat.zero_le _, Nat.zero_le _⟩ (gIe ?_)
    refine g_ifb_eq (t := 63) (q := 59) dX3_tells_56 rfl rfl (fun c_56 => ?_) (fun c_56 => ?_)
    · refine g_ild2 (q := 64) dX3_tells_63 rfl ?_
      refine g_ist2 (q := 65) dX3_tells_64 rfl rfl ?_
      refine g_inc3 (w := nI (k + 1)) (q := 68) dX3_tells_65 rfl (nI_1 _) rfl ?_
      refine g_goto (t := 19) dX3_tells_68 rfl ?_
      have := ih (by omega)
      rw [tlB_succ, if_neg (fun h => c_56 (dB_t ((TellP_cong (fun i hi => hr i (by omega))).mpr (dB_iff.mp h.2))))] at this
      exact this
    · refine g_ild3 (q := 60) dX3_tells_59 rfl ?_
      refine g_goto (t := 64) dX3_tells_60 rfl ?_
      refine g_ist2 (q := 65) dX3_tells_64 rfl rfl ?_
      refine g_inc3 (w := nI (k + 1)) (q := 68) dX3_tells_65 rfl (nI_1 _) rfl ?_
      refine g_goto (t := 19) dX3_tells_68 rfl ?_
      have := ih (by omega)
      rw [tlB_succ, if_pos ⟨hc, dB_t ((TellP_cong (fun i hi => hr i (by omega))).mp (dB_iff.mp c_56))⟩] at this
      exact this
  refine g_ild3 (q := 20) dX3_tells_19 rfl ?_
  refine g_iconst (q := 21) dX3_tells_20 ki_1 rfl ?_
  refine g_ald0 (q := 22) dX3_tells_21 rfl ?_
  refine m_getI (q := 25) hk0 fs_X3_234 dX3_tells_22 rfl rfl rfl ?_
  refine g_top hH.1 ?_
  refine g_ishl (q := 26) dX3_tells_25 rfl ?_
  refine g_top (shl1 _ (by omega)) ?_
  refine g_icN_ge (t := 71) (q := 29) dX3_tells_26 rfl rfl (by omega) (by omega) (fun c_26 => ?_) (fun c_26 => ?_)
  · obtain rfl : k = 2 ^ vB L := by omega
    refine g_ild2 (q := 72) dX3_tells_71 rfl ?_
    exact g_iret dX3_tells_72 (Nat.zero_le _) (Nat.zero_le _) hpost
  · refine g_ild2 (q := 30) dX3_tells_29 rfl ?_
    refine g_iconst (q := 31) dX3_tells_30 ki_m1 rfl ?_
    refine g_ic_eq (t := 47) (q := 34) dX3_tells_31 rfl rfl (fun c_31 => ?_) (fun c_31 => ?_)
    · exact J c_26 (Or.inl c_31)
    · refine g_ild3 (q := 35) dX3_tells_34 rfl ?_
      refine g_i2l (q := 36) dX3_tells_35 rfl ?_
      refine m_calls (q := 39) (c_ones _ _ _) ss_X3_253 dX3_tells_36 rfl rfl rfl (Nat.le_of_ble_eq_true rfl) ⟨Nat.le_of_ble_eq_true rfl, Nat.le_of_ble_eq_true rfl⟩ ⟨Nat.zero_le _, Nat.zero_le _⟩ (gIe ?_)
      rw [pc_long]
      refine g_ild2 (q := 40) dX3_tells_39 rfl ?_
      refine g_i2l (q := 41) dX3_tells_40 rfl ?_
      refine m_calls (q := 44) (c_ones _ _ _) ss_X3_253 dX3_tells_41 rfl rfl rfl (Nat.le_of_ble_eq_true rfl) ⟨Nat.le_of_ble_eq_true rfl, Nat.le_of_ble_eq_true rfl⟩ ⟨Nat.zero_le _, Nat.zero_le _⟩ (gIe ?_)
      rw [pc_long]
      refine g_icN_ge (t := 63) (q := 47) dX3_tells_44 rfl rfl (by omega) (by omega) (fun c_44 => ?_) (fun c_44 => ?_)
      · refine g_ild2 (q := 64) dX3_tells_63 rfl ?_
        refine g_ist2 (q := 65) dX3_tells_64 rfl rfl ?_
        refine g_inc3 (w := nI (k + 1)) (q := 68) dX3_tells_65 rfl (nI_1 _) rfl ?_
        refine g_goto (t := 19) dX3_tells_68 rfl ?_
        have := ih (by omega)
        rw [tlB_succ, if_neg (fun h => h.1.elim c_31 (fun e => absurd e (by omega)))] at this
        exact this
      · exact J c_26 (Or.inr c_44)
theorem c_tells (hk0 : Sk E M o) (hM : MLs S n Ls) (l : Int32) : (Con E yX3_tells cX3_tells 4 (some .int) 4 0 0) [.ref o, .int l] (mv M o S) (pI (fun x => mP M o (fun S' => x = q_tells n Ls l ∧ Kp scr S S'))) := by
  have h2 := hM.1
  refine Go.enter [some (.ref o), some (.int l), none, none] rfl (Nat.le_of_ble_eq_true rfl) rfl (Nat.le_of_ble_eq_true rfl) ?_
  refine g_ald0 (q := 1) dX3_tells_0 rfl ?_
  refine g_iconst (q := 2) dX3_tells_1 ki_0 rfl ?_
  refine m_putI (q := 5) hk0 fs_X3_111 dX3_tells_2 rfl rfl rfl ?_
  refine g_ald0 (q := 6) dX3_tells_5 rfl ?_
  refine g_ild1 (q := 7) dX3_tells_6 rfl ?_
  refine m_call (q := 10) hk0 (c_hand hk0 hM.cd _) sv_X3_270 dX3_tells_7 rfl rfl rfl (Nat.le_of_ble_eq_true rfl) ⟨Nat.le_of_ble_eq_true rfl, Nat.le_of_ble_eq_true rfl⟩ ⟨Nat.zero_le _, Nat.zero_le _⟩ (mgI fun x S' h => ?_)
  obtain ⟨rfl, hK, hJ⟩ := h
  have hK : Kp scr S S' := (Kp.rf.s1 (ks := scr) (k := 0) rfl).then (hK.up hks_scr)
  refine g_ifb_ne (t := 15) (q := 13) dX3_tells_10 rfl rfl (fun c_10 => ?_) (fun c_10 => ?_)
  · obtain ⟨hH, hBg⟩ := hJ c_10
    obtain ⟨l, hl, rfl⟩ := ixo_of c_10 (by omega)
    rw [nI_clamp (by omega)] at hH
    have hL := (hM.2.2 l hl).2
    have h4 := hL.2.2.2.1
    have h5 := hL.1.2
    have h32 := pow_b hL.1.2
    refine g_iconst (q := 16) dX3_tells_15 ki_m1 rfl ?_
    refine g_ist2 (q := 17) dX3_tells_16 rfl rfl ?_
    refine g_iconst (q := 18) dX3_tells_17 ki_0 rfl ?_
    refine g_ist3 (q := 19) dX3_tells_18 rfl rfl ?_
    refine lp_tells hk0 hH hL ⟨_, rfl, _, rfl, ?_, hK⟩ 0 (Nat.zero_le _)
    unfold q_tells
    rw [nI_clamp (by omega), if_pos c_10]
  · refine g_iconst (q := 14) dX3_tells_13 ki_m1 rfl ?_
    refine g_iret dX3_tells_14 (Nat.zero_le _) (Nat.zero_le _) ?_
    exact ⟨_, rfl, _, rfl, by unfold q_tells; rw [if_neg c_10], hK⟩
end MQ5

