set_option maxRecDepth 100000
/-- the best order so far, and what it needs -/
noncomputable def bsF (L : LV) : Nat → Int32 × Nat
  | 0 => (-1, 0)
  | k + 1 => if dB (isOrd (vN L) k) = true ∧ ((bsF L k).1 = -1 ∨ fS L (og (vN L) k) (vN L) < (bsF L k).2) then (nI k, fS L (og (vN L) k) (vN L)) else bsF L k
theorem bsF_succ (L : LV) (k : Nat) : bsF L (k + 1) = if dB (isOrd (vN L) k) = true ∧ ((bsF L k).1 = -1 ∨ fS L (og (vN L) k) (vN L) < (bsF L k).2) then (nI k, fS L (og (vN L) k) (vN L)) else bsF L k := rfl
theorem bsF_ok {L : LV} (hL : LOK L) : ∀ k, (bsF L k).2 ≤ 4000 ∧ ((bsF L k).1 = -1 ∨ ∃ j, j < k ∧ (bsF L k).1 = nI j ∧ isOrd (vN L) j)
  | 0 => ⟨Nat.zero_le _, Or.inl rfl⟩
  | k + 1 => by
    have h := bsF_ok hL k
    rw [bsF_succ]
    split
    · rename_i hc
      exact ⟨fS_le hL _ hL.2.2.2.1, Or.inr ⟨k, by omega, rfl, dB_iff.mp hc.1⟩⟩
    · exact ⟨h.1, h.2.elim Or.inl (fun ⟨j, h1, h2⟩ => Or.inr ⟨j, by omega, h2⟩)⟩
theorem bsF_keep (L : LV) (k : Nat) (h : (bsF L k).1 ≠ -1) : ∀ m, k ≤ m → m < 2 ^ 31 → (bsF L m).1 ≠ -1 := by
  intro m hm
  induction m with
  | zero => intro _; rw [show k = 0 by omega] at h; exact h
  | succ m ih =>
    intro h31
    by_cases e : k = m + 1
    · rw [← e]; exact h
    · rw [bsF_succ]
      split
      · exact nI_m1 (by omega)
      · exact ih (by omega) (by omega)
theorem bsF_some {L : LV} {k : Nat} (hk : isOrd (vN L) k) (h31 : k < 2 ^ 31) : (bsF L (k + 1)).1 ≠ -1 := by
  rw [bsF_succ]
  split
  · exact nI_m1 h31
  · rename_i hc
    intro e
    exact hc ⟨dB_t hk, Or.inl e⟩
/-- there is an order -/
theorem isOrd_ex {ns : Nat} (h1 : 1 ≤ ns) (h4 : ns ≤ 4) : ∃ k, k < 10000 ∧ isOrd ns k := by
  rcases (show ns = 1 ∨ ns = 2 ∨ ns = 3 ∨ ns = 4 by omega) with rfl | rfl | rfl | rfl
  · exact ⟨0, by decide, by decide, fun b hb => ⟨b, hb, by rcases (show b = 0 by omega) with rfl; decide⟩⟩
  · exact ⟨10, by decide, by decide, fun b hb => ⟨b, hb, by rcases (show b = 0 ∨ b = 1 by omega) with rfl | rfl <;> decide⟩⟩
  · exact ⟨210, by decide, by decide, fun b hb => ⟨b, hb, by rcases (show b = 0 ∨ b = 1 ∨ b = 2 by omega) with rfl | rfl | rfl <;> decide⟩⟩
  · exact ⟨3210, by decide, by decide, fun b hb => ⟨b, hb, by rcases (show b = 0 ∨ b = 1 ∨ b = 2 ∨ b = 3 by omega) with rfl | rfl | rfl | rfl <;> decide⟩⟩
noncomputable def q_best (n : Nat) (Ls : Nat → LV) (l i : Int32) : Int32 := if ixo l n ∧ ¬ fW (Ls l.toNatClampNeg) = 0 ∧ ixo i (vN (Ls l.toNatClampNeg)) then nI (og (vN (Ls l.toNatClampNeg)) (bsF (Ls l.toNatClampNeg) 10000).1.toNatClampNeg i.toNatClampNeg) else -1
section MMean
variable {E : zE} {M : zM} {o : Nat} {S S0 : zS} {n : Nat} {Ls : Nat → LV} {L : LV}
theorem c_mean (hk0 : Sk E M o) (hM : MLs S n Ls) (l ord y : Int32) : (Con E yX3_mean cX3_mean 7 (some .int) 4 0 0) [.ref o, .int l, .int ord, .int y] (mv M o S) (pI (fun x => mP M o (fun S' => x = q_mean n Ls l ord y ∧ Kp scr S S'))) := by
  have h2 := hM.1
  refine Go.enter [some (.ref o), some (.int l), some (.int ord), some (.int y), none, none, none] rfl (Nat.le_of_ble_eq_true rfl) rfl (Nat.le_of_ble_eq_true rfl) ?_
  refine g_ald0 (q := 1) dX3_mean_0 rfl ?_
  refine g_iconst (q := 2) dX3_mean_1 ki_0 rfl ?_
  refine m_putI (q := 5) hk0 fs_X3_111 dX3_mean_2 rfl rfl rfl ?_
  refine g_ald0 (q := 6) dX3_mean_5 rfl ?_
  refine g_ild1 (q := 7) dX3_mean_6 rfl ?_
  refine m_call (q := 10) hk0 (c_hand hk0 hM.cd _) sv_X3_270 dX3_mean_7 rfl rfl rfl (Nat.le_of_ble_eq_true rfl) ⟨Nat.le_of_ble_eq_true rfl, Nat.le_of_ble_eq_true rfl⟩ ⟨Nat.zero_le _, Nat.zero_le _⟩ (mgI fun x S' h => ?_)
  obtain ⟨rfl, hK, hJ⟩ := h
  have hK : Kp scr S S' := (Kp.rf.s1 (ks := scr) (k := 0) rfl).then (hK.up hks_scr)
  refine g_ifb_eq (t := 28) (q := 13) dX3_mean_10 rfl rfl (fun c_10 => ?_) (fun c_10 => ?_)
  · refine g_iconst (q := 29) dX3_mean_28 ki_m1 rfl ?_
    refine g_iret dX3_mean_29 (Nat.zero_le _) (Nat.zero_le _) ?_
    exact ⟨_, rfl, _, rfl, by unfold q_mean; rw [if_neg (fun h => c_10 h.1)], hK⟩
  · obtain ⟨hH, hBg⟩ := hJ c_10
    obtain ⟨l, hl, rfl⟩ := ixo_of c_10 (by omega)
    rw [nI_clamp (by omega)] at hH
    have hL := (hM.2.2 l hl).2
    have h4 := hL.2.2.2.1
    have h5 := hL.1.2
    have h32 := pow_b hL.1.2
    refine g_ald0 (q := 14) dX3_mean_13 rfl ?_
    refine m_call (q := 17) hk0 (c_weights hk0 hH hL) sv_X3_371 dX3_mean_14 rfl rfl rfl (Nat.le_of_ble_eq_true rfl) ⟨Nat.le_of_ble_eq_true rfl, Nat.le_of_ble_eq_true rfl⟩ ⟨Nat.zero_le _, Nat.zero_le _⟩ (gIe ?_)
    have hw := fW_le hL
    refine g_top (show _ = nI (fW (Ls l)) from rfl) ?_
    refine g_if_eq (t := 28) (q := 20) dX3_mean_17 rfl rfl (fun c_17 => ?_) (fun c_17 => ?_)
    · refine g_iconst (q := 29) dX3_mean_28 ki_m1 rfl ?_
      refine g_iret dX3_mean_29 (Nat.zero_le _) (Nat.zero_le _) ?_
      exact ⟨_, rfl, _, rfl, by unfold q_mean; rw [nI_clamp (n := l) (by omega), if_neg (fun h => h.2.1 ((nI_eq (b := 0) (by omega) (by omega)).mp c_17))], hK⟩
    · have hw0 : ¬ fW (Ls l) = 0 := fun e => c_17 (by rw [e]; rfl)
      by_cases hneg : ord < 0
      · refine g_ald0 (q := 21) dX3_mean_20 rfl ?_
        refine g_ild2 (q := 22) dX3_mean_21 rfl ?_
        refine m_call (q := 25) hk0 (c_isOrderN hk0 hH.2.2.2.1 h4 ord hneg) sv_X3_374 dX3_mean_22 rfl rfl rfl (Nat.le_of_ble_eq_true rfl) ⟨Nat.le_of_ble_eq_true rfl, Nat.le_of_ble_eq_true rfl⟩ ⟨Nat.zero_le _, Nat.zero_le _⟩ (mgI fun x S2 h3 => ?_)
        obtain ⟨rfl, hK2⟩ := h3
        refine g_if_ne (t := 30) (q := 28) dX3_mean_25 rfl rfl (fun c_ => absurd c_ (by decide)) (fun _ => ?_)
        refine g_iconst (q := 29) dX3_mean_28 ki_m1 rfl ?_
        refine g_iret dX3_mean_29 (Nat.zero_le _) (Nat.zero_le _) ?_
        exact ⟨_, rfl, _, rfl, by unfold q_mean; rw [if_neg (fun h => h.2.2.1 hneg)], hK.then (hK2.up ord_scr)⟩
      · obtain ⟨N, hN, rfl⟩ := nI_of hneg
        refine g_ald0 (q := 21) dX3_mean_20 rfl ?_
        refine g_ild2 (q := 22) dX3_mean_21 rfl ?_
        refine m_call (q := 25) hk0 (c_isOrder hk0 hH.2.2.2.1 h4 N hN) sv_X3_374 dX3_mean_22 rfl rfl rfl (Nat.le_of_ble_eq_true rfl) ⟨Nat.le_of_ble_eq_true rfl, Nat.le_of_ble_eq_true rfl⟩ ⟨Nat.zero_le _, Nat.zero_le _⟩ (mgI fun x S2 h3 => ?_)
        obtain ⟨rfl, hK2, hO⟩ := h3
        have hH2 := hH.ord hK2
        have hK3 := hK.then (hK2.up ord_scr)
        have hfs := fS_le hL (og (vN (Ls l)) N) h4
        refine g_ifb_ne (t := 30) (q := 28) dX3_mean_25 rfl rfl (fun c_25 => ?_) (fun c_25 => ?_)
        · have hord := dB_iff.mp c_25
          have hg1 : Nat.gcd (fS (Ls l) (og (vN (Ls l)) N) (vN (Ls l))) (2 * fW (Ls l)) ≤ 2 * fW (Ls l) := Nat.gcd_le_right _ (by omega)
          have hg0 : 0 < Nat.gcd (fS (Ls l) (og (vN (Ls l)) N) (vN (Ls l))) (2 * fW (Ls l)) := Nat.gcd_pos_of_pos_right _ (by omega)
          refine g_ald0 (q := 31) dX3_mean_30 rfl ?_
          refine m_call (q := 34) hk0 (c_feltBy (q := og (vN (Ls l)) N) hk0 hH2 hL (fun i hi => hord.og hi) hO) sv_X3_377 dX3_mean_31 rfl rfl rfl (Nat.le_of_ble_eq_true rfl) ⟨Nat.le_of_ble_eq_true rfl, Nat.le_of_ble_eq_true rfl⟩ ⟨Nat.zero_le _, Nat.zero_le _⟩ (gIe ?_)
          refine g_ist4 (q := 36) dX3_mean_34 rfl rfl ?_
          refine g_iconst (q := 37) dX3_mean_36 ki_2 rfl ?_
          refine g_ald0 (q := 38) dX3_mean_37 rfl ?_
          refine m_call (q := 41) hk0 (c_weights hk0 hH2 hL) sv_X3_371 dX3_mean_38 rfl rfl rfl (Nat.le_of_ble_eq_true rfl) ⟨Nat.le_of_ble_eq_true rfl, Nat.le_of_ble_eq_true rfl⟩ ⟨Nat.zero_le _, Nat.zero_le _⟩ (gIe ?_)
          refine g_top (show _ = nI (fW (Ls l)) from rfl) ?_
          refine g_imulN (q := 42) dX3_mean_41 rfl ?_
          refine g_ist5 (q := 44) dX3_mean_42 rfl rfl ?_
          refine g_ild4 (q := 46) dX3_mean_44 rfl ?_
          refine g_ild5 (q := 48) dX3_mean_46 rfl ?_
          refine m_calls (q := 51) (c_common E _ (fS (Ls l) (og (vN (Ls l)) N) (vN (Ls l))) (2 * fW (Ls l)) (by omega) (by omega)) ss_X3_380 dX3_mean_48 rfl rfl rfl (Nat.le_of_ble_eq_true rfl) ⟨Nat.le_of_ble_eq_true rfl, Nat.le_of_ble_eq_true rfl⟩ ⟨Nat.zero_le _, Nat.zero_le _⟩ (gIe ?_)
          refine g_ist6 (q := 53) dX3_mean_51 rfl rfl ?_
          refine g_ild3 (q := 54) dX3_mean_53 rfl ?_
          refine g_if_eq (t := 65) (q := 57) dX3_mean_54 rfl rfl (fun c_54 => ?_) (fun c_54 => ?_)
          · refine g_ild4 (q := 67) dX3_mean_65 rfl ?_
            refine g_ild6 (q := 69) dX3_mean_67 rfl ?_
            refine g_idivN (q := 70) dX3_mean_69 (by omega) (by omega) (by omega) rfl ?_
            refine g_iret dX3_mean_70 (Nat.zero_le _) (Nat.zero_le _) ?_
            exact ⟨_, rfl, _, rfl, by unfold q_mean; rw [nI_clamp (n := l) (by omega), nI_clamp (n := N) hN, if_pos ⟨c_10, hw0, hneg, c_25⟩]; unfold meA; rw [if_pos c_54], hK3⟩
          · refine g_ild5 (q := 59) dX3_mean_57 rfl ?_
            refine g_ild6 (q := 61) dX3_mean_59 rfl ?_
            refine g_idivN (q := 62) dX3_mean_61 (by omega) (by omega) (by omega) rfl ?_
            refine g_goto (t := 70) dX3_mean_62 rfl ?_
            refine g_iret dX3_mean_70 (Nat.zero_le _) (Nat.zero_le _) ?_
            exact ⟨_, rfl, _, rfl, by unfold q_mean; rw [nI_clamp (n := l) (by omega), nI_clamp (n := N) hN, if_pos ⟨c_10, hw0, hneg, c_25⟩]; unfold meA; rw [if_neg c_54], hK3⟩
        · refine g_iconst (q := 29) dX3_mean_28 ki_m1 rfl ?_
          refine g_iret dX3_mean_29 (Nat.zero_le _) (Nat.zero_le _) ?_
          exact ⟨_, rfl, _, rfl, by unfold q_mean; rw [nI_clamp (n := l) (by omega), nI_clamp (n := N) hN, if_neg (fun h => c_25 h.2.2.2)], hK3⟩
theorem lp_best (hk0 : Sk E M o) (hH : Hand S0 L) (hL : LOK L) {l : Int32} {i : Nat} {Post : Option Value → zM → Prop} (kk : ∀ S', Kp [45] S0 S' → (GoR E yX3_best cX3_best 6 (some .int) 4 0 0) Post 84 [some (.ref o), some (.int l), some (.int (nI i)), some (.int (bsF L 10000).1), some (.int (nI (bsF L 10000).2)), some (.int (nI 10000))] [] (mv M o S') 0 0) :
    ∀ k, k ≤ 10000 → ∀ S', Kp [45] S0 S' → (GoR E yX3_best cX3_best 6 (some .int) 4 0 0) Post 38 [some (.ref o), some (.int l), some (.int (nI i)), some (.int (bsF L k).1), some (.int (nI (bsF L k).2)), some (.int (nI k))] [] (mv M o S') 0 0 := by
  have h4 := hL.2.2.2.1
  refine up_ind _ (fun k hk ih S' hK => ?_)
  obtain ⟨hle, -⟩ := bsF_ok hL k
  have hfs := fS_le hL (og (vN L) k) h4
  refine g_ild5 (q := 40) dX3_best_38 rfl ?_
  refine g_sipush (q := 43) dX3_best_40 ks_10000 rfl ?_
  refine g_icN_ge (t := 84) (q := 46) dX3_best_43 rfl rfl (by omega) (by omega) (fun c_43 => ?_) (fun c_43 => ?_)
  · obtain rfl : k = 10000 := by omega
    exact kk S' hK
  · refine g_ald0 (q := 47) dX3_best_46 rfl ?_
    refine g_ild5 (q := 49) dX3_best_47 rfl ?_
    refine m_call (q := 52) hk0 (c_isOrder hk0 (hH.ord hK).2.2.2.1 h4 k (by omega)) sv_X3_374 dX3_best_49 rfl rfl rfl (Nat.le_of_ble_eq_true rfl) ⟨Nat.le_of_ble_eq_true rfl, Nat.le_of_ble_eq_true rfl⟩ ⟨Nat.zero_le _, Nat.zero_le _⟩ (mgI fun x S2 h3 => ?_)
    obtain ⟨rfl, hK2, hO⟩ := h3
    have hK3 := hK.then hK2
    refine g_ifb_eq (t := 78) (q := 55) dX3_best_52 rfl rfl (fun c_52 => ?_) (fun c_52 => ?_)
    · refine g_inc5 (w := nI (k + 1)) (q := 81) dX3_best_78 rfl (nI_1 _) rfl ?_
      refine g_goto (t := 38) dX3_best_81 rfl ?_
      have := ih (by omega)
      rw [bsF_succ, if_neg (fun h => c_52 h.1)] at this
      exact this _ hK3
    · refine g_ild3 (q := 56) dX3_best_55 rfl ?_
      refine g_iconst (q := 57) dX3_best_56 ki_m1 rfl ?_
      refine g_ic_eq (t := 69) (q := 60) dX3_best_57 rfl rfl (fun c_57 => ?_) (fun c_57 => ?_)
      · refine g_ild5 (q := 71) dX3_best_69 rfl ?_
        refine g_ist3 (q := 72) dX3_best_71 rfl rfl ?_
        refine g_ald0 (q := 73) dX3_best_72 rfl ?_
        refine m_call (q := 76) hk0 (c_feltBy (q := og (vN L) k) hk0 (hH.ord hK3) hL (fun i hi => (dB_iff.mp c_52).og hi) hO) sv_X3_377 dX3_best_73 rfl rfl rfl (Nat.le_of_ble_eq_true rfl) ⟨Nat.le_of_ble_eq_true rfl, Nat.le_of_ble_eq_true rfl⟩ ⟨Nat.zero_le _, Nat.zero_le _⟩ (gIe ?_)
        refine g_ist4 (q := 78) dX3_best_76 rfl rfl ?_
        refine g_inc5 (w := nI (k + 1)) (q := 81) dX3_best_78 rfl (nI_1 _) rfl ?_
        refine g_goto (t := 38) dX3_best_81 rfl ?_
        have := ih (by omega)
        rw [bsF_succ, if_pos ⟨c_52, Or.inl c_57⟩] at this
        exact this _ hK3
      · refine g_ald0 (q := 61) dX3_best_60 rfl ?_
        refine m_call (q := 64) hk0 (c_feltBy (q := og (vN L) k) hk0 (hH.ord hK3) hL (fun i hi => (dB_iff.mp c_52).og hi) hO) sv_X3_377 dX3_best_61 rfl rfl rfl (Nat.le_of_ble_eq_true rfl) ⟨Nat.le_of_ble_eq_true rfl, Nat.le_of_ble_eq_true rfl⟩ ⟨Nat.zero_le _, Nat.zero_le _⟩ (gIe ?_)
        refine g_ild4 (q := 66) dX3_best_64 rfl ?_
        refine g_icN_ge (t := 78) (q := 69) dX3_best_66 rfl rfl (by omega) (by omega) (fun c_66 => ?_) (fun c_66 => ?_)
        · refine g_inc5 (w := nI (k + 1)) (q := 81) dX3_best_78 rfl (nI_1 _) rfl ?_
          refine g_goto (t := 38) dX3_best_81 rfl ?_
          have := ih (by omega)
          rw [bsF_succ, if_neg (fun h => h.2.elim c_57 (fun e => absurd e (by omega)))] at this
          exact this _ hK3
        · refine g_ild5 (q := 71) dX3_best_69 rfl ?_
          refine g_ist3 (q := 72) dX3_best_71 rfl rfl ?_
          refine g_ald0 (q := 73) dX3_best_72 rfl ?_
          refine m_call (q := 76) hk0 (c_feltBy (q := og (vN L) k) hk0 (hH.ord hK3) hL (fun i hi => (dB_iff.mp c_52).og hi) hO) sv_X3_377 dX3_best_73 rfl rfl rfl (Nat.le_of_ble_eq_true rfl) ⟨Nat.le_of_ble_eq_true rfl, Nat.le_of_ble_eq_true rfl⟩ ⟨Nat.zero_le _, Nat.zero_le _⟩ (gIe ?_)
          refine g_ist4 (q := 78) dX3_best_76 rfl rfl ?_
          refine g_inc5 (w := nI (k + 1)) (q := 81) dX3_best_78 rfl (nI_1 _) rfl ?_
          refine g_goto (t := 38) dX3_best_81 rfl ?_
          have := ih (by omega)
          rw [bsF_succ, if_pos ⟨c_52, Or.inr c_66⟩] at this
          exact this _ hK3
theorem c_best (hk0 : Sk E M o) (hM : MLs S n Ls) (l i : Int32) : (Con E yX3_best cX3_best 6 (some .int) 4 0 0) [.ref o, .int l, .int i] (mv M o S) (pI (fun x => mP M o (fun S' => x = q_best n Ls l i ∧ Kp scr S S'))) := by
  have h2 := hM.1
  refine Go.enter [some (.ref o), some (.int l), some (.int i), none, none, none] rfl (Nat.le_of_ble_eq_true rfl) rfl (Nat.le_of_ble_eq_true rfl) ?_
  refine g_ald0 (q := 1) dX3_best_0 rfl ?_
  refine g_iconst (q := 2) dX3_best_1 ki_0 rfl ?_
  refine m_putI (q := 5) hk0 fs_X3_111 dX3_best_2 rfl rfl rfl ?_
  refine g_ald0 (q := 6) dX3_best_5 rfl ?_
  refine g_ild1 (q := 7) dX3_best_6 rfl ?_
  refine m_call (q := 10) hk0 (c_hand hk0 hM.cd _) sv_X3_270 dX3_best_7 rfl rfl rfl (Nat.le_of_ble_eq_true rfl) ⟨Nat.le_of_ble_eq_true rfl, Nat.le_of_ble_eq_true rfl⟩ ⟨Nat.zero_le _, Nat.zero_le _⟩ (mgI fun x S' h => ?_)
  obtain ⟨rfl, hK, hJ⟩ := h
  have hK : Kp scr S S' := (Kp.rf.s1 (ks := scr) (k := 0) rfl).then (hK.up hks_scr)
  refine g_ifb_eq (t := 28) (q := 13) dX3_best_10 rfl rfl (fun c_10 => ?_) (fun c_10 => ?_)
  · refine g_iconst (q := 29) dX3_best_28 ki_m1 rfl ?_
    refine g_iret dX3_best_29 (Nat.zero_le _) (Nat.zero_le _) ?_
    exact ⟨_, rfl, _, rfl, by unfold q_best; rw [if_neg (fun h => c_10 h.1)], hK⟩
  · obtain ⟨hH, hBg⟩ := hJ c_10
    obtain ⟨l, hl, rfl⟩ := ixo_of c_10 (by omega)
    rw [nI_clamp (by omega)] at hH
    have hL := (hM.2.2 l hl).2
    have h4 := hL.2.2.2.1
    have h5 := hL.1.2
    have h32 := pow_b hL.1.2
    refine g_ald0 (q := 14) dX3_best_13 rfl ?_
    refine m_call (q := 17) hk0 (c_weights hk0 hH hL) sv_X3_371 dX3_best_14 rfl rfl rfl (Nat.le_of_ble_eq_true rfl) ⟨Nat.le_of_ble_eq_true rfl, Nat.le_of_ble_eq_true rfl⟩ ⟨Nat.zero_le _, Nat.zero_le _⟩ (gIe ?_)
    have hw := fW_le hL
    refine g_top (show _ = nI (fW (Ls l)) from rfl) ?_
    refine g_if_eq (t := 28) (q := 20) dX3_best_17 rfl rfl (fun c_17 => ?_) (fun c_17 => ?_)
    · refine g_iconst (q := 29) dX3_best_28 ki_m1 rfl ?_
      refine g_iret dX3_best_29 (Nat.zero_le _) (Nat.zero_le _) ?_
      exact ⟨_, rfl, _, rfl, by unfold q_best; rw [nI_clamp (n := l) (by omega), if_neg (fun h => h.2.1 ((nI_eq (b := 0) (by omega) (by omega)).mp c_17))], hK⟩
    · refine g_ald0 (q := 21) dX3_best_20 rfl ?_
      refine g_ild2 (q := 22) dX3_best_21 rfl ?_
      refine m_call (q := 25) hk0 (c_isShelf hk0 hH hL _) sv_X3_246 dX3_best_22 rfl rfl rfl (Nat.le_of_ble_eq_true rfl) ⟨Nat.le_of_ble_eq_true rfl, Nat.le_of_ble_eq_true rfl⟩ ⟨Nat.zero_le _, Nat.zero_le _⟩ (gIe ?_)
      refine g_ifb_ne (t := 30) (q := 28) dX3_best_25 rfl rfl (fun c_25 => ?_) (fun c_25 => ?_)
      · have hw0 : ¬ fW (Ls l) = 0 := fun e => c_17 (by rw [e]; rfl)
        obtain ⟨i, hi, rfl⟩ := ixo_of c_25 (by omega)
        obtain ⟨k0, hk1, hk2⟩ := isOrd_ex (ns := vN (Ls l)) (by omega) h4
        obtain ⟨-, hbs⟩ := bsF_ok hL 10000
        obtain ⟨j, hj, hbj, hjo⟩ := hbs.resolve_left (bsF_keep (Ls l) (k0 + 1) (bsF_some hk2 (by omega)) 10000 (by omega) (by decide))
        refine g_iconst (q := 31) dX3_best_30 ki_m1 rfl ?_
        refine g_ist3 (q := 32) dX3_best_31 rfl rfl ?_
        refine g_iconst (q := 33) dX3_best_32 ki_0 rfl ?_
        refine g_ist4 (q := 35) dX3_best_33 rfl rfl ?_
        refine g_iconst (q := 36) dX3_best_35 ki_0 rfl ?_
        refine g_ist5 (q := 38) dX3_best_36 rfl rfl ?_
        refine lp_best (L := Ls l) hk0 hH hL (fun S2 hK2 => ?_) 0 (by omega) S' Kp.rf
        rw [hbj]
        refine g_ald0 (q := 85) dX3_best_84 rfl ?_
        refine g_ild3 (q := 86) dX3_best_85 rfl ?_
        refine m_call (q := 89) hk0 (c_isOrder hk0 (hH.ord hK2).2.2.2.1 h4 j (by omega)) sv_X3_374 dX3_best_86 rfl rfl rfl (Nat.le_of_ble_eq_true rfl) ⟨Nat.le_of_ble_eq_true rfl, Nat.le_of_ble_eq_true rfl⟩ ⟨Nat.zero_le _, Nat.zero_le _⟩ (mgI fun x S3 h3 => ?_)
        obtain ⟨rfl, hK3, hO⟩ := h3
        refine g_ist5 (q := 91) dX3_best_89 rfl rfl ?_
        refine g_ald0 (q := 92) dX3_best_91 rfl ?_
        refine m_getA (j := 25) (q := 95) hk0 fs_X3_86 dX3_best_92 rfl (fun _ _ => rfl) ⟨rfl, by decide, by decide⟩ ?_
        refine g_ild2 (q := 96) dX3_best_95 rfl ?_
        refine m_iald (n := i) (q := 97) hk0 dX3_best_96 rfl ma_45 rfl (by omega) ?_
        refine g_top (hO i hi) ?_
        refine g_iret dX3_best_97 (Nat.zero_le _) (Nat.zero_le _) ?_
        exact ⟨_, rfl, _, rfl, by unfold q_best; rw [nI_clamp (n := l) (by omega), nI_clamp (n := i) (by omega), if_pos ⟨c_10, hw0, c_25⟩, hbj, nI_clamp (by omega)], hK.then ((hK2.then hK3).up ord_scr)⟩
      · refine g_iconst (q := 29) dX3_best_28 ki_m1 rfl ?_
        refine g_iret dX3_best_29 (Nat.zero_le _) (Nat.zero_le _) ?_
        exact ⟨_, rfl, _, rfl, by unfold q_best; rw [nI_clamp (n := l) (by omega), if_neg (fun h => c_25 h.2.2)], hK⟩
end MMean

