set_option maxRecDepth 100000
/-! what is told of a course's state -/
def lnB (S : zS) (m : Nat) : Bool := decide (0 < (S.1 48) m)
def mvN (S : zS) (m : Nat) : Nat := fb_ct (fun k => decide (¬ (S.1 28) k = -1 ∧ ¬ (S.1 27) k = (S.1 28) k)) m
def suI (S : zS) (s m : Nat) : Nat := fb_ct (fun p => decide (fb_ct (bl ((S.2 47) (12 * s + p))) 32 = 1)) m
def suN (S : zS) (L : LV) (m : Nat) : Nat := fb_sm (fun s => suI S s (vP L s)) m
def inB (L : LV) (s : Nat) : Bool := decide (invN (rowF (vM L s) (vP L s)) (ntab (vM L s) (vP L s)) = 0)
theorem lnB_t {S : zS} {m : Nat} (h : 0 < (S.1 48) m) : lnB S m = true := decide_eq_true h
theorem lnB_f {S : zS} {m : Nat} (h : (S.1 48) m ≤ 0) : lnB S m = false := decide_eq_false (Int32.not_lt.mpr h)
theorem inB_t {L : LV} {s : Nat} (h : invN (rowF (vM L s) (vP L s)) (ntab (vM L s) (vP L s)) = 0) : inB L s = true := decide_eq_true h
theorem inB_f {L : LV} {s : Nat} (h : ¬ invN (rowF (vM L s) (vP L s)) (ntab (vM L s) (vP L s)) = 0) : inB L s = false := decide_eq_false h
theorem inv_le (g : Nat → Int32) {m : Nat} (h : m ≤ 12) : invN g m ≤ 144 := Nat.le_trans (fb_sm_bound (c := 12) (fun k hk => Nat.le_trans (fb_ct_le _ _) (by omega))) (by omega)
section MState
variable {E : zE} {M : zM} {o : Nat} {S S0 : zS} {n : Nat} {L : LV}
theorem lp_lentSet (hk0 : Sk E M o) {Post : Option Value → zM → Prop} (hpost : ∀ r : Int64, (∀ i, i < 64 → bl r i = (decide (i < 32) && lnB S i)) → Post (some (.long r)) (mv M o S)) :
    ∀ k, k ≤ 32 → ∀ r : Int64, (∀ i, i < 64 → bl r i = (decide (i < k) && lnB S i)) → (GoR E yX3_lentSet cX3_lentSet 4 (some .long) 1 0 0) Post 4 [some (.ref o), some (.long r), none, some (.int (nI k))] [] (mv M o S) 0 0 := by
  refine up_ind _ (fun k hk ih r hr => ?_)
  refine g_ild3 (q := 5) dX3_lentSet_4 rfl ?_
  refine g_bipush (q := 7) dX3_lentSet_5 kb_32 rfl ?_
  refine g_icN_ge (t := 35) (q := 10) dX3_lentSet_7 rfl rfl (by omega) (by omega) (fun c_7 => ?_) (fun c_7 => ?_)
  · obtain rfl : k = 32 := by omega
    refine g_lld1 (q := 36) dX3_lentSet_35 rfl ?_
    exact g_lret dX3_lentSet_36 (Nat.zero_le _) (Nat.zero_le _) (hpost r hr)
  · refine g_lld1 (q := 11) dX3_lentSet_10 rfl ?_
    refine g_ald0 (q := 12) dX3_lentSet_11 rfl ?_
    refine m_getA (j := 27) (q := 15) hk0 fs_X3_92 dX3_lentSet_12 rfl (fun _ _ => rfl) ⟨rfl, by decide, by decide⟩ ?_
    refine g_ild3 (q := 16) dX3_lentSet_15 rfl ?_
    refine m_iald (n := k) (q := 17) hk0 dX3_lentSet_16 rfl ma_48 rfl (by omega) ?_
    refine g_if_le (t := 26) (q := 20) dX3_lentSet_17 rfl rfl (fun c_17 => ?_) (fun c_17 => ?_)
    · refine g_lconst (v := 0) (q := 27) dX3_lentSet_26 rfl rfl ?_
      refine g_lor (q := 28) dX3_lentSet_27 rfl ?_
      refine g_lst1 (q := 29) dX3_lentSet_28 rfl rfl ?_
      refine g_inc3 (w := nI (k + 1)) (q := 32) dX3_lentSet_29 rfl (nI_1 _) rfl ?_
      refine g_goto (t := 4) dX3_lentSet_32 rfl ?_
      exact ih (by omega) _ (sl_skip hr (lnB_f c_17))
    · refine g_lconst (v := 1) (q := 21) dX3_lentSet_20 rfl rfl ?_
      refine g_ild3 (q := 22) dX3_lentSet_21 rfl ?_
      refine g_lshl (q := 23) dX3_lentSet_22 rfl ?_
      refine g_goto (t := 27) dX3_lentSet_23 rfl ?_
      refine g_lor (q := 28) dX3_lentSet_27 rfl ?_
      refine g_lst1 (q := 29) dX3_lentSet_28 rfl rfl ?_
      refine g_inc3 (w := nI (k + 1)) (q := 32) dX3_lentSet_29 rfl (nI_1 _) rfl ?_
      refine g_goto (t := 4) dX3_lentSet_32 rfl ?_
      exact ih (by omega) _ (sl_add hr (by omega) (lnB_t (Int32.not_le.mp c_17)))
theorem c_lentSet (hk0 : Sk E M o) : (Con E yX3_lentSet cX3_lentSet 4 (some .long) 1 0 0) [.ref o] (mv M o S) (pL (fun x M' => x = mkL (lnB S) 32 ∧ M' = mv M o S)) := by
  refine Go.enter [some (.ref o), none, none, none] rfl (Nat.le_of_ble_eq_true rfl) rfl (Nat.le_of_ble_eq_true rfl) ?_
  refine g_lconst (v := 0) (q := 1) dX3_lentSet_0 rfl rfl ?_
  refine g_lst1 (q := 2) dX3_lentSet_1 rfl rfl ?_
  refine g_iconst (q := 3) dX3_lentSet_2 ki_0 rfl ?_
  refine g_ist3 (q := 4) dX3_lentSet_3 rfl rfl ?_
  exact lp_lentSet hk0 (fun r hr => ⟨_, rfl, eq_mkL (by omega) hr, rfl⟩) 0 (Nat.zero_le _) _ sl_zero
theorem lp_movedNow (hk0 : Sk E M o) {Post : Option Value → zM → Prop} (hpost : Post (some (.int (nI (mvN S 48)))) (mv M o S)) :
    ∀ k, k ≤ 48 → (GoR E yX3_movedNow cX3_movedNow 3 (some .int) 1 0 0) Post 4 [some (.ref o), some (.int (nI (mvN S k))), some (.int (nI k))] [] (mv M o S) 0 0 := by
  refine up_ind _ (fun k hk ih => ?_)
  refine g_ild2 (q := 5) dX3_movedNow_4 rfl ?_
  refine g_bipush (q := 7) dX3_movedNow_5 kb_48 rfl ?_
  refine g_icN_ge (t := 49) (q := 10) dX3_movedNow_7 rfl rfl (by omega) (by omega) (fun c_7 => ?_) (fun c_7 => ?_)
  · obtain rfl : k = 48 := by omega
    refine g_ild1 (q := 50) dX3_movedNow_49 rfl ?_
    exact g_iret dX3_movedNow_50 (Nat.zero_le _) (Nat.zero_le _) hpost
  · refine g_ild1 (q := 11) dX3_movedNow_10 rfl ?_
    refine g_ald0 (q := 12) dX3_movedNow_11 rfl ?_
    refine m_getA (j := 14) (q := 15) hk0 fs_X3_50 dX3_movedNow_12 rfl (fun _ _ => rfl) ⟨rfl, by decide, by decide⟩ ?_
    refine g_ild2 (q := 16) dX3_movedNow_15 rfl ?_
    refine m_iald (n := k) (q := 17) hk0 dX3_movedNow_16 rfl ma_28 rfl (by omega) ?_
    refine g_iconst (q := 18) dX3_movedNow_17 ki_m1 rfl ?_
    refine g_ic_eq (t := 40) (q := 21) dX3_movedNow_18 rfl rfl (fun c_18 => ?_) (fun c_18 => ?_)
    · refine g_iconst (q := 41) dX3_movedNow_40 ki_0 rfl ?_
      refine g_iaddN (q := 42) dX3_movedNow_41 rfl ?_
      refine g_ist1 (q := 43) dX3_movedNow_42 rfl rfl ?_
      refine g_inc2 (w := nI (k + 1)) (q := 46) dX3_movedNow_43 rfl (nI_1 _) rfl ?_
      refine g_goto (t := 4) dX3_movedNow_46 rfl ?_
      have := ih (by omega)
      unfold mvN at this ⊢
      rw [fb_ct_succ, if_neg (fun h => (of_decide_eq_true h).1 c_18)] at this
      exact this
    · refine g_ald0 (q := 22) dX3_movedNow_21 rfl ?_
      refine m_getA (j := 13) (q := 25) hk0 fs_X3_47 dX3_movedNow_22 rfl (fun _ _ => rfl) ⟨rfl, by decide, by decide⟩ ?_
      refine g_ild2 (q := 26) dX3_movedNow_25 rfl ?_
      refine m_iald (n := k) (q := 27) hk0 dX3_movedNow_26 rfl ma_27 rfl (by omega) ?_
      refine g_ald0 (q := 28) dX3_movedNow_27 rfl ?_
      refine m_getA (j := 14) (q := 31) hk0 fs_X3_50 dX3_movedNow_28 rfl (fun _ _ => rfl) ⟨rfl, by decide, by decide⟩ ?_
      refine g_ild2 (q := 32) dX3_movedNow_31 rfl ?_
      refine m_iald (n := k) (q := 33) hk0 dX3_movedNow_32 rfl ma_28 rfl (by omega) ?_
      refine g_ic_eq (t := 40) (q := 36) dX3_movedNow_33 rfl rfl (fun c_33 => ?_) (fun c_33 => ?_)
      · refine g_iconst (q := 41) dX3_movedNow_40 ki_0 rfl ?_
        refine g_iaddN (q := 42) dX3_movedNow_41 rfl ?_
        refine g_ist1 (q := 43) dX3_movedNow_42 rfl rfl ?_
        refine g_inc2 (w := nI (k + 1)) (q := 46) dX3_movedNow_43 rfl (nI_1 _) rfl ?_
        refine g_goto (t := 4) dX3_movedNow_46 rfl ?_
        have := ih (by omega)
        unfold mvN at this ⊢
        rw [fb_ct_succ, if_neg (fun h => (of_decide_eq_true h).2 c_33)] at this
        exact this
      · refine g_iconst (q := 37) dX3_movedNow_36 ki_1 rfl ?_
        refine g_goto (t := 41) dX3_movedNow_37 rfl ?_
        refine g_iaddN (q := 42) dX3_movedNow_41 rfl ?_
        refine g_ist1 (q := 43) dX3_movedNow_42 rfl rfl ?_
        refine g_inc2 (w := nI (k + 1)) (q := 46) dX3_movedNow_43 rfl (nI_1 _) rfl ?_
        refine g_goto (t := 4) dX3_movedNow_46 rfl ?_
        have := ih (by omega)
        unfold mvN at this ⊢
        rw [fb_ct_succ, if_pos (decide_eq_true ⟨c_18, c_33⟩)] at this
        exact this
theorem c_movedNow (hk0 : Sk E M o) : (Con E yX3_movedNow cX3_movedNow 3 (some .int) 1 0 0) [.ref o] (mv M o S) (pI (fun x M' => x = nI (mvN S 48) ∧ M' = mv M o S)) := by
  refine Go.enter [some (.ref o), none, none] rfl (Nat.le_of_ble_eq_true rfl) rfl (Nat.le_of_ble_eq_true rfl) ?_
  refine g_iconst (q := 1) dX3_movedNow_0 ki_0 rfl ?_
  refine g_ist1 (q := 2) dX3_movedNow_1 rfl rfl ?_
  refine g_iconst (q := 3) dX3_movedNow_2 ki_0 rfl ?_
  refine g_ist2 (q := 4) dX3_movedNow_3 rfl rfl ?_
  exact lp_movedNow hk0 ⟨_, rfl, rfl, rfl⟩ 0 (Nat.zero_le _)
theorem lp_sureIn (hk0 : Sk E M o) (hH : Hand S L) (hL : LOK L) {s c0 : Nat} (hs : s < 4) {Post : Option Value → zM → Prop} (kk : (GoR E yX3_sure cX3_sure 4 (some .int) 3 0 0) Post 56 [some (.ref o), some (.int (nI (c0 + suI S s (vP L s)))), some (.int (nI s)), some (.int (nI (vP L s)))] [] (mv M o S) 0 0) :
    ∀ p, p ≤ vP L s → (GoR E yX3_sure cX3_sure 4 (some .int) 3 0 0) Post 14 [some (.ref o), some (.int (nI (c0 + suI S s p))), some (.int (nI s)), some (.int (nI p))] [] (mv M o S) 0 0 := by
  have h12 := hL.p12 s
  refine up_ind _ (fun p hp ih => ?_)
  have hc : fb_ct (bl ((S.2 47) (12 * s + p))) 32 ≤ 32 := fb_ct_le _ _
  refine g_ild3 (q := 15) dX3_sure_14 rfl ?_
  refine g_ald0 (q := 16) dX3_sure_15 rfl ?_
  refine m_getA (j := 11) (q := 19) hk0 fs_X3_41 dX3_sure_16 rfl (fun _ _ => rfl) ⟨rfl, by decide, by decide⟩ ?_
  refine g_ild2 (q := 20) dX3_sure_19 rfl ?_
  refine m_iald (n := s) (q := 21) hk0 dX3_sure_20 rfl ma_25 rfl (by omega) ?_
  refine g_top (hH.2.2.2.2.1 s hs) ?_
  refine g_icN_ge (t := 56) (q := 24) dX3_sure_21 rfl rfl (by omega) (by omega) (fun c_21 => ?_) (fun c_21 => ?_)
  · obtain rfl : p = vP L s := by omega
    exact kk
  · refine g_ild1 (q := 25) dX3_sure_24 rfl ?_
    refine g_ald0 (q := 26) dX3_sure_25 rfl ?_
    refine m_getA (j := 26) (q := 29) hk0 fs_X3_89 dX3_sure_26 rfl (fun _ _ => rfl) ⟨rfl, by decide, by decide⟩ ?_
    refine g_bipush (q := 31) dX3_sure_29 kb_12 rfl ?_
    refine g_ild2 (q := 32) dX3_sure_31 rfl ?_
    refine g_imulN (q := 33) dX3_sure_32 rfl ?_
    refine g_ild3 (q := 34) dX3_sure_33 rfl ?_
    refine g_iaddN (q := 35) dX3_sure_34 rfl ?_
    refine m_lald (n := ((12 * s) + p)) (q := 36) hk0 dX3_sure_35 rfl ma_47 rfl (by omega) ?_
    refine m_calls (q := 39) (c_ones _ _ _) ss_X3_253 dX3_sure_36 rfl rfl rfl (Nat.le_of_ble_eq_true rfl) ⟨Nat.le_of_ble_eq_true rfl, Nat.le_of_ble_eq_true rfl⟩ ⟨Nat.zero_le _, Nat.zero_le _⟩ (gIe ?_)
    refine g_top rfl ?_
    refine g_iconst (q := 40) dX3_sure_39 ki_1 rfl ?_
    refine g_icN_ne (t := 47) (q := 43) dX3_sure_40 rfl rfl (by omega) (by omega) (fun c_40 => ?_) (fun c_40 => ?_)
    · refine g_iconst (q := 48) dX3_sure_47 ki_0 rfl ?_
      refine g_iaddN (q := 49) dX3_sure_48 rfl ?_
      refine g_ist1 (q := 50) dX3_sure_49 rfl rfl ?_
      refine g_inc3 (w := nI (p + 1)) (q := 53) dX3_sure_50 rfl (nI_1 _) rfl ?_
      refine g_goto (t := 14) dX3_sure_53 rfl ?_
      have := ih (by omega)
      unfold suI at this ⊢
      rw [fb_ct_succ, if_neg (fun h => c_40 (of_decide_eq_true h))] at this
      exact this
    · refine g_iconst (q := 44) dX3_sure_43 ki_1 rfl ?_
      refine g_goto (t := 48) dX3_sure_44 rfl ?_
      refine g_iaddN (q := 49) dX3_sure_48 rfl ?_
      refine g_ist1 (q := 50) dX3_sure_49 rfl rfl ?_
      refine g_inc3 (w := nI (p + 1)) (q := 53) dX3_sure_50 rfl (nI_1 _) rfl ?_
      refine g_goto (t := 14) dX3_sure_53 rfl ?_
      have := ih (by omega)
      unfold suI at this ⊢
      rw [fb_ct_succ, if_pos (decide_eq_true c_40)] at this
      exact this
theorem lp_sureOut (hk0 : Sk E M o) (hH : Hand S L) (hL : LOK L) {Post : Option Value → zM → Prop} (hpost : Post (some (.int (nI (suN S L (vN L))))) (mv M o S)) :
    ∀ s, s ≤ vN L → ∀ x3, (GoR E yX3_sure cX3_sure 4 (some .int) 3 0 0) Post 4 [some (.ref o), some (.int (nI (suN S L s))), some (.int (nI s)), x3] [] (mv M o S) 0 0 := by
  have h4 := hL.2.2.2.1
  refine up_ind _ (fun s hs ih x3 => ?_)
  refine g_ild2 (q := 5) dX3_sure_4 rfl ?_
  refine g_ald0 (q := 6) dX3_sure_5 rfl ?_
  refine m_getI (q := 9) hk0 fs_X3_243 dX3_sure_6 rfl rfl rfl ?_
  refine g_top hH.2.2.2.1 ?_
  refine g_icN_ge (t := 62) (q := 12) dX3_sure_9 rfl rfl (by omega) (by omega) (fun c_9 => ?_) (fun c_9 => ?_)
  · obtain rfl : s = vN L := by omega
    refine g_ild1 (q := 63) dX3_sure_62 rfl ?_
    exact g_iret dX3_sure_63 (Nat.zero_le _) (Nat.zero_le _) hpost
  · refine g_iconst (q := 13) dX3_sure_12 ki_0 rfl ?_
    refine g_ist3 (q := 14) dX3_sure_13 rfl rfl ?_
    refine lp_sureIn hk0 hH hL (by omega) ?_ 0 (by omega)
    refine g_inc2 (w := nI (s + 1)) (q := 59) dX3_sure_56 rfl (nI_1 _) rfl ?_
    refine g_goto (t := 4) dX3_sure_59 rfl ?_
    exact ih (by omega) _
theorem c_sure (hk0 : Sk E M o) (hH : Hand S L) (hL : LOK L) : (Con E yX3_sure cX3_sure 4 (some .int) 3 0 0) [.ref o] (mv M o S) (pI (fun x M' => x = nI (suN S L (vN L)) ∧ M' = mv M o S)) := by
  refine Go.enter [some (.ref o), none, none, none] rfl (Nat.le_of_ble_eq_true rfl) rfl (Nat.le_of_ble_eq_true rfl) ?_
  refine g_iconst (q := 1) dX3_sure_0 ki_0 rfl ?_
  refine g_ist1 (q := 2) dX3_sure_1 rfl rfl ?_
  refine g_iconst (q := 3) dX3_sure_2 ki_0 rfl ?_
  refine g_ist2 (q := 4) dX3_sure_3 rfl rfl ?_
  exact lp_sureOut hk0 hH hL ⟨_, rfl, rfl, rfl⟩ 0 (Nat.zero_le _) _
theorem Hand.kp {ks : List Nat} {S' : zS} (h : Hand S L) (hK : Kp ks S S') (h1 : ks.contains 21 = false ∧ ks.contains 22 = false ∧ ks.contains 23 = false ∧ ks.contains 24 = false ∧ ks.contains 25 = false ∧ ks.contains 26 = false ∧ ks.contains 27 = false) : Hand S' L := by
  unfold Hand at *
  rw [(hK 21 h1.1).1, (hK 22 h1.2.1).1, (hK 23 h1.2.2.1).1, (hK 24 h1.2.2.2.1).1, (hK 25 h1.2.2.2.2.1).1, (hK 26 h1.2.2.2.2.2.1).1, (hK 27 h1.2.2.2.2.2.2).1]
  exact h
theorem lp_inOrder (hk0 : Sk E M o) (hH : Hand S0 L) (hL : LOK L) {Post : Option Value → zM → Prop} (hpost : ∀ S' (r : Int64), Kp [38, 39] S0 S' → (∀ i, i < 64 → bl r i = (decide (i < vN L) && inB L i)) → Post (some (.long r)) (mv M o S')) :
    ∀ s, s ≤ vN L → ∀ S' (r : Int64), Kp [38, 39] S0 S' → (∀ i, i < 64 → bl r i = (decide (i < s) && inB L i)) → (GoR E yX3_inOrder cX3_inOrder 4 (some .long) 2 0 0) Post 4 [some (.ref o), some (.long r), none, some (.int (nI s))] [] (mv M o S') 0 0 := by
  have h4 := hL.2.2.2.1
  refine up_ind _ (fun s hs ih S' r hK hr => ?_)
  have hH' := hH.kp hK ⟨rfl, rfl, rfl, rfl, rfl, rfl, rfl⟩
  have h12 := hL.p12 s
  have hnt := ntab_le (vM L s) (vP L s)
  have hin := inv_le (rowF (vM L s) (vP L s)) (m := ntab (vM L s) (vP L s)) (by omega)
  refine g_ild3 (q := 5) dX3_inOrder_4 rfl ?_
  refine g_ald0 (q := 6) dX3_inOrder_5 rfl ?_
  refine m_getI (q := 9) hk0 fs_X3_243 dX3_inOrder_6 rfl rfl rfl ?_
  refine g_top hH'.2.2.2.1 ?_
  refine g_icN_ge (t := 40) (q := 12) dX3_inOrder_9 rfl rfl (by omega) (by omega) (fun c_9 => ?_) (fun c_9 => ?_)
  · obtain rfl : s = vN L := by omega
    refine g_lld1 (q := 41) dX3_inOrder_40 rfl ?_
    exact g_lret dX3_inOrder_41 (Nat.zero_le _) (Nat.zero_le _) (hpost S' r hK hr)
  · refine g_ald0 (q := 13) dX3_inOrder_12 rfl ?_
    refine g_ild3 (q := 14) dX3_inOrder_13 rfl ?_
    refine m_call (q := 17) hk0 (c_layRow hk0 hH' hL s (by omega)) sv_X3_333 dX3_inOrder_14 rfl rfl rfl (Nat.le_of_ble_eq_true rfl) ⟨Nat.le_of_ble_eq_true rfl, Nat.le_of_ble_eq_true rfl⟩ ⟨Nat.zero_le _, Nat.zero_le _⟩ (mgV fun S2 h => ?_)
    obtain ⟨K2, R2⟩ := h
    refine g_lld1 (q := 18) dX3_inOrder_17 rfl ?_
    refine g_ald0 (q := 19) dX3_inOrder_18 rfl ?_
    refine m_call (q := 22) hk0 (c_turned hk0 h12 R2) sv_X3_336 dX3_inOrder_19 rfl rfl rfl (Nat.le_of_ble_eq_true rfl) ⟨Nat.le_of_ble_eq_true rfl, Nat.le_of_ble_eq_true rfl⟩ ⟨Nat.zero_le _, Nat.zero_le _⟩ (gIe ?_)
    refine g_if_ne (t := 31) (q := 25) dX3_inOrder_22 rfl rfl (fun c_22 => ?_) (fun c_22 => ?_)
    · refine g_lconst (v := 0) (q := 32) dX3_inOrder_31 rfl rfl ?_
      refine g_lor (q := 33) dX3_inOrder_32 rfl ?_
      refine g_lst1 (q := 34) dX3_inOrder_33 rfl rfl ?_
      refine g_inc3 (w := nI (s + 1)) (q := 37) dX3_inOrder_34 rfl (nI_1 _) rfl ?_
      refine g_goto (t := 4) dX3_inOrder_37 rfl ?_
      exact ih (by omega) _ _ (hK.then K2) (sl_skip hr (inB_f (fun e => c_22 (by rw [e]; rfl))))
    · refine g_lconst (v := 1) (q := 26) dX3_inOrder_25 rfl rfl ?_
      refine g_ild3 (q := 27) dX3_inOrder_26 rfl ?_
      refine g_lshl (q := 28) dX3_inOrder_27 rfl ?_
      refine g_goto (t := 32) dX3_inOrder_28 rfl ?_
      refine g_lor (q := 33) dX3_inOrder_32 rfl ?_
      refine g_lst1 (q := 34) dX3_inOrder_33 rfl rfl ?_
      refine g_inc3 (w := nI (s + 1)) (q := 37) dX3_inOrder_34 rfl (nI_1 _) rfl ?_
      refine g_goto (t := 4) dX3_inOrder_37 rfl ?_
      exact ih (by omega) _ _ (hK.then K2) (sl_add hr (by omega) (inB_t ((nI_eq (b := 0) (by omega) (by omega)).mp c_22)))
theorem c_inOrder (hk0 : Sk E M o) (hH : Hand S L) (hL : LOK L) : (Con E yX3_inOrder cX3_inOrder 4 (some .long) 2 0 0) [.ref o] (mv M o S) (pL (fun x => mP M o (fun S' => x = mkL (inB L) (vN L) ∧ Kp [38, 39] S S'))) := by
  have h4 := hL.2.2.2.1
  refine Go.enter [some (.ref o), none, none, none] rfl (Nat.le_of_ble_eq_true rfl) rfl (Nat.le_of_ble_eq_true rfl) ?_
  refine g_lconst (v := 0) (q := 1) dX3_inOrder_0 rfl rfl ?_
  refine g_lst1 (q := 2) dX3_inOrder_1 rfl rfl ?_
  refine g_iconst (q := 3) dX3_inOrder_2 ki_0 rfl ?_
  refine g_ist3 (q := 4) dX3_inOrder_3 rfl rfl ?_
  exact lp_inOrder (S0 := S) hk0 hH hL (fun S' r hK hr => ⟨_, rfl, S', rfl, eq_mkL (by omega) hr, hK⟩) 0 (Nat.zero_le _) S _ Kp.rf sl_zero
end MState

