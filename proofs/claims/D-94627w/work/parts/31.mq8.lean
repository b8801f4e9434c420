set_option maxRecDepth 100000
noncomputable def libA (L : LV) (w : Int32) : Int32 :=
  if w = nI 0 then nI (vB L) else if w = nI 1 then nI (vW L) else if w = nI 2 then nI (vR L) else if w = nI 3 then nI (vN L) else if w = nI 4 then nI (ttab L (vN L))
  else if w = nI 5 then (if clOut (hB L) 32 = -1 ∨ nI (vW L) < clOut (hB L) 32 then nI 1 else nI 0) else if w = nI 6 then clOut (hB L) 32 else if w = nI 7 then (if clOut (hB L) 32 = -1 then -1 else clOut (hB L) 32 * nI (vR L)) else if w = nI 8 then evA L else -2
theorem lib5 (L : LV) : libA L (nI 5) = (if clOut (hB L) 32 = -1 ∨ nI (vW L) < clOut (hB L) 32 then nI 1 else nI 0) := rfl
theorem lib7 (L : LV) : libA L (nI 7) = (if clOut (hB L) 32 = -1 then -1 else clOut (hB L) 32 * nI (vR L)) := rfl
noncomputable def q_library (n : Nat) (Ls : Nat → LV) (l w : Int32) : Int32 := if ixo l n then libA (Ls l.toNatClampNeg) w else -2
/-- a shelf's tablets one by one -/
def rowF (f : Nat → Int32) : Nat → Nat → Int32
  | 0, _ => 0
  | p + 1, i => if f p = -1 then rowF f p i else if i = ntab f p then f p else rowF f p i
def invN (g : Nat → Int32) (m : Nat) : Nat := fb_sm (fun k => fb_ct (fun i => decide (g k < g i)) k) m
section MQ8
variable {E : zE} {M : zM} {o : Nat} {S : zS} {n : Nat} {Ls : Nat → LV} {L : LV}
theorem c_library (hk0 : Sk E M o) (hM : MLs S n Ls) (l w : Int32) : (Con E yX3_library cX3_library 4 (some .int) 5 0 0) [.ref o, .int l, .int w] (mv M o S) (pI (fun x => mP M o (fun S' => x = q_library n Ls l w ∧ Kp scr S S'))) := by
  have h2 := hM.1
  refine Go.enter [some (.ref o), some (.int l), some (.int w), none] rfl (Nat.le_of_ble_eq_true rfl) rfl (Nat.le_of_ble_eq_true rfl) ?_
  refine g_ald0 (q := 1) dX3_library_0 rfl ?_
  refine g_iconst (q := 2) dX3_library_1 ki_0 rfl ?_
  refine m_putI (q := 5) hk0 fs_X3_111 dX3_library_2 rfl rfl rfl ?_
  refine g_ald0 (q := 6) dX3_library_5 rfl ?_
  refine g_ild1 (q := 7) dX3_library_6 rfl ?_
  refine m_call (q := 10) hk0 (c_hand hk0 hM.cd _) sv_X3_270 dX3_library_7 rfl rfl rfl (Nat.le_of_ble_eq_true rfl) ⟨Nat.le_of_ble_eq_true rfl, Nat.le_of_ble_eq_true rfl⟩ ⟨Nat.zero_le _, Nat.zero_le _⟩ (mgI fun x S' h => ?_)
  obtain ⟨rfl, hK, hJ⟩ := h
  have hK : Kp scr S S' := (Kp.rf.s1 (ks := scr) (k := 0) rfl).then (hK.up hks_scr)
  refine g_ifb_ne (t := 16) (q := 13) dX3_library_10 rfl rfl (fun c_10 => ?_) (fun c_10 => ?_)
  · obtain ⟨hH, hBg⟩ := hJ c_10
    obtain ⟨l, hl, rfl⟩ := ixo_of c_10 (by omega)
    rw [nI_clamp (by omega)] at hH
    have hL := (hM.2.2 l hl).2
    have h4 := hL.2.2.2.1
    have h5 := hL.1.2
    have h32 := pow_b hL.1.2
    refine g_ald0 (q := 17) dX3_library_16 rfl ?_
    refine m_call (q := 20) hk0 (c_close hk0 hH hL) sv_X3_273 dX3_library_17 rfl rfl rfl (Nat.le_of_ble_eq_true rfl) ⟨Nat.le_of_ble_eq_true rfl, Nat.le_of_ble_eq_true rfl⟩ ⟨Nat.zero_le _, Nat.zero_le _⟩ (gIe ?_)
    refine g_ist3 (q := 21) dX3_library_20 rfl rfl ?_
    have R : ∀ x, x = libA (Ls l) w → mP M o (fun S' => x = q_library n Ls (nI l) w ∧ Kp scr S S') (mv M o S') := fun x hx => ⟨S', rfl, by unfold q_library; rw [nI_clamp (n := l) (by omega), if_pos c_10]; exact hx, hK⟩
    refine g_ild2 (q := 22) dX3_library_21 rfl ?_
    by_cases c_22 : ixo w 9
    · obtain ⟨sw, hsw, rfl⟩ := ixo_of c_22 (by omega)
      rcases (show sw = 0 ∨ sw = 1 ∨ sw = 2 ∨ sw = 3 ∨ sw = 4 ∨ sw = 5 ∨ sw = 6 ∨ sw = 7 ∨ sw = 8 by omega) with rfl | rfl | rfl | rfl | rfl | rfl | rfl | rfl | rfl
      · refine g_tsw (t := 72) dX3_library_22 (by decide) (by decide) rfl rfl ?_
        refine g_ald0 (q := 73) dX3_library_72 rfl ?_
        refine m_getI (q := 76) hk0 fs_X3_234 dX3_library_73 rfl rfl rfl ?_
        refine g_iret dX3_library_76 (Nat.zero_le _) (Nat.zero_le _) ?_
        exact ⟨_, rfl, R _ hH.1⟩
      · refine g_tsw (t := 77) dX3_library_22 (by decide) (by decide) rfl rfl ?_
        refine g_ald0 (q := 78) dX3_library_77 rfl ?_
        refine m_getI (q := 81) hk0 fs_X3_237 dX3_library_78 rfl rfl rfl ?_
        refine g_top hH.2.1 ?_
        refine g_iret dX3_library_81 (Nat.zero_le _) (Nat.zero_le _) ?_
        exact ⟨_, rfl, R _ rfl⟩
      · refine g_tsw (t := 82) dX3_library_22 (by decide) (by decide) rfl rfl ?_
        refine g_ald0 (q := 83) dX3_library_82 rfl ?_
        refine m_getI (q := 86) hk0 fs_X3_240 dX3_library_83 rfl rfl rfl ?_
        refine g_iret dX3_library_86 (Nat.zero_le _) (Nat.zero_le _) ?_
        exact ⟨_, rfl, R _ hH.2.2.1⟩
      · refine g_tsw (t := 87) dX3_library_22 (by decide) (by decide) rfl rfl ?_
        refine g_ald0 (q := 88) dX3_library_87 rfl ?_
        refine m_getI (q := 91) hk0 fs_X3_243 dX3_library_88 rfl rfl rfl ?_
        refine g_iret dX3_library_91 (Nat.zero_le _) (Nat.zero_le _) ?_
        exact ⟨_, rfl, R _ hH.2.2.2.1⟩
      · refine g_tsw (t := 92) dX3_library_22 (by decide) (by decide) rfl rfl ?_
        refine g_ald0 (q := 93) dX3_library_92 rfl ?_
        refine m_call (q := 96) hk0 (c_tablets hk0 hH hL) sv_X3_267 dX3_library_93 rfl rfl rfl (Nat.le_of_ble_eq_true rfl) ⟨Nat.le_of_ble_eq_true rfl, Nat.le_of_ble_eq_true rfl⟩ ⟨Nat.zero_le _, Nat.zero_le _⟩ (gIe ?_)
        refine g_iret dX3_library_96 (Nat.zero_le _) (Nat.zero_le _) ?_
        exact ⟨_, rfl, R _ rfl⟩
      · refine g_tsw (t := 97) dX3_library_22 (by decide) (by decide) rfl rfl ?_
        refine g_ild3 (q := 98) dX3_library_97 rfl ?_
        refine g_iconst (q := 99) dX3_library_98 ki_m1 rfl ?_
        refine g_ic_eq (t := 110) (q := 102) dX3_library_99 rfl rfl (fun c_99 => ?_) (fun c_99 => ?_)
        · refine g_iconst (q := 111) dX3_library_110 ki_1 rfl ?_
          refine g_goto (t := 115) dX3_library_111 rfl ?_
          refine g_iret dX3_library_115 (Nat.zero_le _) (Nat.zero_le _) ?_
          exact ⟨_, rfl, R _ (by rw [lib5, if_pos (Or.inl c_99)])⟩
        · refine g_ild3 (q := 103) dX3_library_102 rfl ?_
          refine g_ald0 (q := 104) dX3_library_103 rfl ?_
          refine m_getI (q := 107) hk0 fs_X3_237 dX3_library_104 rfl rfl rfl ?_
          refine g_top hH.2.1 ?_
          refine g_ic_le (t := 114) (q := 110) dX3_library_107 rfl rfl (fun c_107 => ?_) (fun c_107 => ?_)
          · refine g_iconst (q := 115) dX3_library_114 ki_0 rfl ?_
            refine g_iret dX3_library_115 (Nat.zero_le _) (Nat.zero_le _) ?_
            exact ⟨_, rfl, R _ (by rw [lib5, if_neg (fun h => h.elim c_99 (Int32.not_lt.mpr c_107))])⟩
          · refine g_iconst (q := 111) dX3_library_110 ki_1 rfl ?_
            refine g_goto (t := 115) dX3_library_111 rfl ?_
            refine g_iret dX3_library_115 (Nat.zero_le _) (Nat.zero_le _) ?_
            exact ⟨_, rfl, R _ (by rw [lib5, if_pos (Or.inr (Int32.not_le.mp c_107))])⟩
      · refine g_tsw (t := 116) dX3_library_22 (by decide) (by decide) rfl rfl ?_
        refine g_ild3 (q := 117) dX3_library_116 rfl ?_
        refine g_iret dX3_library_117 (Nat.zero_le _) (Nat.zero_le _) ?_
        exact ⟨_, rfl, R _ rfl⟩
      · refine g_tsw (t := 118) dX3_library_22 (by decide) (by decide) rfl rfl ?_
        refine g_ild3 (q := 119) dX3_library_118 rfl ?_
        refine g_iconst (q := 120) dX3_library_119 ki_m1 rfl ?_
        refine g_ic_ne (t := 127) (q := 123) dX3_library_120 rfl rfl (fun c_120 => ?_) (fun c_120 => ?_)
        · refine g_ild3 (q := 128) dX3_library_127 rfl ?_
          refine g_ald0 (q := 129) dX3_library_128 rfl ?_
          refine m_getI (q := 132) hk0 fs_X3_240 dX3_library_129 rfl rfl rfl ?_
          refine g_imul (q := 133) dX3_library_132 rfl ?_
          refine g_iret dX3_library_133 (Nat.zero_le _) (Nat.zero_le _) ?_
          exact ⟨_, rfl, R _ (by rw [lib7, if_neg c_120, hH.2.2.1])⟩
        · refine g_iconst (q := 124) dX3_library_123 ki_m1 rfl ?_
          refine g_goto (t := 133) dX3_library_124 rfl ?_
          refine g_iret dX3_library_133 (Nat.zero_le _) (Nat.zero_le _) ?_
          exact ⟨_, rfl, R _ (by rw [lib7, if_pos c_120])⟩
      · refine g_tsw (t := 134) dX3_library_22 (by decide) (by decide) rfl rfl ?_
        refine g_ald0 (q := 135) dX3_library_134 rfl ?_
        refine m_call (q := 138) hk0 (c_even hk0 hH hL) sv_X3_276 dX3_library_135 rfl rfl rfl (Nat.le_of_ble_eq_true rfl) ⟨Nat.le_of_ble_eq_true rfl, Nat.le_of_ble_eq_true rfl⟩ ⟨Nat.zero_le _, Nat.zero_le _⟩ (gIe ?_)
        refine g_iret dX3_library_138 (Nat.zero_le _) (Nat.zero_le _) ?_
        exact ⟨_, rfl, R _ rfl⟩
    · refine g_tswD (t := 139) dX3_library_22 (by have := not_and.mp c_22; omega) rfl ?_
      refine g_bipush (q := 141) dX3_library_139 kb_m2 rfl ?_
      refine g_iret dX3_library_141 (Nat.zero_le _) (Nat.zero_le _) ?_
      refine ⟨_, rfl, R _ ?_⟩
      have hne : ∀ k, k < 9 → ¬ w = nI k := fun k hk e => c_22 (by rw [e]; exact ixo_nI hk (by omega))
      unfold libA
      rw [if_neg (hne 0 (by omega)), if_neg (hne 1 (by omega)), if_neg (hne 2 (by omega)), if_neg (hne 3 (by omega)), if_neg (hne 4 (by omega)), if_neg (hne 5 (by omega)), if_neg (hne 6 (by omega)), if_neg (hne 7 (by omega)), if_neg (hne 8 (by omega))]
  · refine g_bipush (q := 15) dX3_library_13 kb_m2 rfl ?_
    refine g_iret dX3_library_15 (Nat.zero_le _) (Nat.zero_le _) ?_
    exact ⟨_, rfl, _, rfl, by unfold q_library; rw [if_neg c_10], hK⟩
/-- the row is laid -/
def RowIs (S : zS) (f : Nat → Int32) (p : Nat) : Prop := (S.1 38 0) = nI (ntab f p) ∧ ∀ i, i < ntab f p → (S.1 39) i = rowF f p i
theorem lp_layRow (hk0 : Sk E M o) {S0 : zS} (hL : LOK L) {s : Nat} (hs : s < 4) {Post : Option Value → zM → Prop} (hpost : ∀ S', Kp [38, 39] S0 S' → RowIs S' (vM L s) (vP L s) → Post none (mv M o S')) (hH : Hand S0 L) :
    ∀ p, p ≤ vP L s → ∀ S', Kp [38, 39] S0 S' → RowIs S' (vM L s) p → (GoR E yX3_layRow cX3_layRow 3 none 1 0 0) Post 7 [some (.ref o), some (.int (nI s)), some (.int (nI p))] [] (mv M o S') 0 0 := by
  have h12 := hL.p12 s
  refine up_ind _ (fun p hp ih S' hK hR => ?_)
  have hn := ntab_le (vM L s) p
  have e25 := (hK 25 rfl).1
  have e27 := (hK 27 rfl).1
  have hmk : p < vP L s → (S'.1 27) (12 * s + p) = vM L s p := fun h => by rw [e27]; exact hH.2.2.2.2.2.2 s p hs (by omega)
  refine g_ild2 (q := 8) dX3_layRow_7 rfl ?_
  refine g_ald0 (q := 9) dX3_layRow_8 rfl ?_
  refine m_getA (j := 11) (q := 12) hk0 fs_X3_41 dX3_layRow_9 rfl (fun _ _ => rfl) ⟨rfl, by decide, by decide⟩ ?_
  refine g_ild1 (q := 13) dX3_layRow_12 rfl ?_
  refine m_iald (n := s) (q := 14) hk0 dX3_layRow_13 rfl ma_25 rfl (by omega) ?_
  refine g_top (show (S'.1 25) s = nI (vP L s) by rw [e25]; exact hH.2.2.2.2.1 s hs) ?_
  refine g_icN_ge (t := 68) (q := 17) dX3_layRow_14 rfl rfl (by omega) (by omega) (fun c_14 => ?_) (fun c_14 => ?_)
  · obtain rfl : p = vP L s := by omega
    exact g_vret dX3_layRow_68 (Nat.zero_le _) (Nat.zero_le _) (hpost S' hK hR)
  · refine g_ald0 (q := 18) dX3_layRow_17 rfl ?_
    refine m_getA (j := 13) (q := 21) hk0 fs_X3_47 dX3_layRow_18 rfl (fun _ _ => rfl) ⟨rfl, by decide, by decide⟩ ?_
    refine g_bipush (q := 23) dX3_layRow_21 kb_12 rfl ?_
    refine g_ild1 (q := 24) dX3_layRow_23 rfl ?_
    refine g_imulN (q := 25) dX3_layRow_24 rfl ?_
    refine g_ild2 (q := 26) dX3_layRow_25 rfl ?_
    refine g_iaddN (q := 27) dX3_layRow_26 rfl ?_
    refine m_iald (n := ((12 * s) + p)) (q := 28) hk0 dX3_layRow_27 rfl ma_27 rfl (by omega) ?_
    refine g_top (hmk (by omega)) ?_
    refine g_iconst (q := 29) dX3_layRow_28 ki_m1 rfl ?_
    refine g_ic_eq (t := 62) (q := 32) dX3_layRow_29 rfl rfl (fun c_29 => ?_) (fun c_29 => ?_)
    · refine g_inc2 (w := nI (p + 1)) (q := 65) dX3_layRow_62 rfl (nI_1 _) rfl ?_
      refine g_goto (t := 7) dX3_layRow_65 rfl ?_
      refine ih (by omega) _ hK ?_
      unfold RowIs
      rw [ntab_succ, if_pos c_29]
      refine ⟨hR.1, fun i hi => ?_⟩
      unfold rowF
      rw [if_pos c_29]
      exact hR.2 i hi
    · refine g_ald0 (q := 33) dX3_layRow_32 rfl ?_
      refine m_getA (j := 20) (q := 36) hk0 fs_X3_71 dX3_layRow_33 rfl (fun _ _ => rfl) ⟨rfl, by decide, by decide⟩ ?_
      refine g_ald0 (q := 37) dX3_layRow_36 rfl ?_
      refine m_getI (q := 40) hk0 fs_X3_330 dX3_layRow_37 rfl rfl rfl ?_
      refine g_top hR.1 ?_
      refine g_ald0 (q := 41) dX3_layRow_40 rfl ?_
      refine m_getA (j := 13) (q := 44) hk0 fs_X3_47 dX3_layRow_41 rfl (fun _ _ => rfl) ⟨rfl, by decide, by decide⟩ ?_
      refine g_bipush (q := 46) dX3_layRow_44 kb_12 rfl ?_
      refine g_ild1 (q := 47) dX3_layRow_46 rfl ?_
      refine g_imulN (q := 48) dX3_layRow_47 rfl ?_
      refine g_ild2 (q := 49) dX3_layRow_48 rfl ?_
      refine g_iaddN (q := 50) dX3_layRow_49 rfl ?_
      refine m_iald (n := ((12 * s) + p)) (q := 51) hk0 dX3_layRow_50 rfl ma_27 rfl (by omega) ?_
      refine g_top (hmk (by omega)) ?_
      refine m_iast (n := (ntab (vM L s) p)) (q := 52) hk0 dX3_layRow_51 rfl ma_39 rfl (by omega) ?_
      refine g_ald0 (q := 53) dX3_layRow_52 rfl ?_
      refine g_dup (q := 54) dX3_layRow_53 rfl rfl ?_
      refine m_getI (q := 57) hk0 fs_X3_330 dX3_layRow_54 rfl rfl rfl ?_
      refine g_top hR.1 ?_
      refine g_iconst (q := 58) dX3_layRow_57 ki_1 rfl ?_
      refine g_iaddN (q := 59) dX3_layRow_58 rfl ?_
      refine m_putI (q := 62) hk0 fs_X3_330 dX3_layRow_59 rfl rfl rfl ?_
      refine g_inc2 (w := nI (p + 1)) (q := 65) dX3_layRow_62 rfl (nI_1 _) rfl ?_
      refine g_goto (t := 7) dX3_layRow_65 rfl ?_
      refine ih (by omega) _ ((hK.s1 rfl).s1 rfl) ?_
      unfold RowIs
      rw [ntab_succ, if_neg c_29]
      refine ⟨ms1_at _ 38 0 _, fun i hi => ?_⟩
      show (ms1 S' 39 (ntab (vM L s) p) (vM L s p)).1 39 i = _
      unfold rowF
      rw [if_neg c_29]
      by_cases e : i = ntab (vM L s) p
      · rw [if_pos e, e, ms1_at]
      · rw [if_neg e, ms1_nj _ _ _ e]; exact hR.2 i (by omega)
theorem c_layRow (hk0 : Sk E M o) (hH : Hand S L) (hL : LOK L) (s : Nat) (hs : s < 4) : (Con E yX3_layRow cX3_layRow 3 none 1 0 0) [.ref o, .int (nI s)] (mv M o S) (pV (mP M o (fun S' => Kp [38, 39] S S' ∧ RowIs S' (vM L s) (vP L s)))) := by
  refine Go.enter [some (.ref o), some (.int (nI s)), none] rfl (Nat.le_of_ble_eq_true rfl) rfl (Nat.le_of_ble_eq_true rfl) ?_
  refine g_ald0 (q := 1) dX3_layRow_0 rfl ?_
  refine g_iconst (q := 2) dX3_layRow_1 ki_0 rfl ?_
  refine m_putI (q := 5) hk0 fs_X3_330 dX3_layRow_2 rfl rfl rfl ?_
  refine g_iconst (q := 6) dX3_layRow_5 ki_0 rfl ?_
  refine g_ist2 (q := 7) dX3_layRow_6 rfl rfl ?_
  exact lp_layRow hk0 hL hs (fun S' h1 h2 => ⟨rfl, S', rfl, h1, h2⟩) hH 0 (by omega) _ (Kp.rf.s1 rfl) ⟨ms1_at _ 38 0 _, fun i h => absurd h (Nat.not_lt_zero _)⟩
theorem lp_turnIn (hk0 : Sk E M o) {k c0 m : Nat} {g : Nat → Int32} (hm : m ≤ 12) (hk : k < m) (hg : ∀ i, i < m → (S.1 39) i = g i) {Post : Option Value → zM → Prop} (kk : (GoR E yX3_turned cX3_turned 4 (some .int) 1 0 0) Post 48 [some (.ref o), some (.int (nI (c0 + fb_ct (fun i => decide (g k < g i)) k))), some (.int (nI k)), some (.int (nI k))] [] (mv M o S) 0 0) :
    ∀ i, i ≤ k → (GoR E yX3_turned cX3_turned 4 (some .int) 1 0 0) Post 14 [some (.ref o), some (.int (nI (c0 + fb_ct (fun i => decide (g k < g i)) i))), some (.int (nI k)), some (.int (nI i))] [] (mv M o S) 0 0 := by
  refine up_ind _ (fun i hi ih => ?_)
  refine g_ild3 (q := 15) dX3_turned_14 rfl ?_
  refine g_ild2 (q := 16) dX3_turned_15 rfl ?_
  refine g_icN_ge (t := 48) (q := 19) dX3_turned_16 rfl rfl (by omega) (by omega) (fun c_16 => ?_) (fun c_16 => ?_)
  · obtain rfl : i = k := by omega
    exact kk
  · refine g_ild1 (q := 20) dX3_turned_19 rfl ?_
    refine g_ald0 (q := 21) dX3_turned_20 rfl ?_
    refine m_getA (j := 20) (q := 24) hk0 fs_X3_71 dX3_turned_21 rfl (fun _ _ => rfl) ⟨rfl, by decide, by decide⟩ ?_
    refine g_ild3 (q := 25) dX3_turned_24 rfl ?_
    refine m_iald (n := i) (q := 26) hk0 dX3_turned_25 rfl ma_39 rfl (by omega) ?_
    refine g_top (hg i (by omega)) ?_
    refine g_ald0 (q := 27) dX3_turned_26 rfl ?_
    refine m_getA (j := 20) (q := 30) hk0 fs_X3_71 dX3_turned_27 rfl (fun _ _ => rfl) ⟨rfl, by decide, by decide⟩ ?_
    refine g_ild2 (q := 31) dX3_turned_30 rfl ?_
    refine m_iald (n := k) (q := 32) hk0 dX3_turned_31 rfl ma_39 rfl (by omega) ?_
    refine g_top (hg k (by omega)) ?_
    refine g_ic_le (t := 39) (q := 35) dX3_turned_32 rfl rfl (fun c_32 => ?_) (fun c_32 => ?_)
    · refine g_iconst (q := 40) dX3_turned_39 ki_0 rfl ?_
      refine g_iaddN (q := 41) dX3_turned_40 rfl ?_
      refine g_ist1 (q := 42) dX3_turned_41 rfl rfl ?_
      refine g_inc3 (w := nI (i + 1)) (q := 45) dX3_turned_42 rfl (nI_1 _) rfl ?_
      refine g_goto (t := 14) dX3_turned_45 rfl ?_
      have := ih (by omega)
      rw [fb_ct_succ, if_neg (fun h => absurd (of_decide_eq_true h) (Int32.not_lt.mpr c_32))] at this
      exact this
    · refine g_iconst (q := 36) dX3_turned_35 ki_1 rfl ?_
      refine g_goto (t := 40) dX3_turned_36 rfl ?_
      refine g_iaddN (q := 41) dX3_turned_40 rfl ?_
      refine g_ist1 (q := 42) dX3_turned_41 rfl rfl ?_
      refine g_inc3 (w := nI (i + 1)) (q := 45) dX3_turned_42 rfl (nI_1 _) rfl ?_
      refine g_goto (t := 14) dX3_turned_45 rfl ?_
      have := ih (by omega)
      rw [fb_ct_succ, if_pos (decide_eq_true (Int32.not_le.mp c_32))] at this
      exact this
theorem lp_turnOut (hk0 : Sk E M o) {m : Nat} {g : Nat → Int32} (hm : m ≤ 12) (hr : (S.1 38 0) = nI m) (hg : ∀ i, i < m → (S.1 39) i = g i) {Post : Option Value → zM → Prop} (hpost : Post (some (.int (nI (invN g m)))) (mv M o S)) :
    ∀ k, k ≤ m → ∀ x3, (GoR E yX3_turned cX3_turned 4 (some .int) 1 0 0) Post 4 [some (.ref o), some (.int (nI (invN g k))), some (.int (nI k)), x3] [] (mv M o S) 0 0 := by
  refine up_ind _ (fun k hk ih x3 => ?_)
  refine g_ild2 (q := 5) dX3_turned_4 rfl ?_
  refine g_ald0 (q := 6) dX3_turned_5 rfl ?_
  refine m_getI (q := 9) hk0 fs_X3_330 dX3_turned_6 rfl rfl rfl ?_
  refine g_top hr ?_
  refine g_icN_ge (t := 54) (q := 12) dX3_turned_9 rfl rfl (by omega) (by omega) (fun c_9 => ?_) (fun c_9 => ?_)
  · obtain rfl : k = m := by omega
    refine g_ild1 (q := 55) dX3_turned_54 rfl ?_
    exact g_iret dX3_turned_55 (Nat.zero_le _) (Nat.zero_le _) hpost
  · refine g_iconst (q := 13) dX3_turned_12 ki_0 rfl ?_
    refine g_ist3 (q := 14) dX3_turned_13 rfl rfl ?_
    refine lp_turnIn hk0 hm (by omega) hg ?_ 0 (by omega)
    refine g_inc2 (w := nI (k + 1)) (q := 51) dX3_turned_48 rfl (nI_1 _) rfl ?_
    refine g_goto (t := 4) dX3_turned_51 rfl ?_
    exact ih (by omega) _
theorem c_turned (hk0 : Sk E M o) {f : Nat → Int32} {pl : Nat} (hp : pl ≤ 12) (hR : RowIs S f pl) : (Con E yX3_turned cX3_turned 4 (some .int) 1 0 0) [.ref o] (mv M o S) (pI (fun x M' => x = nI (invN (rowF f pl) (ntab f pl)) ∧ M' = mv M o S)) := by
  have hn := ntab_le f pl
  refine Go.enter [some (.ref o), none, none, none] rfl (Nat.le_of_ble_eq_true rfl) rfl (Nat.le_of_ble_eq_true rfl) ?_
  refine g_iconst (q := 1) dX3_turned_0 ki_0 rfl ?_
  refine g_ist1 (q := 2) dX3_turned_1 rfl rfl ?_
  refine g_iconst (q := 3) dX3_turned_2 ki_0 rfl ?_
  refine g_ist2 (q := 4) dX3_turned_3 rfl rfl ?_
  exact lp_turnOut hk0 (by omega) hR.1 hR.2 ⟨_, rfl, rfl, rfl⟩ 0 (by omega) _
end MQ8

