set_option maxRecDepth 100000
/-- a row copied over another one: c of its cells -/
def cpP (g : Nat → Int32) (n fr to c i : Nat) : Int32 := if n * to ≤ i ∧ i < n * to + c then g (n * fr + (i - n * to)) else g i
theorem cpP_0 (g : Nat → Int32) (n fr to : Nat) : cpP g n fr to 0 = g := funext fun i => if_neg (by omega)
theorem cpP_succ {g : Nat → Int32} {n fr to c : Nat} : (fun i => if i = n * to + c then g (n * fr + c) else cpP g n fr to c i) = cpP g n fr to (c + 1) := by
  funext i
  unfold cpP
  by_cases h : i = n * to + c
  · rw [if_pos h, if_pos (by omega), h, show n * to + c - n * to = c by omega]
  · rw [if_neg h]
    by_cases h2 : n * to ≤ i ∧ i < n * to + c
    · rw [if_pos h2, if_pos (by omega)]
    · rw [if_neg h2, if_neg (by omega)]
theorem cpP_src {g : Nat → Int32} {n fr to c : Nat} (h : n * fr + n ≤ n * to ∨ n * to + n ≤ n * fr) (hc : c < n) : cpP g n fr to c (n * fr + c) = g (n * fr + c) := by
  unfold cpP
  rw [if_neg (by omega)]
section MImg
variable {E : zE} {M : zM} {o : Nat} {S S0 : zS} {n : Nat} {Ls : Nat → LV} {L : LV}
theorem lp_copyRow (hk0 : Sk E M o) {j k Ln n fr to : Nat} (hma : (mfd j = k ∧ mkd j = 1 ∧ mln j = Ln) ∧ (1 ≤ j ∧ j ≤ 32) ∧ Ln < 2 ^ 31) (h1 : n * fr + n ≤ Ln) (h2 : n * to + n ≤ Ln) (hd : n * fr + n ≤ n * to ∨ n * to + n ≤ n * fr) {Post : Option Value → zM → Prop} (hpost : ∀ S', Kp [k] S0 S' → S'.1 k = cpP (S0.1 k) n fr to n → Post none (mv M o S')) :
    ∀ c, c ≤ n → ∀ S', Kp [k] S0 S' → S'.1 k = cpP (S0.1 k) n fr to c → (GoR E yX3_copyRow cX3_copyRow 5 none 1 0 0) Post 3 [some (.ref (o + j)), some (.int (nI n)), some (.int (nI fr)), some (.int (nI to)), some (.int (nI c))] [] (mv M o S') 0 0 := by
  have hL := hma.2.2
  refine up_ind _ (fun c hc ih S' hK hR => ?_)
  refine g_ild4 (q := 5) dX3_copyRow_3 rfl ?_
  refine g_ild1 (q := 6) dX3_copyRow_5 rfl ?_
  refine g_icN_ge (t := 31) (q := 9) dX3_copyRow_6 rfl rfl (by omega) (by omega) (fun c_6 => ?_) (fun c_6 => ?_)
  · obtain rfl : c = n := by omega
    exact g_vret dX3_copyRow_31 (Nat.zero_le _) (Nat.zero_le _) (hpost S' hK hR)
  · refine g_ald0 (q := 10) dX3_copyRow_9 rfl ?_
    refine g_ild1 (q := 11) dX3_copyRow_10 rfl ?_
    refine g_ild3 (q := 12) dX3_copyRow_11 rfl ?_
    refine g_imulN (q := 13) dX3_copyRow_12 rfl ?_
    refine g_ild4 (q := 15) dX3_copyRow_13 rfl ?_
    refine g_iaddN (q := 16) dX3_copyRow_15 rfl ?_
    refine g_ald0 (q := 17) dX3_copyRow_16 rfl ?_
    refine g_ild1 (q := 18) dX3_copyRow_17 rfl ?_
    refine g_ild2 (q := 19) dX3_copyRow_18 rfl ?_
    refine g_imulN (q := 20) dX3_copyRow_19 rfl ?_
    refine g_ild4 (q := 22) dX3_copyRow_20 rfl ?_
    refine g_iaddN (q := 23) dX3_copyRow_22 rfl ?_
    refine m_iald (n := ((n * fr) + c)) (q := 24) hk0 dX3_copyRow_23 rfl hma rfl (by omega) ?_
    refine m_iast (n := ((n * to) + c)) (q := 25) hk0 dX3_copyRow_24 rfl hma rfl (by omega) ?_
    refine g_inc4 (w := nI (c + 1)) (q := 28) dX3_copyRow_25 rfl (nI_1 _) rfl ?_
    refine g_goto (t := 3) dX3_copyRow_28 rfl ?_
    refine ih (by omega) _ (hK.s1 (by simp)) ?_
    rw [ms1_fun, hR, cpP_src hd (by omega)]
    exact cpP_succ
theorem c_copyRow (hk0 : Sk E M o) (j k Ln n fr to : Nat) (hma : (mfd j = k ∧ mkd j = 1 ∧ mln j = Ln) ∧ (1 ≤ j ∧ j ≤ 32) ∧ Ln < 2 ^ 31) (h1 : n * fr + n ≤ Ln) (h2 : n * to + n ≤ Ln) (hd : n * fr + n ≤ n * to ∨ n * to + n ≤ n * fr) : (Con E yX3_copyRow cX3_copyRow 5 none 1 0 0) [.ref (o + j), .int (nI n), .int (nI fr), .int (nI to)] (mv M o S) (pV (mP M o (fun S' => Kp [k] S S' ∧ S'.1 k = cpP (S.1 k) n fr to n))) := by
  refine Go.enter [some (.ref (o + j)), some (.int (nI n)), some (.int (nI fr)), some (.int (nI to)), none] rfl (Nat.le_of_ble_eq_true rfl) rfl (Nat.le_of_ble_eq_true rfl) ?_
  refine g_iconst (q := 1) dX3_copyRow_0 ki_0 rfl ?_
  refine g_ist4 (q := 3) dX3_copyRow_1 rfl rfl ?_
  exact lp_copyRow (S0 := S) hk0 hma h1 h2 hd (fun S' h1 h2 => ⟨rfl, S', rfl, h1, h2⟩) 0 (Nat.zero_le _) S Kp.rf (cpP_0 _ _ _ _).symm
theorem lp_copyTape (hk0 : Sk E M o) {fr to : Nat} (h1 : fr < 4) (h2 : to < 4) (hd : fr ≠ to) (hb : ∀ i, narrow .byte (.int ((S0.1 1) i)) = .int ((S0.1 1) i)) {Post : Option Value → zM → Prop} (kk : ∀ S', Kp [1] S0 S' → (S'.1 1) = cpP ((S0.1 1)) 600 fr to 600 → (GoR E yX3_copyAll cX3_copyAll 4 none 2 0 0) Post 39 [some (.ref o), some (.int (nI fr)), some (.int (nI to)), some (.int (nI 600))] [] (mv M o S') 0 0) :
    ∀ c, c ≤ 600 → ∀ S', Kp [1] S0 S' → (S'.1 1) = cpP ((S0.1 1)) 600 fr to c → (GoR E yX3_copyAll cX3_copyAll 4 none 2 0 0) Post 2 [some (.ref o), some (.int (nI fr)), some (.int (nI to)), some (.int (nI c))] [] (mv M o S') 0 0 := by
  refine up_ind _ (fun c hc ih S' hK hR => ?_)
  have hsrc : c < 600 → (S'.1 1) (600 * fr + c) = (S0.1 1) (600 * fr + c) := fun h => by rw [hR]; exact cpP_src (by omega) h
  refine g_ild3 (q := 3) dX3_copyAll_2 rfl ?_
  refine g_sipush (q := 6) dX3_copyAll_3 ks_600 rfl ?_
  refine g_icN_ge (t := 39) (q := 9) dX3_copyAll_6 rfl rfl (by omega) (by omega) (fun c_6 => ?_) (fun c_6 => ?_)
  · obtain rfl : c = 600 := by omega
    exact kk S' hK hR
  · refine g_ald0 (q := 10) dX3_copyAll_9 rfl ?_
    refine m_getA (j := 1) (q := 13) hk0 fs_X3_7 dX3_copyAll_10 rfl (fun _ _ => rfl) ⟨rfl, by decide, by decide⟩ ?_
    refine g_sipush (q := 16) dX3_copyAll_13 ks_600 rfl ?_
    refine g_ild2 (q := 17) dX3_copyAll_16 rfl ?_
    refine g_imulN (q := 18) dX3_copyAll_17 rfl ?_
    refine g_ild3 (q := 19) dX3_copyAll_18 rfl ?_
    refine g_iaddN (q := 20) dX3_copyAll_19 rfl ?_
    refine g_ald0 (q := 21) dX3_copyAll_20 rfl ?_
    refine m_getA (j := 1) (q := 24) hk0 fs_X3_7 dX3_copyAll_21 rfl (fun _ _ => rfl) ⟨rfl, by decide, by decide⟩ ?_
    refine g_sipush (q := 27) dX3_copyAll_24 ks_600 rfl ?_
    refine g_ild1 (q := 28) dX3_copyAll_27 rfl ?_
    refine g_imulN (q := 29) dX3_copyAll_28 rfl ?_
    refine g_ild3 (q := 30) dX3_copyAll_29 rfl ?_
    refine g_iaddN (q := 31) dX3_copyAll_30 rfl ?_
    refine m_bald (n := ((600 * fr) + c)) (q := 32) hk0 dX3_copyAll_31 rfl ma_1 rfl (by omega) ?_
    refine g_top (hsrc (by omega)) ?_
    refine m_bast (n := ((600 * to) + c)) (q := 33) hk0 dX3_copyAll_32 rfl ma_1 rfl (by omega) (hb _) ?_
    refine g_inc3 (w := nI (c + 1)) (q := 36) dX3_copyAll_33 rfl (nI_1 _) rfl ?_
    refine g_goto (t := 2) dX3_copyAll_36 rfl ?_
    refine ih (by omega) _ (hK.s1 rfl) ?_
    rw [ms1_fun, hR]
    exact cpP_succ
/-- all rows are copied -/
def AllC (S S' : zS) (fr to : Nat) : Prop := Kp [1, 2, 3, 4, 5, 6, 7, 8] S S' ∧ (S'.1 1) = cpP ((S.1 1)) 600 fr to 600 ∧ (S'.1 2) = cpP ((S.1 2)) 1 fr to 1 ∧ (S'.1 3) = cpP ((S.1 3)) 1 fr to 1 ∧ (S'.1 4) = cpP ((S.1 4)) 1 fr to 1 ∧ (S'.1 5) = cpP ((S.1 5)) 3 fr to 3 ∧ (S'.1 6) = cpP ((S.1 6)) 120 fr to 120 ∧ (S'.1 7) = cpP ((S.1 7)) 322 fr to 322 ∧ (S'.1 8) = cpP ((S.1 8)) 34 fr to 34
theorem kp1 {S S' : zS} {k : Nat} (h : Kp [k] S S') (hk : ([1, 2, 3, 4, 5, 6, 7, 8] : List Nat).contains k = true) : Kp [1, 2, 3, 4, 5, 6, 7, 8] S S' := h.up (fun m hm => by
  have : m = k := by simpa using hm
  rw [this]; exact hk)
theorem c_copyAll (hk0 : Sk E M o) (fr to : Nat) (h1 : fr < 4) (h2 : to < 4) (hd : fr ≠ to) (hb : ∀ i, narrow .byte (.int ((S.1 1) i)) = .int ((S.1 1) i)) : (Con E yX3_copyAll cX3_copyAll 4 none 2 0 0) [.ref o, .int (nI fr), .int (nI to)] (mv M o S) (pV (mP M o (fun S' => AllC S S' fr to))) := by
  refine Go.enter [some (.ref o), some (.int (nI fr)), some (.int (nI to)), none] rfl (Nat.le_of_ble_eq_true rfl) rfl (Nat.le_of_ble_eq_true rfl) ?_
  refine g_iconst (q := 1) dX3_copyAll_0 ki_0 rfl ?_
  refine g_ist3 (q := 2) dX3_copyAll_1 rfl rfl ?_
  refine lp_copyTape (S0 := S) hk0 h1 h2 hd hb (fun S1 K1 R1 => ?_) 0 (by omega) S Kp.rf (cpP_0 _ _ _ _).symm
  refine g_ald0 (q := 40) dX3_copyAll_39 rfl ?_
  refine m_getA (j := 2) (q := 43) hk0 fs_X3_13 dX3_copyAll_40 rfl (fun _ _ => rfl) ⟨rfl, by decide, by decide⟩ ?_
  refine g_iconst (q := 44) dX3_copyAll_43 ki_1 rfl ?_
  refine g_ild1 (q := 45) dX3_copyAll_44 rfl ?_
  refine g_ild2 (q := 46) dX3_copyAll_45 rfl ?_
  refine m_calls (q := 49) (c_copyRow hk0 2 2 4 1 fr to ma_2 (by omega) (by omega) (by omega)) ss_X3_119 dX3_copyAll_46 rfl rfl rfl (Nat.le_of_ble_eq_true rfl) ⟨Nat.le_of_ble_eq_true rfl, Nat.le_of_ble_eq_true rfl⟩ ⟨Nat.zero_le _, Nat.zero_le _⟩ (mgV fun S2 h => ?_)
  obtain ⟨K2, R2⟩ := h
  refine g_ald0 (q := 50) dX3_copyAll_49 rfl ?_
  refine m_getA (j := 3) (q := 53) hk0 fs_X3_17 dX3_copyAll_50 rfl (fun _ _ => rfl) ⟨rfl, by decide, by decide⟩ ?_
  refine g_iconst (q := 54) dX3_copyAll_53 ki_1 rfl ?_
  refine g_ild1 (q := 55) dX3_copyAll_54 rfl ?_
  refine g_ild2 (q := 56) dX3_copyAll_55 rfl ?_
  refine m_calls (q := 59) (c_copyRow hk0 3 3 4 1 fr to ma_3 (by omega) (by omega) (by omega)) ss_X3_119 dX3_copyAll_56 rfl rfl rfl (Nat.le_of_ble_eq_true rfl) ⟨Nat.le_of_ble_eq_true rfl, Nat.le_of_ble_eq_true rfl⟩ ⟨Nat.zero_le _, Nat.zero_le _⟩ (mgV fun S3 h => ?_)
  obtain ⟨K3, R3⟩ := h
  refine g_ald0 (q := 60) dX3_copyAll_59 rfl ?_
  refine m_getA (j := 4) (q := 63) hk0 fs_X3_20 dX3_copyAll_60 rfl (fun _ _ => rfl) ⟨rfl, by decide, by decide⟩ ?_
  refine g_iconst (q := 64) dX3_copyAll_63 ki_1 rfl ?_
  refine g_ild1 (q := 65) dX3_copyAll_64 rfl ?_
  refine g_ild2 (q := 66) dX3_copyAll_65 rfl ?_
  refine m_calls (q := 69) (c_copyRow hk0 4 4 4 1 fr to ma_4 (by omega) (by omega) (by omega)) ss_X3_119 dX3_copyAll_66 rfl rfl rfl (Nat.le_of_ble_eq_true rfl) ⟨Nat.le_of_ble_eq_true rfl, Nat.le_of_ble_eq_true rfl⟩ ⟨Nat.zero_le _, Nat.zero_le _⟩ (mgV fun S4 h => ?_)
  obtain ⟨K4, R4⟩ := h
  refine g_ald0 (q := 70) dX3_copyAll_69 rfl ?_
  refine m_getA (j := 5) (q := 73) hk0 fs_X3_23 dX3_copyAll_70 rfl (fun _ _ => rfl) ⟨rfl, by decide, by decide⟩ ?_
  refine g_iconst (q := 74) dX3_copyAll_73 ki_3 rfl ?_
  refine g_ild1 (q := 75) dX3_copyAll_74 rfl ?_
  refine g_ild2 (q := 76) dX3_copyAll_75 rfl ?_
  refine m_calls (q := 79) (c_copyRow hk0 5 5 12 3 fr to ma_5 (by omega) (by omega) (by omega)) ss_X3_119 dX3_copyAll_76 rfl rfl rfl (Nat.le_of_ble_eq_true rfl) ⟨Nat.le_of_ble_eq_true rfl, Nat.le_of_ble_eq_true rfl⟩ ⟨Nat.zero_le _, Nat.zero_le _⟩ (mgV fun S5 h => ?_)
  obtain ⟨K5, R5⟩ := h
  refine g_ald0 (q := 80) dX3_copyAll_79 rfl ?_
  refine m_getA (j := 6) (q := 83) hk0 fs_X3_26 dX3_copyAll_80 rfl (fun _ _ => rfl) ⟨rfl, by decide, by decide⟩ ?_
  refine g_bipush (q := 85) dX3_copyAll_83 kb_120 rfl ?_
  refine g_ild1 (q := 86) dX3_copyAll_85 rfl ?_
  refine g_ild2 (q := 87) dX3_copyAll_86 rfl ?_
  refine m_calls (q := 90) (c_copyRow hk0 6 6 480 120 fr to ma_6 (by omega) (by omega) (by omega)) ss_X3_119 dX3_copyAll_87 rfl rfl rfl (Nat.le_of_ble_eq_true rfl) ⟨Nat.le_of_ble_eq_true rfl, Nat.le_of_ble_eq_true rfl⟩ ⟨Nat.zero_le _, Nat.zero_le _⟩ (mgV fun S6 h => ?_)
  obtain ⟨K6, R6⟩ := h
  refine g_ald0 (q := 91) dX3_copyAll_90 rfl ?_
  refine m_getA (j := 7) (q := 94) hk0 fs_X3_29 dX3_copyAll_91 rfl (fun _ _ => rfl) ⟨rfl, by decide, by decide⟩ ?_
  refine g_sipush (q := 97) dX3_copyAll_94 ks_322 rfl ?_
  refine g_ild1 (q := 98) dX3_copyAll_97 rfl ?_
  refine g_ild2 (q := 99) dX3_copyAll_98 rfl ?_
  refine m_calls (q := 102) (c_copyRow hk0 7 7 1288 322 fr to ma_7 (by omega) (by omega) (by omega)) ss_X3_119 dX3_copyAll_99 rfl rfl rfl (Nat.le_of_ble_eq_true rfl) ⟨Nat.le_of_ble_eq_true rfl, Nat.le_of_ble_eq_true rfl⟩ ⟨Nat.zero_le _, Nat.zero_le _⟩ (mgV fun S7 h => ?_)
  obtain ⟨K7, R7⟩ := h
  refine g_ald0 (q := 103) dX3_copyAll_102 rfl ?_
  refine m_getA (j := 8) (q := 106) hk0 fs_X3_32 dX3_copyAll_103 rfl (fun _ _ => rfl) ⟨rfl, by decide, by decide⟩ ?_
  refine g_bipush (q := 108) dX3_copyAll_106 kb_34 rfl ?_
  refine g_ild1 (q := 109) dX3_copyAll_108 rfl ?_
  refine g_ild2 (q := 110) dX3_copyAll_109 rfl ?_
  refine m_calls (q := 113) (c_copyRow hk0 8 8 136 34 fr to ma_8 (by omega) (by omega) (by omega)) ss_X3_119 dX3_copyAll_110 rfl rfl rfl (Nat.le_of_ble_eq_true rfl) ⟨Nat.le_of_ble_eq_true rfl, Nat.le_of_ble_eq_true rfl⟩ ⟨Nat.zero_le _, Nat.zero_le _⟩ (mgV fun S8 h => ?_)
  obtain ⟨K8, R8⟩ := h
  refine g_vret dX3_copyAll_113 (Nat.zero_le _) (Nat.zero_le _) ?_
  refine ⟨rfl, S8, rfl, ?_, ?_, ?_, ?_, ?_, ?_, ?_, ?_, ?_⟩
  · exact (kp1 K1 rfl).then ((kp1 K2 rfl).then ((kp1 K3 rfl).then ((kp1 K4 rfl).then ((kp1 K5 rfl).then ((kp1 K6 rfl).then ((kp1 K7 rfl).then (kp1 K8 rfl)))))))
  · rw [(K8 1 rfl).1, (K7 1 rfl).1, (K6 1 rfl).1, (K5 1 rfl).1, (K4 1 rfl).1, (K3 1 rfl).1, (K2 1 rfl).1, R1]
  · rw [(K8 2 rfl).1, (K7 2 rfl).1, (K6 2 rfl).1, (K5 2 rfl).1, (K4 2 rfl).1, (K3 2 rfl).1, R2, (K1 2 rfl).1]
  · rw [(K8 3 rfl).1, (K7 3 rfl).1, (K6 3 rfl).1, (K5 3 rfl).1, (K4 3 rfl).1, R3, (K2 3 rfl).1, (K1 3 rfl).1]
  · rw [(K8 4 rfl).1, (K7 4 rfl).1, (K6 4 rfl).1, (K5 4 rfl).1, R4, (K3 4 rfl).1, (K2 4 rfl).1, (K1 4 rfl).1]
  · rw [(K8 5 rfl).1, (K7 5 rfl).1, (K6 5 rfl).1, R5, (K4 5 rfl).1, (K3 5 rfl).1, (K2 5 rfl).1, (K1 5 rfl).1]
  · rw [(K8 6 rfl).1, (K7 6 rfl).1, R6, (K5 6 rfl).1, (K4 6 rfl).1, (K3 6 rfl).1, (K2 6 rfl).1, (K1 6 rfl).1]
  · rw [(K8 7 rfl).1, R7, (K6 7 rfl).1, (K5 7 rfl).1, (K4 7 rfl).1, (K3 7 rfl).1, (K2 7 rfl).1, (K1 7 rfl).1]
  · rw [R8, (K7 8 rfl).1, (K6 8 rfl).1, (K5 8 rfl).1, (K4 8 rfl).1, (K3 8 rfl).1, (K2 8 rfl).1, (K1 8 rfl).1]
theorem c_image (hk0 : Sk E M o) (k : Int32) (hb : ∀ i, narrow .byte (.int ((S.1 1) i)) = .int ((S.1 1) i)) : (Con E yX3_image cX3_image 2 (some .boolean) 3 0 0) [.ref o, .int k] (mv M o S) (pI (fun x => mP M o (fun S' => (¬ ixo k 3 ∧ x = 0 ∧ Kp [0] S S') ∨ (ixo k 3 ∧ x = 1 ∧ ∃ S1, Kp [0] S S1 ∧ ∃ S2, AllC S1 S2 0 (k.toNatClampNeg + 1) ∧ S' = ms1 S2 61 k.toNatClampNeg (nI 1))))) := by
  refine Go.enter [some (.ref o), some (.int k)] rfl (Nat.le_of_ble_eq_true rfl) rfl (Nat.le_of_ble_eq_true rfl) ?_
  refine g_ald0 (q := 1) dX3_image_0 rfl ?_
  refine g_iconst (q := 2) dX3_image_1 ki_0 rfl ?_
  refine m_putI (q := 5) hk0 fs_X3_111 dX3_image_2 rfl rfl rfl ?_
  refine g_ild1 (q := 6) dX3_image_5 rfl ?_
  refine g_iconst (q := 7) dX3_image_6 ki_0 rfl ?_
  refine g_iconst (q := 8) dX3_image_7 ki_2 rfl ?_
  refine m_calls (q := 11) (c_in _ _ _ _ _) ss_X3_123 dX3_image_8 rfl rfl rfl (Nat.le_of_ble_eq_true rfl) ⟨Nat.le_of_ble_eq_true rfl, Nat.le_of_ble_eq_true rfl⟩ ⟨Nat.zero_le _, Nat.zero_le _⟩ (gIe ?_)
  refine g_ifb_ne (t := 16) (q := 14) dX3_image_11 rfl rfl (fun c_11 => ?_) (fun c_11 => ?_)
  · have ck := (in_n (by omega)).mp c_11
    obtain ⟨k, hk, rfl⟩ := ixo_of ck (by omega)
    refine g_ald0 (q := 17) dX3_image_16 rfl ?_
    refine g_iconst (q := 18) dX3_image_17 ki_0 rfl ?_
    refine g_ild1 (q := 19) dX3_image_18 rfl ?_
    refine g_iconst (q := 20) dX3_image_19 ki_1 rfl ?_
    refine g_iaddN (q := 21) dX3_image_20 rfl ?_
    refine m_call (q := 24) hk0 (c_copyAll hk0 0 (k + 1) (by omega) (by omega) (by omega) hb) sv_X3_491 dX3_image_21 rfl rfl rfl (Nat.le_of_ble_eq_true rfl) ⟨Nat.le_of_ble_eq_true rfl, Nat.le_of_ble_eq_true rfl⟩ ⟨Nat.zero_le _, Nat.zero_le _⟩ (mgV fun S2 h => ?_)
    refine g_ald0 (q := 25) dX3_image_24 rfl ?_
    refine m_getA (j := 32) (q := 28) hk0 fs_X3_107 dX3_image_25 rfl (fun _ _ => rfl) ⟨rfl, by decide, by decide⟩ ?_
    refine g_ild1 (q := 29) dX3_image_28 rfl ?_
    refine g_iconst (q := 30) dX3_image_29 ki_1 rfl ?_
    refine m_zast (n := k) (q := 31) hk0 dX3_image_30 rfl ma_61 rfl (by omega) rfl ?_
    refine g_iconst (q := 32) dX3_image_31 ki_1 rfl ?_
    exact g_zret dX3_image_32 rfl (Nat.zero_le _) (Nat.zero_le _) ⟨_, rfl, _, rfl, Or.inr ⟨ck, rfl, _, Kp.rf.s1 rfl, S2, by rw [nI_clamp (by omega)]; exact h, by rw [nI_clamp (by omega)]; rfl⟩⟩
  · refine g_iconst (q := 15) dX3_image_14 ki_0 rfl ?_
    exact g_zret dX3_image_15 rfl (Nat.zero_le _) (Nat.zero_le _) ⟨_, rfl, _, rfl, Or.inl ⟨fun h => c_11 ((in_n (by omega)).mpr h), rfl, Kp.rf.s1 rfl⟩⟩
theorem c_again (hk0 : Sk E M o) (k : Int32) (hb : ∀ i, narrow .byte (.int ((S.1 1) i)) = .int ((S.1 1) i)) (hkp : ∀ i, i < 3 → (S.1 61) i = 0 ∨ (S.1 61) i = 1) : (Con E yX3_again cX3_again 2 (some .boolean) 3 0 0) [.ref o, .int k] (mv M o S) (pI (fun x => mP M o (fun S' => (¬ (ixo k 3 ∧ (S.1 61) k.toNatClampNeg = 1) ∧ x = 0 ∧ Kp [0] S S') ∨ (ixo k 3 ∧ (S.1 61) k.toNatClampNeg = 1 ∧ x = 1 ∧ ∃ S1, Kp [0] S S1 ∧ AllC S1 S' (k.toNatClampNeg + 1) 0)))) := by
  refine Go.enter [some (.ref o), some (.int k)] rfl (Nat.le_of_ble_eq_true rfl) rfl (Nat.le_of_ble_eq_true rfl) ?_
  refine g_ald0 (q := 1) dX3_again_0 rfl ?_
  refine g_iconst (q := 2) dX3_again_1 ki_0 rfl ?_
  refine m_putI (q := 5) hk0 fs_X3_111 dX3_again_2 rfl rfl rfl ?_
  refine g_ild1 (q := 6) dX3_again_5 rfl ?_
  refine g_iconst (q := 7) dX3_again_6 ki_0 rfl ?_
  refine g_iconst (q := 8) dX3_again_7 ki_2 rfl ?_
  refine m_calls (q := 11) (c_in _ _ _ _ _) ss_X3_123 dX3_again_8 rfl rfl rfl (Nat.le_of_ble_eq_true rfl) ⟨Nat.le_of_ble_eq_true rfl, Nat.le_of_ble_eq_true rfl⟩ ⟨Nat.zero_le _, Nat.zero_le _⟩ (gIe ?_)
  refine g_ifb_eq (t := 23) (q := 14) dX3_again_11 rfl rfl (fun c_11 => ?_) (fun c_11 => ?_)
  · refine g_iconst (q := 24) dX3_again_23 ki_0 rfl ?_
    exact g_zret dX3_again_24 rfl (Nat.zero_le _) (Nat.zero_le _) ⟨_, rfl, _, rfl, Or.inl ⟨fun h => c_11 ((in_n (by omega)).mpr h.1), rfl, Kp.rf.s1 rfl⟩⟩
  · have ck := (in_n (by omega)).mp c_11
    obtain ⟨k, hk, rfl⟩ := ixo_of ck (by omega)
    refine g_ald0 (q := 15) dX3_again_14 rfl ?_
    refine m_getA (j := 32) (q := 18) hk0 fs_X3_107 dX3_again_15 rfl (fun _ _ => rfl) ⟨rfl, by decide, by decide⟩ ?_
    refine g_ild1 (q := 19) dX3_again_18 rfl ?_
    refine m_zald (n := k) (q := 20) hk0 dX3_again_19 rfl ma_61 rfl (by omega) ?_
    refine g_if_ne (t := 25) (q := 23) dX3_again_20 rfl rfl (fun c_20 => ?_) (fun c_20 => ?_)
    · refine g_ald0 (q := 26) dX3_again_25 rfl ?_
      refine g_ild1 (q := 27) dX3_again_26 rfl ?_
      refine g_iconst (q := 28) dX3_again_27 ki_1 rfl ?_
      refine g_iaddN (q := 29) dX3_again_28 rfl ?_
      refine g_iconst (q := 30) dX3_again_29 ki_0 rfl ?_
      refine m_call (q := 33) hk0 (c_copyAll hk0 (k + 1) 0 (by omega) (by omega) (by omega) hb) sv_X3_491 dX3_again_30 rfl rfl rfl (Nat.le_of_ble_eq_true rfl) ⟨Nat.le_of_ble_eq_true rfl, Nat.le_of_ble_eq_true rfl⟩ ⟨Nat.zero_le _, Nat.zero_le _⟩ (mgV fun S2 h => ?_)
      refine g_iconst (q := 34) dX3_again_33 ki_1 rfl ?_
      refine g_zret dX3_again_34 rfl (Nat.zero_le _) (Nat.zero_le _) ⟨_, rfl, _, rfl, Or.inr ⟨ck, ?_, rfl, ms1 S 0 0 (nI 0), Kp.rf.s1 rfl, ?_⟩⟩
      · rw [nI_clamp (by omega)]; exact (hkp k hk).resolve_left c_20
      · rw [nI_clamp (by omega)]; exact h
    · refine g_iconst (q := 24) dX3_again_23 ki_0 rfl ?_
      refine g_zret dX3_again_24 rfl (Nat.zero_le _) (Nat.zero_le _) ⟨_, rfl, _, rfl, Or.inl ⟨fun h => ?_, rfl, Kp.rf.s1 rfl⟩⟩
      have h2 := h.2
      rw [nI_clamp (by omega)] at h2
      exact absurd (h2.symm.trans (show (S.1 61) k = 0 from c_20)) (by decide)
end MImg

