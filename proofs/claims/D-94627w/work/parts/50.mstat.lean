set_option maxRecDepth 100000
theorem mkL_cong {f g : Nat → Bool} : ∀ {k : Nat}, (∀ i, i < k → f i = g i) → mkL f k = mkL g k
  | 0, _ => rfl
  | k + 1, h => by
    show mkL f k ||| (if f k = true then _ else _) = mkL g k ||| (if g k = true then _ else _)
    rw [mkL_cong (fun i hi => h i (by omega)), h k (by omega)]
def mvC (L : LV) (C : CV) : Nat := fb_ct (fun k => decide (¬ vM L (k / 12) (k % 12) = -1 ∧ ¬ vM C.1 (k / 12) (k % 12) = vM L (k / 12) (k % 12))) 48
def suC (C : CV) : Nat := fb_sm (fun s => fb_ct (fun p => decide (fb_ct (bl (cf C s p)) 32 = 1)) (vP C.1 s)) (vN C.1)
def stA (L : LV) (C : CV) (w : Int32) : Int64 :=
  if w = nI 0 then (nI (ttab C.1 (vN C.1))).toInt64 else if w = nI 1 then (nI (cw C)).toInt64 else if w = nI 2 then (cx C).toInt64 else if w = nI 3 then mkL (fun m => decide (0 < cn C m)) 32
  else if w = nI 4 then (nI (mvC L C)).toInt64 else if w = nI 5 then (nI (suC C)).toInt64 else if w = nI 6 then mkL (inB C.1) (vN C.1) else -2
noncomputable def q_state (n : Nat) (Ls : Nat → LV) (nb : Nat) (Bs : Nat → BV) (l d k w : Int32) : Int64 := match stC n Ls nb Bs l d k with
  | none => -2
  | some C => stA (Ls l.toNatClampNeg) C w
section MStat
variable {E : zE} {M : zM} {o : Nat} {S S0 : zS} {C : CV} {B : BV} {n nb : Nat} {Ls : Nat → LV} {Bs : Nat → BV} {L : LV}
theorem lnB_crs (hC : Crs S C) (hO : COK C 40) : mkL (lnB S) 32 = mkL (fun m => decide (0 < cn C m)) 32 := mkL_cong (fun m hm => by
  show decide (0 < (S.1 48) m) = decide (0 < cn C m)
  have h40 := hO.2.2.2.1 m
  have h1 := nI_le0 (n := cn C m) (by omega)
  rw [hC.2.2.1 m hm]
  refine decide_eq_decide.mpr ⟨fun h => Nat.pos_of_ne_zero (fun e => Int32.not_le.mpr h (h1.mpr e)), fun h => Int32.not_le.mp (fun e => by have := h1.mp e; omega)⟩)
theorem mvN_crs (h : Lays L S C) : mvN S 48 = mvC L C := fb_ct_cong (fun k hk => by
  have e : 12 * (k / 12) + k % 12 = k := by omega
  have h1 := h.2.2 (k / 12) (k % 12) (by omega) (by omega)
  have h2 := h.1.1.2.2.2.2.2.2 (k / 12) (k % 12) (by omega) (by omega)
  rw [e] at h1 h2
  rw [h1, h2])
theorem suN_crs (hC : Crs S C) (hO : COK C 40) : suN S C.1 (vN C.1) = suC C := fb_sm_cong (fun s hs => fb_ct_cong (fun p hp => by
  have h4 := hO.1.2.2.2.1
  have h12 := hO.1.p12 s
  rw [hC.2.1 s p (by omega) (by omega)]))
theorem c_state (hk0 : Sk E M o) (hM : MLs S n Ls) (hN : MBs S nb Bs) (l d k w : Int32) : (Con E yX3_state cX3_state 5 (some .long) 8 0 0) [.ref o, .int l, .int d, .int k, .int w] (mv M o S) (pL (fun x => mP M o (fun S' => x = q_state n Ls nb Bs l d k w ∧ Kp scr S S'))) := by
  refine Go.enter [some (.ref o), some (.int l), some (.int d), some (.int k), some (.int w)] rfl (Nat.le_of_ble_eq_true rfl) rfl (Nat.le_of_ble_eq_true rfl) ?_
  refine g_ald0 (q := 1) dX3_state_0 rfl ?_
  refine g_iconst (q := 2) dX3_state_1 ki_0 rfl ?_
  refine m_putI (q := 5) hk0 fs_X3_111 dX3_state_2 rfl rfl rfl ?_
  refine g_ald0 (q := 6) dX3_state_5 rfl ?_
  refine g_ild1 (q := 7) dX3_state_6 rfl ?_
  refine g_ild2 (q := 8) dX3_state_7 rfl ?_
  refine g_ild3 (q := 9) dX3_state_8 rfl ?_
  refine m_call (q := 12) hk0 (c_layState (S := ms1 S 0 0 (nI 0)) hk0 hM.cd hN l d k) sv_X3_422 dX3_state_9 rfl rfl rfl (Nat.le_of_ble_eq_true rfl) ⟨Nat.le_of_ble_eq_true rfl, Nat.le_of_ble_eq_true rfl⟩ ⟨Nat.zero_le _, Nat.zero_le _⟩ (mgI (fun x S1 h => ?_))
  obtain ⟨rfl, K1, hJ⟩ := h
  have KL1 : Kp scr S S1 := (Kp.rf.s1 (k := 0) rfl).then (K1.up lks_scr)
  refine g_ifb_ne (t := 19) (q := 15) dX3_state_12 rfl rfl (fun c_12 => ?_) (fun c_12 => ?_)
  · obtain ⟨C, eC⟩ := Option.isSome_iff_exists.mp c_12
    have hY := hJ C eC
    obtain ⟨hC, hO, hb⟩ := hY
    have hH := hC.1
    have hL := hO.1
    have h4 := hL.2.2.2.1
    have R : ∀ x S', x = stA (Ls l.toNatClampNeg) C w → Kp scr S S' → mP M o (fun S' => x = q_state n Ls nb Bs l d k w ∧ Kp scr S S') (mv M o S') := fun x S' hx hK => ⟨S', rfl, by unfold q_state; rw [eC]; exact hx, hK⟩
    refine g_ild4 (q := 21) dX3_state_19 rfl ?_
    by_cases c_21 : ixo w 7
    · obtain ⟨sw, hsw, rfl⟩ := ixo_of c_21 (by omega)
      rcases (show sw = 0 ∨ sw = 1 ∨ sw = 2 ∨ sw = 3 ∨ sw = 4 ∨ sw = 5 ∨ sw = 6 by omega) with rfl | rfl | rfl | rfl | rfl | rfl | rfl
      · refine g_tsw (t := 64) dX3_state_21 (by decide) (by decide) rfl rfl ?_
        refine g_ald0 (q := 65) dX3_state_64 rfl ?_
        refine m_call (q := 68) hk0 (c_tablets hk0 hH hL) sv_X3_267 dX3_state_65 rfl rfl rfl (Nat.le_of_ble_eq_true rfl) ⟨Nat.le_of_ble_eq_true rfl, Nat.le_of_ble_eq_true rfl⟩ ⟨Nat.zero_le _, Nat.zero_le _⟩ (gIe ?_)
        refine g_i2l (q := 69) dX3_state_68 rfl ?_
        refine g_lret dX3_state_69 (Nat.zero_le _) (Nat.zero_le _) ?_
        exact ⟨_, rfl, R _ _ rfl KL1⟩
      · refine g_tsw (t := 70) dX3_state_21 (by decide) (by decide) rfl rfl ?_
        refine g_ald0 (q := 71) dX3_state_70 rfl ?_
        refine m_getI (q := 74) hk0 fs_X3_392 dX3_state_71 rfl rfl rfl ?_
        refine g_i2l (q := 75) dX3_state_74 rfl ?_
        refine g_lret dX3_state_75 (Nat.zero_le _) (Nat.zero_le _) ?_
        exact ⟨_, rfl, R _ _ (congrArg Int32.toInt64 hC.2.2.2.1) KL1⟩
      · refine g_tsw (t := 76) dX3_state_21 (by decide) (by decide) rfl rfl ?_
        refine g_ald0 (q := 77) dX3_state_76 rfl ?_
        refine m_getI (q := 80) hk0 fs_X3_395 dX3_state_77 rfl rfl rfl ?_
        refine g_i2l (q := 81) dX3_state_80 rfl ?_
        refine g_lret dX3_state_81 (Nat.zero_le _) (Nat.zero_le _) ?_
        exact ⟨_, rfl, R _ _ (congrArg Int32.toInt64 hC.2.2.2.2.1) KL1⟩
      · refine g_tsw (t := 82) dX3_state_21 (by decide) (by decide) rfl rfl ?_
        refine g_ald0 (q := 83) dX3_state_82 rfl ?_
        refine m_call (q := 86) hk0 (c_lentSet hk0) sv_X3_427 dX3_state_83 rfl rfl rfl (Nat.le_of_ble_eq_true rfl) ⟨Nat.le_of_ble_eq_true rfl, Nat.le_of_ble_eq_true rfl⟩ ⟨Nat.zero_le _, Nat.zero_le _⟩ (gLe ?_)
        refine g_lret dX3_state_86 (Nat.zero_le _) (Nat.zero_le _) ?_
        exact ⟨_, rfl, R _ _ (lnB_crs hC hO) KL1⟩
      · refine g_tsw (t := 87) dX3_state_21 (by decide) (by decide) rfl rfl ?_
        refine g_ald0 (q := 88) dX3_state_87 rfl ?_
        refine m_call (q := 91) hk0 (c_movedNow hk0) sv_X3_430 dX3_state_88 rfl rfl rfl (Nat.le_of_ble_eq_true rfl) ⟨Nat.le_of_ble_eq_true rfl, Nat.le_of_ble_eq_true rfl⟩ ⟨Nat.zero_le _, Nat.zero_le _⟩ (gIe ?_)
        refine g_i2l (q := 92) dX3_state_91 rfl ?_
        refine g_lret dX3_state_92 (Nat.zero_le _) (Nat.zero_le _) ?_
        exact ⟨_, rfl, R _ _ (congrArg (fun z => (nI z).toInt64) (mvN_crs (hJ C eC))) KL1⟩
      · refine g_tsw (t := 93) dX3_state_21 (by decide) (by decide) rfl rfl ?_
        refine g_ald0 (q := 94) dX3_state_93 rfl ?_
        refine m_call (q := 97) hk0 (c_sure hk0 hH hL) sv_X3_433 dX3_state_94 rfl rfl rfl (Nat.le_of_ble_eq_true rfl) ⟨Nat.le_of_ble_eq_true rfl, Nat.le_of_ble_eq_true rfl⟩ ⟨Nat.zero_le _, Nat.zero_le _⟩ (gIe ?_)
        refine g_i2l (q := 98) dX3_state_97 rfl ?_
        refine g_lret dX3_state_98 (Nat.zero_le _) (Nat.zero_le _) ?_
        exact ⟨_, rfl, R _ _ (congrArg (fun z => (nI z).toInt64) (suN_crs hC hO)) KL1⟩
      · refine g_tsw (t := 99) dX3_state_21 (by decide) (by decide) rfl rfl ?_
        refine g_ald0 (q := 100) dX3_state_99 rfl ?_
        refine m_call (q := 103) hk0 (c_inOrder hk0 hH hL) sv_X3_436 dX3_state_100 rfl rfl rfl (Nat.le_of_ble_eq_true rfl) ⟨Nat.le_of_ble_eq_true rfl, Nat.le_of_ble_eq_true rfl⟩ ⟨Nat.zero_le _, Nat.zero_le _⟩ (mgL (fun x S2 h => ?_))
        obtain ⟨rfl, K2⟩ := h
        refine g_lret dX3_state_103 (Nat.zero_le _) (Nat.zero_le _) ?_
        exact ⟨_, rfl, R _ _ rfl (KL1.then (K2.up (scr_of _ rfl)))⟩
    · refine g_tswD (t := 104) dX3_state_21 (by have := not_and.mp c_21; omega) rfl ?_
      refine g_ldc2 (v := -2) (q := 107) q2137 dX3_state_104 rfl ?_
      refine g_lret dX3_state_107 (Nat.zero_le _) (Nat.zero_le _) ?_
      refine ⟨_, rfl, R _ _ ?_ KL1⟩
      have hne : ∀ k, k < 7 → ¬ w = nI k := fun k hk e => c_21 (by rw [e]; exact ixo_nI hk (by omega))
      unfold stA
      rw [if_neg (hne 0 (by omega)), if_neg (hne 1 (by omega)), if_neg (hne 2 (by omega)), if_neg (hne 3 (by omega)), if_neg (hne 4 (by omega)), if_neg (hne 5 (by omega)), if_neg (hne 6 (by omega))]
  · refine g_ldc2 (v := -2) (q := 18) q2137 dX3_state_15 rfl ?_
    refine g_lret dX3_state_18 (Nat.zero_le _) (Nat.zero_le _) ?_
    refine ⟨_, rfl, _, rfl, ?_, KL1⟩
    unfold q_state
    rw [Option.not_isSome_iff_eq_none.mp c_12]
end MStat

