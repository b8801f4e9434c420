set_option maxRecDepth 100000
/-- the first of the fewest bits -/
def fwB (f : Nat → Bool) : Nat → Int32
  | 0 => -1
  | k + 1 => if f k = true ∧ (fwB f k = -1 ∨ fb_ct (bl (nI k).toInt64) 32 < fb_ct (bl (fwB f k).toInt64) 32) then nI k else fwB f k
theorem fwB_succ (f : Nat → Bool) (k : Nat) : fwB f (k + 1) = if f k = true ∧ (fwB f k = -1 ∨ fb_ct (bl (nI k).toInt64) 32 < fb_ct (bl (fwB f k).toInt64) 32) then nI k else fwB f k := rfl
noncomputable def q_may (n : Nat) (Ls : Nat → LV) (nb : Nat) (Bs : Nat → BV) (l d k s p w : Int32) : Int64 := match stC n Ls nb Bs l d k with
  | none => -2
  | some C => if ixo s (vN C.1) ∧ ixo p (vP C.1 s.toNatClampNeg) then (if w = 0 then cf C s.toNatClampNeg p.toNatClampNeg else (fwB (bl (cf C s.toNatClampNeg p.toNatClampNeg)) (2 ^ vB C.1)).toInt64) else -2
section MMay
variable {E : zE} {M : zM} {o : Nat} {S S0 : zS} {C : CV} {B : BV} {n nb : Nat} {Ls : Nat → LV} {Bs : Nat → BV} {L : LV}
theorem lp_may (hk0 : Sk E M o) (hH : Hand S L) (hL : LOK L) {x : Int64} {a1 a2 a3 a4 a5 a6 : Option Value} {Post : Option Value → zM → Prop} (hpost : Post (some (.long (fwB (bl x) (2 ^ vB L)).toInt64)) (mv M o S)) :
    ∀ k, k ≤ 2 ^ vB L → (GoR E yX3_may cX3_may 11 (some .long) 8 0 0) Post 59 [some (.ref o), a1, a2, a3, a4, a5, a6, some (.long x), none, some (.int (fwB (bl x) k)), some (.int (nI k))] [] (mv M o S) 0 0 := by
  have h5 := hL.1.2
  have hp := pow_b h5
  refine up_ind _ (fun k hk ih => ?_)
  have c1 : fb_ct (bl (nI k).toInt64) 32 ≤ 32 := fb_ct_le _ _
  have c2 : fb_ct (bl (fwB (bl x) k).toInt64) 32 ≤ 32 := fb_ct_le _ _
  refine g_ild10 (q := 61) dX3_may_59 rfl ?_
  refine g_iconst (q := 62) dX3_may_61 ki_1 rfl ?_
  refine g_ald0 (q := 63) dX3_may_62 rfl ?_
  refine m_getI (q := 66) hk0 fs_X3_234 dX3_may_63 rfl rfl rfl ?_
  refine g_top hH.1 ?_
  refine g_ishl (q := 67) dX3_may_66 rfl ?_
  refine g_top (shl1 _ (by omega)) ?_
  refine g_icN_ge (t := 116) (q := 70) dX3_may_67 rfl rfl (by omega) (by omega) (fun c_67 => ?_) (fun c_67 => ?_)
  · obtain rfl : k = 2 ^ vB L := by omega
    refine g_ild9 (q := 118) dX3_may_116 rfl ?_
    refine g_i2l (q := 119) dX3_may_118 rfl ?_
    refine g_lret dX3_may_119 (Nat.zero_le _) (Nat.zero_le _) ?_
    exact hpost
  · refine g_lld7 (q := 72) dX3_may_70 rfl ?_
    refine g_ild10 (q := 74) dX3_may_72 rfl ?_
    refine m_calls (q := 77) (c_has _ _ _ _ (by omega)) ss_X3_115 dX3_may_74 rfl rfl rfl (Nat.le_of_ble_eq_true rfl) ⟨Nat.le_of_ble_eq_true rfl, Nat.le_of_ble_eq_true rfl⟩ ⟨Nat.zero_le _, Nat.zero_le _⟩ (gIe ?_)
    refine g_ifb_eq (t := 106) (q := 80) dX3_may_77 rfl rfl (fun c_77 => ?_) (fun c_77 => ?_)
    · refine g_ild9 (q := 108) dX3_may_106 rfl ?_
      refine g_ist9 (q := 110) dX3_may_108 rfl rfl ?_
      refine g_inc10 (w := nI (k + 1)) (q := 113) dX3_may_110 rfl (nI_1 _) rfl ?_
      refine g_goto (t := 59) dX3_may_113 rfl ?_
      have := ih (by omega)
      rw [fwB_succ, if_neg (fun h => c_77 h.1)] at this
      exact this
    · refine g_ild9 (q := 82) dX3_may_80 rfl ?_
      refine g_iconst (q := 83) dX3_may_82 ki_m1 rfl ?_
      refine g_ic_eq (t := 101) (q := 86) dX3_may_83 rfl rfl (fun c_83 => ?_) (fun c_83 => ?_)
      · refine g_ild10 (q := 103) dX3_may_101 rfl ?_
        refine g_goto (t := 108) dX3_may_103 rfl ?_
        refine g_ist9 (q := 110) dX3_may_108 rfl rfl ?_
        refine g_inc10 (w := nI (k + 1)) (q := 113) dX3_may_110 rfl (nI_1 _) rfl ?_
        refine g_goto (t := 59) dX3_may_113 rfl ?_
        have := ih (by omega)
        rw [fwB_succ, if_pos ⟨c_77, Or.inl c_83⟩] at this
        exact this
      · refine g_ild10 (q := 88) dX3_may_86 rfl ?_
        refine g_i2l (q := 89) dX3_may_88 rfl ?_
        refine m_calls (q := 92) (c_ones _ _ _) ss_X3_253 dX3_may_89 rfl rfl rfl (Nat.le_of_ble_eq_true rfl) ⟨Nat.le_of_ble_eq_true rfl, Nat.le_of_ble_eq_true rfl⟩ ⟨Nat.zero_le _, Nat.zero_le _⟩ (gIe ?_)
        refine g_ild9 (q := 94) dX3_may_92 rfl ?_
        refine g_i2l (q := 95) dX3_may_94 rfl ?_
        refine m_calls (q := 98) (c_ones _ _ _) ss_X3_253 dX3_may_95 rfl rfl rfl (Nat.le_of_ble_eq_true rfl) ⟨Nat.le_of_ble_eq_true rfl, Nat.le_of_ble_eq_true rfl⟩ ⟨Nat.zero_le _, Nat.zero_le _⟩ (gIe ?_)
        refine g_icN_ge (t := 106) (q := 101) dX3_may_98 rfl rfl (by omega) (by omega) (fun c_98 => ?_) (fun c_98 => ?_)
        · refine g_ild9 (q := 108) dX3_may_106 rfl ?_
          refine g_ist9 (q := 110) dX3_may_108 rfl rfl ?_
          refine g_inc10 (w := nI (k + 1)) (q := 113) dX3_may_110 rfl (nI_1 _) rfl ?_
          refine g_goto (t := 59) dX3_may_113 rfl ?_
          have := ih (by omega)
          rw [fwB_succ, if_neg (fun h => h.2.elim c_83 (fun h => by omega))] at this
          exact this
        · refine g_ild10 (q := 103) dX3_may_101 rfl ?_
          refine g_goto (t := 108) dX3_may_103 rfl ?_
          refine g_ist9 (q := 110) dX3_may_108 rfl rfl ?_
          refine g_inc10 (w := nI (k + 1)) (q := 113) dX3_may_110 rfl (nI_1 _) rfl ?_
          refine g_goto (t := 59) dX3_may_113 rfl ?_
          have := ih (by omega)
          rw [fwB_succ, if_pos ⟨c_77, Or.inr (by omega)⟩] at this
          exact this
theorem c_may (hk0 : Sk E M o) (hM : MLs S n Ls) (hN : MBs S nb Bs) (l d k s p w : Int32) : (Con E yX3_may cX3_may 11 (some .long) 8 0 0) [.ref o, .int l, .int d, .int k, .int s, .int p, .int w] (mv M o S) (pL (fun x => mP M o (fun S' => x = q_may n Ls nb Bs l d k s p w ∧ Kp scr S S'))) := by
  refine Go.enter [some (.ref o), some (.int l), some (.int d), some (.int k), some (.int s), some (.int p), some (.int w), none, none, none, none] rfl (Nat.le_of_ble_eq_true rfl) rfl (Nat.le_of_ble_eq_true rfl) ?_
  refine g_ald0 (q := 1) dX3_may_0 rfl ?_
  refine g_iconst (q := 2) dX3_may_1 ki_0 rfl ?_
  refine m_putI (q := 5) hk0 fs_X3_111 dX3_may_2 rfl rfl rfl ?_
  refine g_ald0 (q := 6) dX3_may_5 rfl ?_
  refine g_ild1 (q := 7) dX3_may_6 rfl ?_
  refine g_ild2 (q := 8) dX3_may_7 rfl ?_
  refine g_ild3 (q := 9) dX3_may_8 rfl ?_
  refine m_call (q := 12) hk0 (c_layState (S := ms1 S 0 0 (nI 0)) hk0 hM.cd hN l d k) sv_X3_422 dX3_may_9 rfl rfl rfl (Nat.le_of_ble_eq_true rfl) ⟨Nat.le_of_ble_eq_true rfl, Nat.le_of_ble_eq_true rfl⟩ ⟨Nat.zero_le _, Nat.zero_le _⟩ (mgI (fun x S1 h => ?_))
  obtain ⟨rfl, K1, hJ⟩ := h
  have KL1 : Kp scr S S1 := (Kp.rf.s1 (k := 0) rfl).then (K1.up lks_scr)
  refine g_ifb_eq (t := 26) (q := 15) dX3_may_12 rfl rfl (fun c_12 => ?_) (fun c_12 => ?_)
  · refine g_ldc2 (v := -2) (q := 29) q2137 dX3_may_26 rfl ?_
    refine g_lret dX3_may_29 (Nat.zero_le _) (Nat.zero_le _) ?_
    refine ⟨_, rfl, _, rfl, ?_, KL1⟩
    unfold q_may
    rw [Option.not_isSome_iff_eq_none.mp c_12]
  · obtain ⟨C, eC⟩ := Option.isSome_iff_exists.mp c_12
    obtain ⟨hC, hO, hb⟩ := hJ C eC
    have h4 := hO.1.2.2.2.1
    refine g_ald0 (q := 16) dX3_may_15 rfl ?_
    refine g_ild4 (q := 18) dX3_may_16 rfl ?_
    refine g_ild5 (q := 20) dX3_may_18 rfl ?_
    refine m_call (q := 23) hk0 (c_isPlace hk0 hC.1 hO.1 _ _) sv_X3_345 dX3_may_20 rfl rfl rfl (Nat.le_of_ble_eq_true rfl) ⟨Nat.le_of_ble_eq_true rfl, Nat.le_of_ble_eq_true rfl⟩ ⟨Nat.zero_le _, Nat.zero_le _⟩ (gIe ?_)
    refine g_ifb_ne (t := 30) (q := 26) dX3_may_23 rfl rfl (fun c_23 => ?_) (fun c_23 => ?_)
    · have c_23a := c_23
      obtain ⟨s, hs, rfl⟩ := ixo_of c_23.1 (by omega)
      have es : (nI s).toNatClampNeg = s := nI_clamp (by omega)
      have h12 := hO.1.p12 s
      rw [es] at c_23a
      obtain ⟨p, hp, rfl⟩ := ixo_of c_23a.2 (by omega)
      have ep : (nI p).toNatClampNeg = p := nI_clamp (by omega)
      refine g_ald0 (q := 31) dX3_may_30 rfl ?_
      refine m_getA (j := 26) (q := 34) hk0 fs_X3_89 dX3_may_31 rfl (fun _ _ => rfl) ⟨rfl, by decide, by decide⟩ ?_
      refine g_bipush (q := 36) dX3_may_34 kb_12 rfl ?_
      refine g_ild4 (q := 38) dX3_may_36 rfl ?_
      refine g_imulN (q := 39) dX3_may_38 rfl ?_
      refine g_ild5 (q := 41) dX3_may_39 rfl ?_
      refine g_iaddN (q := 42) dX3_may_41 rfl ?_
      refine m_lald (n := ((12 * s) + p)) (q := 43) hk0 dX3_may_42 rfl ma_47 rfl (by omega) ?_
      refine g_topL (show _ = cf C s p from hC.2.1 s p (by omega) (by omega)) ?_
      refine g_lst7 (q := 45) dX3_may_43 rfl rfl ?_
      refine g_ild6 (q := 47) dX3_may_45 rfl ?_
      refine g_if_ne (t := 53) (q := 50) dX3_may_47 rfl rfl (fun c_47 => ?_) (fun c_47 => ?_)
      · refine g_iconst (q := 54) dX3_may_53 ki_m1 rfl ?_
        refine g_ist9 (q := 56) dX3_may_54 rfl rfl ?_
        refine g_iconst (q := 57) dX3_may_56 ki_0 rfl ?_
        refine g_ist10 (q := 59) dX3_may_57 rfl rfl ?_
        refine lp_may hk0 hC.1 hO.1 ⟨_, rfl, _, rfl, ?_, KL1⟩ 0 (Nat.zero_le _)
        unfold q_may
        rw [eC]
        refine Eq.trans ?_ (if_pos c_23).symm
        rw [es, ep, if_neg c_47]
      · refine g_lld7 (q := 52) dX3_may_50 rfl ?_
        refine g_lret dX3_may_52 (Nat.zero_le _) (Nat.zero_le _) ?_
        refine ⟨_, rfl, _, rfl, ?_, KL1⟩
        unfold q_may
        rw [eC]
        refine Eq.trans ?_ (if_pos c_23).symm
        rw [es, ep, if_pos c_47]
    · refine g_ldc2 (v := -2) (q := 29) q2137 dX3_may_26 rfl ?_
      refine g_lret dX3_may_29 (Nat.zero_le _) (Nat.zero_le _) ?_
      refine ⟨_, rfl, _, rfl, ?_, KL1⟩
      unfold q_may
      rw [eC]
      exact (if_neg c_23).symm
end MMay

