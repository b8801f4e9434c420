set_option maxRecDepth 100000
theorem lks_scr : ∀ k, lks.contains k = true → scr.contains k = true := scr_of lks rfl
noncomputable def q_stop (n : Nat) (Ls : Nat → LV) (nb : Nat) (Bs : Nat → BV) (l d : Int32) : Int32 := if ixo d nb ∧ ixo l n then nI (runC (Bs d.toNatClampNeg) (cst0 (Ls l.toNatClampNeg)) (Bs d.toNatClampNeg).1).1 else -1
noncomputable def q_lies (n : Nat) (Ls : Nat → LV) (nb : Nat) (Bs : Nat → BV) (l d k s p : Int32) : Int32 := match stC n Ls nb Bs l d k with
  | none => -2
  | some C => if ixo s (vN C.1) ∧ ixo p (vP C.1 s.toNatClampNeg) then vM C.1 s.toNatClampNeg p.toNatClampNeg else -2
noncomputable def q_hands (n : Nat) (Ls : Nat → LV) (nb : Nat) (Bs : Nat → BV) (l d k : Int32) : Int32 := match stC n Ls nb Bs l d k with
  | none => -1
  | some C => nI (ch C)
section MAsk
variable {E : zE} {M : zM} {o : Nat} {S S0 : zS} {C : CV} {B : BV} {n nb : Nat} {Ls : Nat → LV} {Bs : Nat → BV}
theorem c_hands (hk0 : Sk E M o) (hM : MLs S n Ls) (hN : MBs S nb Bs) (l d k : Int32) : (Con E yX3_hands cX3_hands 4 (some .int) 8 0 0) [.ref o, .int l, .int d, .int k] (mv M o S) (pI (fun x => mP M o (fun S' => x = q_hands n Ls nb Bs l d k ∧ Kp scr S S'))) := by
  refine Go.enter [some (.ref o), some (.int l), some (.int d), some (.int k)] rfl (Nat.le_of_ble_eq_true rfl) rfl (Nat.le_of_ble_eq_true rfl) ?_
  refine g_ald0 (q := 1) dX3_hands_0 rfl ?_
  refine g_iconst (q := 2) dX3_hands_1 ki_0 rfl ?_
  refine m_putI (q := 5) hk0 fs_X3_111 dX3_hands_2 rfl rfl rfl ?_
  refine g_ald0 (q := 6) dX3_hands_5 rfl ?_
  refine g_ild1 (q := 7) dX3_hands_6 rfl ?_
  refine g_ild2 (q := 8) dX3_hands_7 rfl ?_
  refine g_ild3 (q := 9) dX3_hands_8 rfl ?_
  refine m_call (q := 12) hk0 (c_layState (S := ms1 S 0 0 (nI 0)) hk0 hM.cd hN l d k) sv_X3_422 dX3_hands_9 rfl rfl rfl (Nat.le_of_ble_eq_true rfl) ⟨Nat.le_of_ble_eq_true rfl, Nat.le_of_ble_eq_true rfl⟩ ⟨Nat.zero_le _, Nat.zero_le _⟩ (mgI (fun x S1 h => ?_))
  obtain ⟨rfl, K1, hJ⟩ := h
  have KL1 : Kp scr S S1 := (Kp.rf.s1 (k := 0) rfl).then (K1.up lks_scr)
  refine g_ifb_eq (t := 22) (q := 15) dX3_hands_12 rfl rfl (fun c_12 => ?_) (fun c_12 => ?_)
  · refine g_iconst (q := 23) dX3_hands_22 ki_m1 rfl ?_
    refine g_iret dX3_hands_23 (Nat.zero_le _) (Nat.zero_le _) ?_
    refine ⟨_, rfl, _, rfl, ?_, KL1⟩
    unfold q_hands
    rw [Option.not_isSome_iff_eq_none.mp c_12]
  · refine g_ald0 (q := 16) dX3_hands_15 rfl ?_
    refine m_getI (q := 19) hk0 fs_X3_398 dX3_hands_16 rfl rfl rfl ?_
    refine g_goto (t := 23) dX3_hands_19 rfl ?_
    refine g_iret dX3_hands_23 (Nat.zero_le _) (Nat.zero_le _) ?_
    obtain ⟨C, eC⟩ := Option.isSome_iff_exists.mp c_12
    obtain ⟨hC, hO, hb⟩ := hJ C eC
    refine ⟨_, rfl, _, rfl, ?_, KL1⟩
    unfold q_hands
    rw [eC]
    exact hC.2.2.2.2.2.1
theorem c_lies (hk0 : Sk E M o) (hM : MLs S n Ls) (hN : MBs S nb Bs) (l d k s p : Int32) : (Con E yX3_lies cX3_lies 6 (some .int) 8 0 0) [.ref o, .int l, .int d, .int k, .int s, .int p] (mv M o S) (pI (fun x => mP M o (fun S' => x = q_lies n Ls nb Bs l d k s p ∧ Kp scr S S'))) := by
  refine Go.enter [some (.ref o), some (.int l), some (.int d), some (.int k), some (.int s), some (.int p)] rfl (Nat.le_of_ble_eq_true rfl) rfl (Nat.le_of_ble_eq_true rfl) ?_
  refine g_ald0 (q := 1) dX3_lies_0 rfl ?_
  refine g_iconst (q := 2) dX3_lies_1 ki_0 rfl ?_
  refine m_putI (q := 5) hk0 fs_X3_111 dX3_lies_2 rfl rfl rfl ?_
  refine g_ald0 (q := 6) dX3_lies_5 rfl ?_
  refine g_ild1 (q := 7) dX3_lies_6 rfl ?_
  refine g_ild2 (q := 8) dX3_lies_7 rfl ?_
  refine g_ild3 (q := 9) dX3_lies_8 rfl ?_
  refine m_call (q := 12) hk0 (c_layState (S := ms1 S 0 0 (nI 0)) hk0 hM.cd hN l d k) sv_X3_422 dX3_lies_9 rfl rfl rfl (Nat.le_of_ble_eq_true rfl) ⟨Nat.le_of_ble_eq_true rfl, Nat.le_of_ble_eq_true rfl⟩ ⟨Nat.zero_le _, Nat.zero_le _⟩ (mgI (fun x S1 h => ?_))
  obtain ⟨rfl, K1, hJ⟩ := h
  have KL1 : Kp scr S S1 := (Kp.rf.s1 (k := 0) rfl).then (K1.up lks_scr)
  refine g_ifb_eq (t := 42) (q := 15) dX3_lies_12 rfl rfl (fun c_12 => ?_) (fun c_12 => ?_)
  · refine g_bipush (q := 44) dX3_lies_42 kb_m2 rfl ?_
    refine g_iret dX3_lies_44 (Nat.zero_le _) (Nat.zero_le _) ?_
    refine ⟨_, rfl, _, rfl, ?_, KL1⟩
    unfold q_lies
    rw [Option.not_isSome_iff_eq_none.mp c_12]
  · obtain ⟨C, eC⟩ := Option.isSome_iff_exists.mp c_12
    obtain ⟨hC, hO, hb⟩ := hJ C eC
    have h4 := hO.1.2.2.2.1
    refine g_ald0 (q := 16) dX3_lies_15 rfl ?_
    refine g_ild4 (q := 18) dX3_lies_16 rfl ?_
    refine g_ild5 (q := 20) dX3_lies_18 rfl ?_
    refine m_call (q := 23) hk0 (c_isPlace hk0 hC.1 hO.1 _ _) sv_X3_345 dX3_lies_20 rfl rfl rfl (Nat.le_of_ble_eq_true rfl) ⟨Nat.le_of_ble_eq_true rfl, Nat.le_of_ble_eq_true rfl⟩ ⟨Nat.zero_le _, Nat.zero_le _⟩ (gIe ?_)
    refine g_ifb_eq (t := 42) (q := 26) dX3_lies_23 rfl rfl (fun c_23 => ?_) (fun c_23 => ?_)
    · refine g_bipush (q := 44) dX3_lies_42 kb_m2 rfl ?_
      refine g_iret dX3_lies_44 (Nat.zero_le _) (Nat.zero_le _) ?_
      refine ⟨_, rfl, _, rfl, ?_, KL1⟩
      unfold q_lies
      rw [eC]
      exact (if_neg c_23).symm
    · have c_23a := c_23
      obtain ⟨s, hs, rfl⟩ := ixo_of c_23.1 (by omega)
      have es : (nI s).toNatClampNeg = s := nI_clamp (by omega)
      have h12 := hO.1.p12 s
      rw [es] at c_23a
      obtain ⟨p, hp, rfl⟩ := ixo_of c_23a.2 (by omega)
      have ep : (nI p).toNatClampNeg = p := nI_clamp (by omega)
      refine g_ald0 (q := 27) dX3_lies_26 rfl ?_
      refine m_getA (j := 13) (q := 30) hk0 fs_X3_47 dX3_lies_27 rfl (fun _ _ => rfl) ⟨rfl, by decide, by decide⟩ ?_
      refine g_bipush (q := 32) dX3_lies_30 kb_12 rfl ?_
      refine g_ild4 (q := 34) dX3_lies_32 rfl ?_
      refine g_imulN (q := 35) dX3_lies_34 rfl ?_
      refine g_ild5 (q := 37) dX3_lies_35 rfl ?_
      refine g_iaddN (q := 38) dX3_lies_37 rfl ?_
      refine m_iald (n := ((12 * s) + p)) (q := 39) hk0 dX3_lies_38 rfl ma_27 rfl (by omega) ?_
      refine g_goto (t := 44) dX3_lies_39 rfl ?_
      refine g_iret dX3_lies_44 (Nat.zero_le _) (Nat.zero_le _) ?_
      refine ⟨_, rfl, _, rfl, ?_, KL1⟩
      unfold q_lies
      rw [eC]
      refine Eq.trans ?_ (if_pos c_23).symm
      rw [es, ep]
      exact hC.1.2.2.2.2.2.2 s p (by omega) (by omega)
theorem c_stop (hk0 : Sk E M o) (hM : MLs S n Ls) (hN : MBs S nb Bs) (l d : Int32) : (Con E yX3_stop cX3_stop 3 (some .int) 7 0 0) [.ref o, .int l, .int d] (mv M o S) (pI (fun x => mP M o (fun S' => x = q_stop n Ls nb Bs l d ∧ Kp scr S S'))) := by
  have h2 := hM.1
  have hn2 := hN.1
  refine Go.enter [some (.ref o), some (.int l), some (.int d)] rfl (Nat.le_of_ble_eq_true rfl) rfl (Nat.le_of_ble_eq_true rfl) ?_
  refine g_ald0 (q := 1) dX3_stop_0 rfl ?_
  refine g_iconst (q := 2) dX3_stop_1 ki_0 rfl ?_
  refine m_putI (q := 5) hk0 fs_X3_111 dX3_stop_2 rfl rfl rfl ?_
  refine g_ald0 (q := 6) dX3_stop_5 rfl ?_
  refine g_iconst (q := 7) dX3_stop_6 ki_1 rfl ?_
  refine g_ild2 (q := 8) dX3_stop_7 rfl ?_
  refine m_call (q := 11) hk0 (c_is E M o (ms1 S 0 0 (nI 0)) hk0 1 nb (by omega) (by omega) hN.2.1 d) sv_X3_223 dX3_stop_8 rfl rfl rfl (Nat.le_of_ble_eq_true rfl) ⟨Nat.le_of_ble_eq_true rfl, Nat.le_of_ble_eq_true rfl⟩ ⟨Nat.zero_le _, Nat.zero_le _⟩ (gIe ?_)
  refine g_ifb_eq (t := 22) (q := 14) dX3_stop_11 rfl rfl (fun c_11 => ?_) (fun c_11 => ?_)
  · refine g_iconst (q := 23) dX3_stop_22 ki_m1 rfl ?_
    refine g_iret dX3_stop_23 (Nat.zero_le _) (Nat.zero_le _) ?_
    refine ⟨_, rfl, _, rfl, ?_, Kp.rf.s1 rfl⟩
    unfold q_stop
    rw [if_neg (fun h => c_11 h.1)]
  · refine g_ald0 (q := 15) dX3_stop_14 rfl ?_
    refine g_ild1 (q := 16) dX3_stop_15 rfl ?_
    refine m_call (q := 19) hk0 (c_hand hk0 hM.cd _) sv_X3_270 dX3_stop_16 rfl rfl rfl (Nat.le_of_ble_eq_true rfl) ⟨Nat.le_of_ble_eq_true rfl, Nat.le_of_ble_eq_true rfl⟩ ⟨Nat.zero_le _, Nat.zero_le _⟩ (mgI (fun x S1 h => ?_))
    obtain ⟨rfl, K1, hJ⟩ := h
    have KL1 : Kp scr S S1 := (Kp.rf.s1 (k := 0) rfl).then (K1.up hks_scr)
    refine g_ifb_ne (t := 24) (q := 22) dX3_stop_19 rfl rfl (fun c_19 => ?_) (fun c_19 => ?_)
    · obtain ⟨hH, hBg⟩ := hJ c_19
      obtain ⟨j, hj, rfl⟩ := ixo_of c_19 (by omega)
      have hL := (hM.2.2 j hj).2
      have ej : (nI j).toNatClampNeg = j := nI_clamp (by omega)
      rw [ej] at hH
      obtain ⟨b, hb, rfl⟩ := ixo_of c_11 (by omega)
      obtain ⟨hR, hBo⟩ := hN.2.2 b hb
      have h40 := hBo.1
      have eb : (nI b).toNatClampNeg = b := nI_clamp (by omega)
      refine g_ald0 (q := 25) dX3_stop_24 rfl ?_
      refine m_call (q := 28) hk0 (c_begin hk0 hL.1.2 hH.1) sv_X3_416 dX3_stop_25 rfl rfl rfl (Nat.le_of_ble_eq_true rfl) ⟨Nat.le_of_ble_eq_true rfl, Nat.le_of_ble_eq_true rfl⟩ ⟨Nat.zero_le _, Nat.zero_le _⟩ (mgV (fun S2 h => ?_))
      obtain ⟨K2, hB2⟩ := h
      have hC2 := begun_crs hH K2 hB2
      have KL2 := KL1.then (K2.up (scr_of _ rfl))
      have hR2 : BR ((S2.1 7)) (161 * b) (Bs b) := by rw [(KL2 7 rfl).1]; exact hR
      refine g_ald0 (q := 29) dX3_stop_28 rfl ?_
      refine g_ild2 (q := 30) dX3_stop_29 rfl ?_
      refine m_putI (q := 33) hk0 fs_X3_383 dX3_stop_30 rfl rfl rfl ?_
      refine g_ald0 (q := 34) dX3_stop_33 rfl ?_
      refine g_ald0 (q := 35) dX3_stop_34 rfl ?_
      refine m_call (q := 38) hk0 (c_deeds hk0 (b := b) (B := Bs b) (by omega) (ms1_at _ _ _ _) hR2) sv_X3_386 dX3_stop_35 rfl rfl rfl (Nat.le_of_ble_eq_true rfl) ⟨Nat.le_of_ble_eq_true rfl, Nat.le_of_ble_eq_true rfl⟩ ⟨Nat.zero_le _, Nat.zero_le _⟩ (gIe ?_)
      refine m_call (q := 41) hk0 (c_doAll (S := ms1 S2 46 0 (nI b)) (B := Bs b) (C := cst0 (Ls j)) hk0 (d := b) (by omega) (ms1_at _ _ _ _) hR2 hBo (Nat.le_refl _) (hC2.kp (ks := [46]) (Kp.rf.s1 rfl) rfl) (cst0_ok hL)) sv_X3_419 dX3_stop_38 rfl rfl rfl (Nat.le_of_ble_eq_true rfl) ⟨Nat.le_of_ble_eq_true rfl, Nat.le_of_ble_eq_true rfl⟩ ⟨Nat.zero_le _, Nat.zero_le _⟩ (mgI (fun x3 S3 h => ?_))
      obtain ⟨rfl, K3, hC3, hO3⟩ := h
      have KL3 := (KL2.s1 (k := 46) (j := 0) (v := nI b) rfl).then (K3.up (scr_of _ rfl))
      refine g_iret dX3_stop_41 (Nat.zero_le _) (Nat.zero_le _) ⟨_, rfl, _, rfl, ?_, KL3⟩
      unfold q_stop
      rw [if_pos ⟨c_11, c_19⟩, ej, eb]
    · refine g_iconst (q := 23) dX3_stop_22 ki_m1 rfl ?_
      refine g_iret dX3_stop_23 (Nat.zero_le _) (Nat.zero_le _) ?_
      refine ⟨_, rfl, _, rfl, ?_, KL1⟩
      unfold q_stop
      rw [if_neg (fun h => c_19 h.2)]
end MAsk

