set_option maxRecDepth 100000
theorem in_of {a b : Nat} {w : Int32} (ha : a < 2 ^ 31) (hb : b + 1 < 2 ^ 31) (h : nI a ≤ w ∧ w ≤ nI b) : ∃ x, a ≤ x ∧ x ≤ b ∧ w = nI x := by
  have h1 := Int32.le_iff_toInt_le.mp h.1
  have h2 := Int32.le_iff_toInt_le.mp h.2
  rw [nI_toInt ha] at h1
  rw [nI_toInt (n := b) (by omega)] at h2
  obtain ⟨x, hx, e⟩ := ixo_of (v := w) (n := b + 1) ⟨by omega, by omega⟩ (by omega)
  rw [e, nI_toInt (by omega)] at h1 h2
  exact ⟨x, by omega, by omega, e⟩
/-- what is answered of a round -/
noncomputable def rdA (R : RV) (w : Int32) : Int32 :=
  if nI 10 ≤ w ∧ w ≤ nI (9 + R.1) then nI (R.2.2.1 (w.toNatClampNeg - 10)) else if nI 20 ≤ w ∧ w ≤ nI (19 + R.2.1) then nI (R.2.2.2 (w.toNatClampNeg - 20))
  else if w = nI 2 then nI (cstF R R.2.1 (cdF R 0)) else if nI 40 ≤ w ∧ w ≤ nI (39 + R.2.1) then nI (whR R (w.toNatClampNeg - 40) (cdF R (w.toNatClampNeg - 40)))
  else if w = 0 then nI R.1 else if w = nI 1 then nI R.2.1 else if w = nI 3 then nI (gSum R R.2.1) else -2
noncomputable def q_round (n : Nat) (Rs : Nat → RV) (r w : Int32) : Int32 := if ixo r n then rdA (Rs r.toNatClampNeg) w else -2
section MRound4
variable {E : zE} {M : zM} {o : Nat} {S S0 : zS} {n : Nat} {Rs : Nat → RV} {R : RV}
theorem scr_of (ks : List Nat) (h : ks.all (fun k => scr.contains k) = true) : ∀ k, ks.contains k = true → scr.contains k = true := fun k hk => List.all_eq_true.mp h k (List.contains_iff_mem.mp hk)
theorem c_round (hk0 : Sk E M o) (hM : MRs S n Rs) (r w : Int32) : (Con E yX3_round cX3_round 4 (some .int) 6 0 0) [.ref o, .int r, .int w] (mv M o S) (pI (fun x => mP M o (fun S' => x = q_round n Rs r w ∧ Kp scr S S'))) := by
  have h2 := hM.1
  refine Go.enter [some (.ref o), some (.int r), some (.int w), none] rfl (Nat.le_of_ble_eq_true rfl) rfl (Nat.le_of_ble_eq_true rfl) ?_
  refine g_ald0 (q := 1) dX3_round_0 rfl ?_
  refine g_iconst (q := 2) dX3_round_1 ki_0 rfl ?_
  refine m_putI (q := 5) hk0 fs_X3_111 dX3_round_2 rfl rfl rfl ?_
  refine g_ald0 (q := 6) dX3_round_5 rfl ?_
  refine g_ild1 (q := 7) dX3_round_6 rfl ?_
  refine m_call (q := 10) hk0 (c_layRound (S := ms1 S 0 0 (nI 0)) hk0 (n := n) (Rs := Rs) hM r) sv_X3_462 dX3_round_7 rfl rfl rfl (Nat.le_of_ble_eq_true rfl) ⟨Nat.le_of_ble_eq_true rfl, Nat.le_of_ble_eq_true rfl⟩ ⟨Nat.zero_le _, Nat.zero_le _⟩ (mgI (fun x S1 h => ?_))
  obtain ⟨hx, hK0, hQ⟩ := h
  subst hx
  have hK : Kp scr S S1 := (Kp.rf.s1 (ks := scr) (k := 0) rfl).then (hK0.up (scr_of _ rfl))
  refine g_ifb_ne (t := 16) (q := 13) dX3_round_10 rfl rfl (fun c_10 => ?_) (fun c_10 => ?_)
  · obtain ⟨r, hr, rfl⟩ := ixo_of c_10 (by omega)
    have hO := (hM.2.2 r hr).2
    replace hQ := hQ c_10
    rw [nI_clamp (by omega)] at hQ
    have h3 := hO.1.2
    have h12 := hO.2.1
    have R : ∀ x S', x = rdA (Rs r) w → Kp scr S S' → mP M o (fun S' => x = q_round n Rs (nI r) w ∧ Kp scr S S') (mv M o S') := fun x S' hx hK => ⟨S', rfl, by unfold q_round; rw [nI_clamp (n := r) (by omega), if_pos c_10]; exact hx, hK⟩
    refine g_ild2 (q := 17) dX3_round_16 rfl ?_
    refine g_bipush (q := 19) dX3_round_17 kb_10 rfl ?_
    refine g_bipush (q := 21) dX3_round_19 kb_9 rfl ?_
    refine g_ald0 (q := 22) dX3_round_21 rfl ?_
    refine m_getI (q := 25) hk0 fs_X3_439 dX3_round_22 rfl rfl rfl ?_
    refine g_top hQ.1 ?_
    refine g_iaddN (q := 26) dX3_round_25 rfl ?_
    refine m_calls (q := 29) (c_in _ _ _ _ _) ss_X3_123 dX3_round_26 rfl rfl rfl (Nat.le_of_ble_eq_true rfl) ⟨Nat.le_of_ble_eq_true rfl, Nat.le_of_ble_eq_true rfl⟩ ⟨Nat.zero_le _, Nat.zero_le _⟩ (gIe ?_)
    refine g_ifb_eq (t := 42) (q := 32) dX3_round_29 rfl rfl (fun c_29 => ?_) (fun c_29 => ?_)
    · refine g_ild2 (q := 43) dX3_round_42 rfl ?_
      refine g_bipush (q := 45) dX3_round_43 kb_20 rfl ?_
      refine g_bipush (q := 47) dX3_round_45 kb_19 rfl ?_
      refine g_ald0 (q := 48) dX3_round_47 rfl ?_
      refine m_getI (q := 51) hk0 fs_X3_442 dX3_round_48 rfl rfl rfl ?_
      refine g_top hQ.2.1 ?_
      refine g_iaddN (q := 52) dX3_round_51 rfl ?_
      refine m_calls (q := 55) (c_in _ _ _ _ _) ss_X3_123 dX3_round_52 rfl rfl rfl (Nat.le_of_ble_eq_true rfl) ⟨Nat.le_of_ble_eq_true rfl, Nat.le_of_ble_eq_true rfl⟩ ⟨Nat.zero_le _, Nat.zero_le _⟩ (gIe ?_)
      refine g_ifb_eq (t := 68) (q := 58) dX3_round_55 rfl rfl (fun c_55 => ?_) (fun c_55 => ?_)
      · refine g_ild2 (q := 69) dX3_round_68 rfl ?_
        refine g_iconst (q := 70) dX3_round_69 ki_2 rfl ?_
        refine g_ic_eq (t := 89) (q := 73) dX3_round_70 rfl rfl (fun c_70 => ?_) (fun c_70 => ?_)
        · refine g_ald0 (q := 90) dX3_round_89 rfl ?_
          refine m_call (q := 93) hk0 (c_serve hk0 hO hQ) sv_X3_465 dX3_round_90 rfl rfl rfl (Nat.le_of_ble_eq_true rfl) ⟨Nat.le_of_ble_eq_true rfl, Nat.le_of_ble_eq_true rfl⟩ ⟨Nat.zero_le _, Nat.zero_le _⟩ (mgI (fun x S2 h => ?_))
          obtain ⟨hx, hK1, hW⟩ := h
          subst hx
          replace hK := hK.then (hK1.up (scr_of _ rfl))
          refine g_ist3 (q := 94) dX3_round_93 rfl rfl ?_
          refine g_ild2 (q := 95) dX3_round_94 rfl ?_
          refine g_iconst (q := 96) dX3_round_95 ki_2 rfl ?_
          refine g_ic_ne (t := 103) (q := 99) dX3_round_96 rfl rfl (fun c_96 => ?_) (fun c_96 => ?_)
          · exact absurd c_70 c_96
          · refine g_ild3 (q := 100) dX3_round_99 rfl ?_
            refine g_goto (t := 112) dX3_round_100 rfl ?_
            refine g_iret dX3_round_112 (Nat.zero_le _) (Nat.zero_le _) ?_
            refine ⟨_, rfl, R _ _ ?_ hK⟩
            unfold rdA
            rw [if_neg c_29, if_neg c_55, if_pos c_96]
        · refine g_ild2 (q := 74) dX3_round_73 rfl ?_
          refine g_bipush (q := 76) dX3_round_74 kb_40 rfl ?_
          refine g_bipush (q := 78) dX3_round_76 kb_39 rfl ?_
          refine g_ald0 (q := 79) dX3_round_78 rfl ?_
          refine m_getI (q := 82) hk0 fs_X3_442 dX3_round_79 rfl rfl rfl ?_
          refine g_top hQ.2.1 ?_
          refine g_iaddN (q := 83) dX3_round_82 rfl ?_
          refine m_calls (q := 86) (c_in _ _ _ _ _) ss_X3_123 dX3_round_83 rfl rfl rfl (Nat.le_of_ble_eq_true rfl) ⟨Nat.le_of_ble_eq_true rfl, Nat.le_of_ble_eq_true rfl⟩ ⟨Nat.zero_le _, Nat.zero_le _⟩ (gIe ?_)
          refine g_ifb_eq (t := 113) (q := 89) dX3_round_86 rfl rfl (fun c_86 => ?_) (fun c_86 => ?_)
          · refine g_ild2 (q := 114) dX3_round_113 rfl ?_
            refine g_if_ne (t := 124) (q := 117) dX3_round_114 rfl rfl (fun c_114 => ?_) (fun c_114 => ?_)
            · refine g_ild2 (q := 125) dX3_round_124 rfl ?_
              refine g_iconst (q := 126) dX3_round_125 ki_1 rfl ?_
              refine g_ic_ne (t := 136) (q := 129) dX3_round_126 rfl rfl (fun c_126 => ?_) (fun c_126 => ?_)
              · refine g_ild2 (q := 137) dX3_round_136 rfl ?_
                refine g_iconst (q := 138) dX3_round_137 ki_3 rfl ?_
                refine g_ic_ne (t := 148) (q := 141) dX3_round_138 rfl rfl (fun c_138 => ?_) (fun c_138 => ?_)
                · refine g_bipush (q := 150) dX3_round_148 kb_m2 rfl ?_
                  refine g_iret dX3_round_150 (Nat.zero_le _) (Nat.zero_le _) ?_
                  refine ⟨_, rfl, R _ _ ?_ hK⟩
                  unfold rdA
                  rw [if_neg c_29, if_neg c_55, if_neg c_70, if_neg c_86, if_neg c_114, if_neg c_126, if_neg c_138]
                · refine g_ald0 (q := 142) dX3_round_141 rfl ?_
                  refine m_call (q := 145) hk0 (c_greedy hk0 hO hQ) sv_X3_468 dX3_round_142 rfl rfl rfl (Nat.le_of_ble_eq_true rfl) ⟨Nat.le_of_ble_eq_true rfl, Nat.le_of_ble_eq_true rfl⟩ ⟨Nat.zero_le _, Nat.zero_le _⟩ (mgI (fun x S2 h => ?_))
                  obtain ⟨hx, hK1⟩ := h
                  subst hx
                  replace hK := hK.then (hK1.up (scr_of _ rfl))
                  refine g_goto (t := 150) dX3_round_145 rfl ?_
                  refine g_iret dX3_round_150 (Nat.zero_le _) (Nat.zero_le _) ?_
                  refine ⟨_, rfl, R _ _ ?_ hK⟩
                  unfold rdA
                  rw [if_neg c_29, if_neg c_55, if_neg c_70, if_neg c_86, if_neg c_114, if_neg c_126, if_pos c_138]
              · refine g_ald0 (q := 130) dX3_round_129 rfl ?_
                refine m_getI (q := 133) hk0 fs_X3_442 dX3_round_130 rfl rfl rfl ?_
                refine g_top hQ.2.1 ?_
                refine g_goto (t := 150) dX3_round_133 rfl ?_
                refine g_iret dX3_round_150 (Nat.zero_le _) (Nat.zero_le _) ?_
                refine ⟨_, rfl, R _ _ ?_ hK⟩
                unfold rdA
                rw [if_neg c_29, if_neg c_55, if_neg c_70, if_neg c_86, if_neg c_114, if_pos c_126]
            · refine g_ald0 (q := 118) dX3_round_117 rfl ?_
              refine m_getI (q := 121) hk0 fs_X3_439 dX3_round_118 rfl rfl rfl ?_
              refine g_top hQ.1 ?_
              refine g_goto (t := 150) dX3_round_121 rfl ?_
              refine g_iret dX3_round_150 (Nat.zero_le _) (Nat.zero_le _) ?_
              refine ⟨_, rfl, R _ _ ?_ hK⟩
              unfold rdA
              rw [if_neg c_29, if_neg c_55, if_neg c_70, if_neg c_86, if_pos c_114]
          · refine g_ald0 (q := 90) dX3_round_89 rfl ?_
            refine m_call (q := 93) hk0 (c_serve hk0 hO hQ) sv_X3_465 dX3_round_90 rfl rfl rfl (Nat.le_of_ble_eq_true rfl) ⟨Nat.le_of_ble_eq_true rfl, Nat.le_of_ble_eq_true rfl⟩ ⟨Nat.zero_le _, Nat.zero_le _⟩ (mgI (fun x S2 h => ?_))
            obtain ⟨hx, hK1, hW⟩ := h
            subst hx
            replace hK := hK.then (hK1.up (scr_of _ rfl))
            refine g_ist3 (q := 94) dX3_round_93 rfl rfl ?_
            refine g_ild2 (q := 95) dX3_round_94 rfl ?_
            refine g_iconst (q := 96) dX3_round_95 ki_2 rfl ?_
            refine g_ic_ne (t := 103) (q := 99) dX3_round_96 rfl rfl (fun c_96 => ?_) (fun c_96 => ?_)
            · obtain ⟨x, x1, x2, rfl⟩ := in_of (by omega) (by omega) c_86
              refine g_ald0 (q := 104) dX3_round_103 rfl ?_
              refine m_getA (j := 31) (q := 107) hk0 fs_X3_104 dX3_round_104 rfl (fun _ _ => rfl) ⟨rfl, by decide, by decide⟩ ?_
              refine g_ild2 (q := 108) dX3_round_107 rfl ?_
              refine g_bipush (q := 110) dX3_round_108 kb_40 rfl ?_
              refine g_isubN (q := 111) dX3_round_110 (by omega) rfl ?_
              refine m_iald (n := (x - 40)) (q := 112) hk0 dX3_round_111 rfl ma_59 rfl (by omega) ?_
              refine g_iret dX3_round_112 (Nat.zero_le _) (Nat.zero_le _) ?_
              refine ⟨_, rfl, R _ _ ?_ hK⟩
              unfold rdA
              rw [if_neg c_29, if_neg c_55, if_neg c_96, if_pos c_86, nI_clamp (n := x) (by omega), hW (x - 40) (by omega)]
            · exact absurd c_96 c_70
      · obtain ⟨x, x1, x2, rfl⟩ := in_of (by omega) (by omega) c_55
        refine g_ald0 (q := 59) dX3_round_58 rfl ?_
        refine m_getA (j := 30) (q := 62) hk0 fs_X3_101 dX3_round_59 rfl (fun _ _ => rfl) ⟨rfl, by decide, by decide⟩ ?_
        refine g_ild2 (q := 63) dX3_round_62 rfl ?_
        refine g_bipush (q := 65) dX3_round_63 kb_20 rfl ?_
        refine g_isubN (q := 66) dX3_round_65 (by omega) rfl ?_
        refine m_iald (n := (x - 20)) (q := 67) hk0 dX3_round_66 rfl ma_58 rfl (by omega) ?_
        refine g_iret dX3_round_67 (Nat.zero_le _) (Nat.zero_le _) ?_
        refine ⟨_, rfl, R _ _ ?_ hK⟩
        unfold rdA
        rw [if_neg c_29, if_pos c_55, nI_clamp (n := x) (by omega), hQ.2.2.2 (x - 20) (by omega)]
    · obtain ⟨x, x1, x2, rfl⟩ := in_of (by omega) (by omega) c_29
      refine g_ald0 (q := 33) dX3_round_32 rfl ?_
      refine m_getA (j := 29) (q := 36) hk0 fs_X3_98 dX3_round_33 rfl (fun _ _ => rfl) ⟨rfl, by decide, by decide⟩ ?_
      refine g_ild2 (q := 37) dX3_round_36 rfl ?_
      refine g_bipush (q := 39) dX3_round_37 kb_10 rfl ?_
      refine g_isubN (q := 40) dX3_round_39 (by omega) rfl ?_
      refine m_iald (n := (x - 10)) (q := 41) hk0 dX3_round_40 rfl ma_57 rfl (by omega) ?_
      refine g_iret dX3_round_41 (Nat.zero_le _) (Nat.zero_le _) ?_
      refine ⟨_, rfl, R _ _ ?_ hK⟩
      unfold rdA
      rw [if_pos c_29, nI_clamp (n := x) (by omega), hQ.2.2.1 (x - 10) (by omega), if_pos (by omega)]
  · refine g_bipush (q := 15) dX3_round_13 kb_m2 rfl ?_
    refine g_iret dX3_round_15 (Nat.zero_le _) (Nat.zero_le _) ?_
    exact ⟨_, rfl, _, rfl, by unfold q_round; rw [if_neg c_10], hK⟩
end MRound4

