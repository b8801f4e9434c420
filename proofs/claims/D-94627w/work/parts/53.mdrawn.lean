set_option maxRecDepth 100000
/-- a tablet worn bit by bit: the seed, the mark, how many bits are lost -/
def wrn (W : Nat) (k x m : Int32) : Nat → Int32 × Int32 × Nat
  | 0 => (x, m, 0)
  | i + 1 => if bl m.toInt64 i = true ∧ (wrn W k x m i).2.2 < W then (if thr (rll (wrn W k x m i).1) (nI 10) < k then (rll (wrn W k x m i).1, (wrn W k x m i).2.1 &&& (nI (2 ^ i) ^^^ (-1)), (wrn W k x m i).2.2 + 1) else (rll (wrn W k x m i).1, (wrn W k x m i).2.1, (wrn W k x m i).2.2)) else wrn W k x m i
theorem wrn_succ (W : Nat) (k x m : Int32) (i : Nat) : wrn W k x m (i + 1) = if bl m.toInt64 i = true ∧ (wrn W k x m i).2.2 < W then (if thr (rll (wrn W k x m i).1) (nI 10) < k then (rll (wrn W k x m i).1, (wrn W k x m i).2.1 &&& (nI (2 ^ i) ^^^ (-1)), (wrn W k x m i).2.2 + 1) else (rll (wrn W k x m i).1, (wrn W k x m i).2.1, (wrn W k x m i).2.2)) else wrn W k x m i := rfl
theorem wrn_le (W : Nat) (k x m : Int32) : ∀ i, (wrn W k x m i).2.2 ≤ i
  | 0 => Nat.le_refl _
  | i + 1 => by
    have := wrn_le W k x m i
    rw [wrn_succ]
    split
    · split
      · show _ + 1 ≤ i + 1
        omega
      · exact Nat.le_succ_of_le this
    · omega
theorem wrn_bt (W : Nat) (k x m : Int32) : ∀ i j, i ≤ j → j < 32 → bt (wrn W k x m i).2.1 j = bt m j
  | 0, _, _, _ => rfl
  | i + 1, j, h, hj => by
    have ih := wrn_bt W k x m i j (by omega) hj
    rw [wrn_succ]
    split
    · split
      · show bt ((wrn W k x m i).2.1 &&& (nI (2 ^ i) ^^^ (-1))) j = _
        rw [b_and, b_xor, bt_nI j hj, b_m1 j hj, ih, Nat.testBit_two_pow_of_ne (by omega)]
        cases bt m j <;> rfl
      · exact ih
    · exact ih
/-- the seed ahead of each cell; the cell then -/
def gC (L : LV) (c : Nat) : Int32 := vM L (c / 12) (c % 12)
def sdF (L : LV) (k x : Int32) : Nat → Int32
  | 0 => x
  | c + 1 => if gC L c = -1 then sdF L k x c else (wrn (vW L) k (sdF L k x c) (gC L c) (vB L)).1
theorem sdF_succ (L : LV) (k x : Int32) (c : Nat) : sdF L k x (c + 1) = if gC L c = -1 then sdF L k x c else (wrn (vW L) k (sdF L k x c) (gC L c) (vB L)).1 := rfl
def fnC (L : LV) (k x : Int32) (c : Nat) : Int32 := if gC L c = -1 then -1 else (wrn (vW L) k (sdF L k x c) (gC L c) (vB L)).2.1
def q_drawn (n : Nat) (Ls : Nat → LV) (l x k s p : Int32) : Int32 := if (nI 0 ≤ k ∧ k ≤ nI 10) ∧ ixo l n ∧ ixo s (vN (Ls l.toNatClampNeg)) ∧ ixo p (vP (Ls l.toNatClampNeg) s.toNatClampNeg) then fnC (Ls l.toNatClampNeg) k x (12 * s.toNatClampNeg + p.toNatClampNeg) else -2
section MDrawn
variable {E : zE} {M : zM} {o : Nat} {S S0 : zS} {n : Nat} {Ls : Nat → LV} {L : LV}
theorem lp_drIn (hk0 : Sk E M o) {w b c : Nat} {k x m : Int32} (hb : b ≤ 5) (hc : c < 48) (hw : w < 4) (hbt : (S0.1 21 0) = nI b) (hwr : (S0.1 22 0) = nI w) (hm : bt m 31 = false) {a1 a2 a4 a5 : Option Value} {Post : Option Value → zM → Prop}
    (kk : ∀ S' x7 x8, Kp [27, 60] S0 S' → (∀ j, j ≠ c → (S'.1 27) j = (S0.1 27) j) → (S'.1 27) c = (wrn w k x m b).2.1 → (S'.1 60 0) = (wrn w k x m b).1 → (GoR E yX3_drawn cX3_drawn 9 (some .int) 4 0 0) Post 138 [some (.ref o), a1, a2, some (.int k), a4, a5, some (.int (nI c)), x7, x8] [] (mv M o S') 0 0) :
    ∀ i, i ≤ b → ∀ S', Kp [27, 60] S0 S' → (∀ j, j ≠ c → (S'.1 27) j = (S0.1 27) j) → (S'.1 27) c = (wrn w k x m i).2.1 → (S'.1 60 0) = (wrn w k x m i).1 → (GoR E yX3_drawn cX3_drawn 9 (some .int) 4 0 0) Post 58 [some (.ref o), a1, a2, some (.int k), a4, a5, some (.int (nI c)), some (.int (nI (wrn w k x m i).2.2)), some (.int (nI i))] [] (mv M o S') 0 0 := by
  refine up_ind _ (fun i hi ih S' hK hJ hmc hsd => ?_)
  have hle := wrn_le w k x m i
  have hne : ¬ (wrn w k x m i).2.1 = -1 := fun e => by
    have h1 := wrn_bt w k x m i 31 (by omega) (by omega)
    rw [e, hm, b_m1 31 (by omega)] at h1
    cases h1
  have hbl : i < 32 → bl (wrn w k x m i).2.1.toInt64 i = bl m.toInt64 i := fun h => by
    rw [bl_ext32 _ (by omega), bl_ext32 _ (by omega), if_pos h, if_pos h]
    exact wrn_bt w k x m i i (Nat.le_refl _) h
  refine g_ild8 (q := 60) dX3_drawn_58 rfl ?_
  refine g_ald0 (q := 61) dX3_drawn_60 rfl ?_
  refine m_getI (q := 64) hk0 fs_X3_234 dX3_drawn_61 rfl rfl rfl ?_
  refine g_top (show (S'.1 21 0) = nI b by rw [(hK 21 rfl).1]; exact hbt) ?_
  refine g_icN_ge (t := 138) (q := 67) dX3_drawn_64 rfl rfl (by omega) (by omega) (fun c_64 => ?_) (fun c_64 => ?_)
  · obtain rfl : i = b := by omega
    exact kk S' _ _ hK hJ hmc hsd
  · refine g_ald0 (q := 68) dX3_drawn_67 rfl ?_
    refine m_getA (j := 13) (q := 71) hk0 fs_X3_47 dX3_drawn_68 rfl (fun _ _ => rfl) ⟨rfl, by decide, by decide⟩ ?_
    refine g_ild6 (q := 73) dX3_drawn_71 rfl ?_
    refine m_iald (n := c) (q := 74) hk0 dX3_drawn_73 rfl ma_27 rfl (by omega) ?_
    refine g_top hmc ?_
    refine g_iconst (q := 75) dX3_drawn_74 ki_m1 rfl ?_
    refine g_ic_eq (t := 138) (q := 78) dX3_drawn_75 rfl rfl (fun c_75 => ?_) (fun c_75 => ?_)
    · exact absurd c_75 hne
    · refine g_ald0 (q := 79) dX3_drawn_78 rfl ?_
      refine m_getA (j := 13) (q := 82) hk0 fs_X3_47 dX3_drawn_79 rfl (fun _ _ => rfl) ⟨rfl, by decide, by decide⟩ ?_
      refine g_ild6 (q := 84) dX3_drawn_82 rfl ?_
      refine m_iald (n := c) (q := 85) hk0 dX3_drawn_84 rfl ma_27 rfl (by omega) ?_
      refine g_top hmc ?_
      refine g_i2l (q := 86) dX3_drawn_85 rfl ?_
      refine g_ild8 (q := 88) dX3_drawn_86 rfl ?_
      refine m_calls (q := 91) (c_has _ _ _ _ (by omega)) ss_X3_115 dX3_drawn_88 rfl rfl rfl (Nat.le_of_ble_eq_true rfl) ⟨Nat.le_of_ble_eq_true rfl, Nat.le_of_ble_eq_true rfl⟩ ⟨Nat.zero_le _, Nat.zero_le _⟩ (gIe ?_)
      refine g_ifb_eq (t := 132) (q := 94) dX3_drawn_91 rfl rfl (fun c_91 => ?_) (fun c_91 => ?_)
      · refine g_inc8 (w := nI (i + 1)) (q := 135) dX3_drawn_132 rfl (nI_1 _) rfl ?_
        refine g_goto (t := 58) dX3_drawn_135 rfl ?_
        have es : wrn w k x m (i + 1) = wrn w k x m i := by rw [wrn_succ, if_neg (fun h => c_91 (by rw [hbl (by omega)]; exact h.1))]
        have := ih (by omega) S' hK hJ (by rw [es]; exact hmc) (by rw [es]; exact hsd)
        rw [es] at this
        exact this
      · refine g_ild7 (q := 96) dX3_drawn_94 rfl ?_
        refine g_ald0 (q := 97) dX3_drawn_96 rfl ?_
        refine m_getI (q := 100) hk0 fs_X3_237 dX3_drawn_97 rfl rfl rfl ?_
        refine g_top (show (S'.1 22 0) = nI w by rw [(hK 22 rfl).1]; exact hwr) ?_
        refine g_icN_ge (t := 132) (q := 103) dX3_drawn_100 rfl rfl (by omega) (by omega) (fun c_100 => ?_) (fun c_100 => ?_)
        · refine g_inc8 (w := nI (i + 1)) (q := 135) dX3_drawn_132 rfl (nI_1 _) rfl ?_
          refine g_goto (t := 58) dX3_drawn_135 rfl ?_
          have es : wrn w k x m (i + 1) = wrn w k x m i := by rw [wrn_succ, if_neg (fun h => by omega)]
          have := ih (by omega) S' hK hJ (by rw [es]; exact hmc) (by rw [es]; exact hsd)
          rw [es] at this
          exact this
        · refine g_ald0 (q := 104) dX3_drawn_103 rfl ?_
          refine g_bipush (q := 106) dX3_drawn_104 kb_10 rfl ?_
          refine m_call (q := 109) hk0 (c_draw hk0 (m := nI 10) (by decide)) sv_X3_475 dX3_drawn_106 rfl rfl rfl (Nat.le_of_ble_eq_true rfl) ⟨Nat.le_of_ble_eq_true rfl, Nat.le_of_ble_eq_true rfl⟩ ⟨Nat.zero_le _, Nat.zero_le _⟩ (gI (fun y M' h => ?_))
          obtain ⟨rfl, rfl⟩ := h
          rw [hsd]
          refine g_ild3 (q := 110) dX3_drawn_109 rfl ?_
          refine g_ic_ge (t := 132) (q := 113) dX3_drawn_110 rfl rfl (fun c_110 => ?_) (fun c_110 => ?_)
          · refine g_inc8 (w := nI (i + 1)) (q := 135) dX3_drawn_132 rfl (nI_1 _) rfl ?_
            refine g_goto (t := 58) dX3_drawn_135 rfl ?_
            have es : wrn w k x m (i + 1) = (rll (wrn w k x m i).1, (wrn w k x m i).2.1, (wrn w k x m i).2.2) := by rw [wrn_succ, if_pos ⟨by rw [← hbl (by omega)]; exact c_91, by omega⟩, if_neg (Int32.not_lt.mpr c_110)]
            have := ih (by omega) _ (hK.s1 (k := 60) (j := 0) (v := rll (wrn w k x m i).1) rfl) hJ (by rw [es]; exact hmc) (by rw [es]; rfl)
            rw [es] at this
            exact this
          · refine g_ald0 (q := 114) dX3_drawn_113 rfl ?_
            refine m_getA (j := 13) (q := 117) hk0 fs_X3_47 dX3_drawn_114 rfl (fun _ _ => rfl) ⟨rfl, by decide, by decide⟩ ?_
            refine g_ild6 (q := 119) dX3_drawn_117 rfl ?_
            refine g_dup2 (q := 120) dX3_drawn_119 rfl rfl rfl ?_
            refine m_iald (n := c) (q := 121) hk0 dX3_drawn_120 rfl ma_27 rfl (by omega) ?_
            refine g_top (show _ = (wrn w k x m i).2.1 from hmc) ?_
            refine g_iconst (q := 122) dX3_drawn_121 ki_1 rfl ?_
            refine g_ild8 (q := 124) dX3_drawn_122 rfl ?_
            refine g_ishl (q := 125) dX3_drawn_124 rfl ?_
            refine g_top (shl1 _ (by omega)) ?_
            refine g_iconst (q := 126) dX3_drawn_125 ki_m1 rfl ?_
            refine g_ixor (q := 127) dX3_drawn_126 rfl ?_
            refine g_iand (q := 128) dX3_drawn_127 rfl ?_
            refine m_iast (n := c) (q := 129) hk0 dX3_drawn_128 rfl ma_27 rfl (by omega) ?_
            refine g_inc7 (w := nI (((wrn w k x m i).2.2) + 1)) (q := 132) dX3_drawn_129 rfl (nI_1 _) rfl ?_
            refine g_inc8 (w := nI (i + 1)) (q := 135) dX3_drawn_132 rfl (nI_1 _) rfl ?_
            refine g_goto (t := 58) dX3_drawn_135 rfl ?_
            have es : wrn w k x m (i + 1) = (rll (wrn w k x m i).1, (wrn w k x m i).2.1 &&& (nI (2 ^ i) ^^^ (-1)), (wrn w k x m i).2.2 + 1) := by rw [wrn_succ, if_pos ⟨by rw [← hbl (by omega)]; exact c_91, by omega⟩, if_pos (Int32.not_le.mp c_110)]
            have := ih (by omega) _ ((hK.s1 (k := 60) (j := 0) (v := rll (wrn w k x m i).1) rfl).s1 (k := 27) (j := c) (v := (wrn w k x m i).2.1 &&& (nI (2 ^ i) ^^^ (-1))) rfl) (fun j hj => by rw [ms1_nj _ _ _ hj]; exact hJ j hj) (by rw [es, ms1_at]) (by rw [es]; rfl)
            rw [es] at this
            exact this
end MDrawn

