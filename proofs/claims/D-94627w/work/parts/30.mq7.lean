set_option maxRecDepth 100000
def fbt (L : LV) (z : Nat) (low high : Int32) (i : Nat) : Bool := rB L z i && decide (low ≤ nI i ∧ nI i ≤ high)
theorem fbt_t {L : LV} {z i : Nat} {low high : Int32} (h1 : rB L z i = true) (h2 : low ≤ nI i) (h3 : nI i ≤ high) : fbt L z low high i = true := by unfold fbt; rw [h1, decide_eq_true ⟨h2, h3⟩]; rfl
theorem fbt_f1 {L : LV} {z i : Nat} {low high : Int32} (h1 : rB L z i = false) : fbt L z low high i = false := by unfold fbt; rw [h1]; rfl
theorem fbt_f2 {L : LV} {z i : Nat} {low high : Int32} (h : ¬ (low ≤ nI i ∧ nI i ≤ high)) : fbt L z low high i = false := by unfold fbt; rw [decide_eq_false h, Bool.and_false]
/-- the fewest tablets that go -/
def due (n all set s : Nat) : Nat := all / n + (if set.testBit s = true then 1 else 0)
def evGo (L : LV) (all set m : Nat) : Nat := fb_sm (fun s => ntab (vM L s) (vP L s) - due (vN L) all set s) m
def evFit (L : LV) (all set : Nat) : Nat → Bool
  | 0 => true
  | s + 1 => evFit L all set s && decide (due (vN L) all set s ≤ vP L s)
def evB (L : LV) (all : Nat) : Nat → Int32
  | 0 => -1
  | set + 1 => if fb_ct (fun i => set.testBit i) 32 = all % vN L ∧ evFit L all set (vN L) = true ∧ (evB L all set = -1 ∨ nI (evGo L all set (vN L)) < evB L all set) then nI (evGo L all set (vN L)) else evB L all set
theorem evB_succ (L : LV) (all set : Nat) : evB L all (set + 1) = if fb_ct (fun i => set.testBit i) 32 = all % vN L ∧ evFit L all set (vN L) = true ∧ (evB L all set = -1 ∨ nI (evGo L all set (vN L)) < evB L all set) then nI (evGo L all set (vN L)) else evB L all set := rfl
def evA (L : LV) : Int32 := if vN L = 0 then nI 0 else evB L (ttab L (vN L)) (2 ^ vN L)
theorem sub0 {a b : Nat} (ha : a < 2 ^ 30) (hb : b < 2 ^ 30) : (if nI a - nI b < nI 0 then nI 0 else nI a - nI b) = nI (a - b) := by
  by_cases h : b ≤ a
  · rw [pk_sub h, if_neg (show ¬ nI (a - b) < nI 0 from nI_pos (by omega))]
  · rw [if_pos (show nI a - nI b < nI 0 from pk_sneg hb (by omega)), show a - b = 0 by omega]
theorem ct_int {set : Nat} (h : set < 2 ^ 31) : fb_ct (bl (nI set).toInt64) 32 = fb_ct (fun i => set.testBit i) 32 := fb_ct_cong (fun i hi => by rw [bl_ext32 _ (by omega), if_pos hi, bt_nI i hi])
theorem bl_int {set s : Nat} (hs : s < 32) : bl (nI set).toInt64 s = set.testBit s := by rw [bl_ext32 _ (by omega), if_pos hs, bt_nI s hs]
section MQ7
variable {E : zE} {M : zM} {o : Nat} {S : zS} {n : Nat} {Ls : Nat → LV} {L : LV}
theorem lp_btw3 (hk0 : Sk E M o) (hH : Hand S L) (hL : LOK L) {l s p low high : Int32} {z : Nat} {Post : Option Value → zM → Prop} (hpost : ∀ r : Int64, (∀ i, i < 64 → bl r i = (decide (i < 2 ^ vB L) && fbt L z low high i)) → Post (some (.long r)) (mv M o S)) :
    ∀ k, k ≤ 2 ^ vB L → ∀ r : Int64, (∀ i, i < 64 → bl r i = (decide (i < k) && fbt L z low high i)) → (GoR E yX3_between cX3_between 10 (some .long) 5 0 0) Post 143 [some (.ref o), some (.int l), some (.int s), some (.int p), some (.int (nI z)), some (.int low), some (.int high), some (.long r), none, some (.int (nI k))] [] (mv M o S) 0 0 := by
  have h32 := pow_b hL.1.2
  have h5 := hL.1.2
  refine up_ind _ (fun k hk ih r hr => ?_)
  refine g_ild9 (q := 145) dX3_between_143 rfl ?_
  refine g_iconst (q := 146) dX3_between_145 ki_1 rfl ?_
  refine g_ald0 (q := 147) dX3_between_146 rfl ?_
  refine m_getI (q := 150) hk0 fs_X3_234 dX3_between_147 rfl rfl rfl ?_
  refine g_top hH.1 ?_
  refine g_ishl (q := 151) dX3_between_150 rfl ?_
  refine g_top (shl1 _ (by omega)) ?_
  refine g_icN_ge (t := 201) (q := 154) dX3_between_151 rfl rfl (by omega) (by omega) (fun c_151 => ?_) (fun c_151 => ?_)
  · obtain rfl : k = 2 ^ vB L := by omega
    refine g_lld7 (q := 203) dX3_between_201 rfl ?_
    exact g_lret dX3_between_203 (Nat.zero_le _) (Nat.zero_le _) (hpost r hr)
  · refine g_lld7 (q := 156) dX3_between_154 rfl ?_
    refine g_ald0 (q := 157) dX3_between_156 rfl ?_
    refine g_ild4 (q := 159) dX3_between_157 rfl ?_
    refine m_call (q := 162) hk0 (c_readingsOf hk0 hH hL z) sv_X3_353 dX3_between_159 rfl rfl rfl (Nat.le_of_ble_eq_true rfl) ⟨Nat.le_of_ble_eq_true rfl, Nat.le_of_ble_eq_true rfl⟩ ⟨Nat.zero_le _, Nat.zero_le _⟩ (gL fun r2 M' hr2 => ?_)
    obtain ⟨hr2, rfl⟩ := hr2
    have e2 := hr2 k (by omega)
    refine g_ild9 (q := 164) dX3_between_162 rfl ?_
    refine m_calls (q := 167) (c_has _ _ _ _ (by omega)) ss_X3_115 dX3_between_164 rfl rfl rfl (Nat.le_of_ble_eq_true rfl) ⟨Nat.le_of_ble_eq_true rfl, Nat.le_of_ble_eq_true rfl⟩ ⟨Nat.zero_le _, Nat.zero_le _⟩ (gIe ?_)
    rw [decide_eq_true c_151, Bool.true_and] at e2
    refine g_ifb_eq (t := 191) (q := 170) dX3_between_167 rfl rfl (fun c_167 => ?_) (fun c_167 => ?_)
    · refine g_lconst (v := 0) (q := 192) dX3_between_191 rfl rfl ?_
      refine g_lor (q := 193) dX3_between_192 rfl ?_
      refine g_lst7 (q := 195) dX3_between_193 rfl rfl ?_
      refine g_inc9 (w := nI (k + 1)) (q := 198) dX3_between_195 rfl (nI_1 _) rfl ?_
      refine g_goto (t := 143) dX3_between_198 rfl ?_
      exact ih (by omega) _ (sl_skip hr (fbt_f1 (by rw [← e2]; exact Bool.eq_false_iff.mpr c_167)))
    · refine g_ild9 (q := 172) dX3_between_170 rfl ?_
      refine g_ild5 (q := 174) dX3_between_172 rfl ?_
      refine g_ic_lt (t := 191) (q := 177) dX3_between_174 rfl rfl (fun c_174 => ?_) (fun c_174 => ?_)
      · refine g_lconst (v := 0) (q := 192) dX3_between_191 rfl rfl ?_
        refine g_lor (q := 193) dX3_between_192 rfl ?_
        refine g_lst7 (q := 195) dX3_between_193 rfl rfl ?_
        refine g_inc9 (w := nI (k + 1)) (q := 198) dX3_between_195 rfl (nI_1 _) rfl ?_
        refine g_goto (t := 143) dX3_between_198 rfl ?_
        exact ih (by omega) _ (sl_skip hr (fbt_f2 (fun h => absurd c_174 (Int32.not_lt.mpr h.1))))
      · refine g_ild9 (q := 179) dX3_between_177 rfl ?_
        refine g_ild6 (q := 181) dX3_between_179 rfl ?_
        refine g_ic_gt (t := 191) (q := 184) dX3_between_181 rfl rfl (fun c_181 => ?_) (fun c_181 => ?_)
        · refine g_lconst (v := 0) (q := 192) dX3_between_191 rfl rfl ?_
          refine g_lor (q := 193) dX3_between_192 rfl ?_
          refine g_lst7 (q := 195) dX3_between_193 rfl rfl ?_
          refine g_inc9 (w := nI (k + 1)) (q := 198) dX3_between_195 rfl (nI_1 _) rfl ?_
          refine g_goto (t := 143) dX3_between_198 rfl ?_
          exact ih (by omega) _ (sl_skip hr (fbt_f2 (fun h => absurd c_181 (Int32.not_lt.mpr h.2))))
        · refine g_lconst (v := 1) (q := 185) dX3_between_184 rfl rfl ?_
          refine g_ild9 (q := 187) dX3_between_185 rfl ?_
          refine g_lshl (q := 188) dX3_between_187 rfl ?_
          refine g_goto (t := 192) dX3_between_188 rfl ?_
          refine g_lor (q := 193) dX3_between_192 rfl ?_
          refine g_lst7 (q := 195) dX3_between_193 rfl rfl ?_
          refine g_inc9 (w := nI (k + 1)) (q := 198) dX3_between_195 rfl (nI_1 _) rfl ?_
          refine g_goto (t := 143) dX3_between_198 rfl ?_
          exact ih (by omega) _ (sl_add hr (by omega) (fbt_t (by rw [← e2]; exact c_167) (Int32.not_lt.mp c_174) (Int32.not_lt.mp c_181)))
theorem lp_btw2 (hk0 : Sk E M o) (hH : Hand S L) (hL : LOK L) {l z low : Int32} {s p : Nat} (hs : s < 4) (hp : p < vP L s) {x8 x9 : Option Value} {Post : Option Value → zM → Prop} (kk : ∀ x8, (GoR E yX3_between cX3_between 10 (some .long) 5 0 0) Post 137 [some (.ref o), some (.int l), some (.int (nI s)), some (.int (nI p)), some (.int z), some (.int low), some (.int (higB (vM L s) (vP L s) (vP L s - 1 - p))), some (.int (nI p)), x8, x9] [] (mv M o S) 0 0) :
    ∀ j, j ≤ vP L s - 1 - p → ∀ x8, (GoR E yX3_between cX3_between 10 (some .long) 5 0 0) Post 96 [some (.ref o), some (.int l), some (.int (nI s)), some (.int (nI p)), some (.int z), some (.int low), some (.int (higB (vM L s) (vP L s) j)), some (.int (nI (vP L s - 1 - j))), x8, x9] [] (mv M o S) 0 0 := by
  have h12 := hL.p12 s
  refine up_ind _ (fun j hj ih x8 => ?_)
  refine g_ild7 (q := 98) dX3_between_96 rfl ?_
  refine g_ild3 (q := 99) dX3_between_98 rfl ?_
  refine g_icN_le (t := 137) (q := 102) dX3_between_99 rfl rfl (by omega) (by omega) (fun c_99 => ?_) (fun c_99 => ?_)
  · have := kk x8
    rw [show vP L s - 1 - p = j by omega] at this
    rw [show p = vP L s - 1 - j by omega] at this ⊢
    exact this
  · refine g_ald0 (q := 103) dX3_between_102 rfl ?_
    refine m_getA (j := 13) (q := 106) hk0 fs_X3_47 dX3_between_103 rfl (fun _ _ => rfl) ⟨rfl, by decide, by decide⟩ ?_
    refine g_bipush (q := 108) dX3_between_106 kb_12 rfl ?_
    refine g_ild2 (q := 109) dX3_between_108 rfl ?_
    refine g_imulN (q := 110) dX3_between_109 rfl ?_
    refine g_ild7 (q := 112) dX3_between_110 rfl ?_
    refine g_iaddN (q := 113) dX3_between_112 rfl ?_
    refine m_iald (n := ((12 * s) + ((vP L s - 1 - j)))) (q := 114) hk0 dX3_between_113 rfl ma_27 rfl (by omega) ?_
    refine g_top (hH.2.2.2.2.2.2 s _ hs (by omega)) ?_
    refine g_ist8 (q := 116) dX3_between_114 rfl rfl ?_
    refine g_ild8 (q := 118) dX3_between_116 rfl ?_
    refine g_iconst (q := 119) dX3_between_118 ki_m1 rfl ?_
    refine g_ic_ne (t := 127) (q := 122) dX3_between_119 rfl rfl (fun c_119 => ?_) (fun c_119 => ?_)
    · refine g_ild8 (q := 129) dX3_between_127 rfl ?_
      refine g_ist6 (q := 131) dX3_between_129 rfl rfl ?_
      refine g_inc7 (w := nI ((vP L s - 1 - j) - 1)) (q := 134) dX3_between_131 rfl (sb_m1 (by omega)) rfl ?_
      refine g_goto (t := 96) dX3_between_134 rfl ?_
      have := ih (by omega)
      unfold higB at this
      rw [if_neg c_119, show vP L s - 1 - (j + 1) = vP L s - 1 - j - 1 by omega] at this
      exact this _
    · refine g_ild6 (q := 124) dX3_between_122 rfl ?_
      refine g_goto (t := 129) dX3_between_124 rfl ?_
      refine g_ist6 (q := 131) dX3_between_129 rfl rfl ?_
      refine g_inc7 (w := nI ((vP L s - 1 - j) - 1)) (q := 134) dX3_between_131 rfl (sb_m1 (by omega)) rfl ?_
      refine g_goto (t := 96) dX3_between_134 rfl ?_
      have := ih (by omega)
      unfold higB at this
      rw [if_pos c_119, show vP L s - 1 - (j + 1) = vP L s - 1 - j - 1 by omega] at this
      exact this _
theorem lp_btw1 (hk0 : Sk E M o) (hH : Hand S L) (hL : LOK L) {l z : Int32} {s p : Nat} (hs : s < 4) (hp : p < vP L s) {x9 : Option Value} {Post : Option Value → zM → Prop} (kk : ∀ x8, (GoR E yX3_between cX3_between 10 (some .long) 5 0 0) Post 86 [some (.ref o), some (.int l), some (.int (nI s)), some (.int (nI p)), some (.int z), some (.int (lowB (vM L s) p)), some (.int (nI 32)), some (.int (nI p)), x8, x9] [] (mv M o S) 0 0) :
    ∀ j, j ≤ p → ∀ x8, (GoR E yX3_between cX3_between 10 (some .long) 5 0 0) Post 45 [some (.ref o), some (.int l), some (.int (nI s)), some (.int (nI p)), some (.int z), some (.int (lowB (vM L s) j)), some (.int (nI 32)), some (.int (nI j)), x8, x9] [] (mv M o S) 0 0 := by
  have h12 := hL.p12 s
  refine up_ind _ (fun j hj ih x8 => ?_)
  refine g_ild7 (q := 47) dX3_between_45 rfl ?_
  refine g_ild3 (q := 48) dX3_between_47 rfl ?_
  refine g_icN_ge (t := 86) (q := 51) dX3_between_48 rfl rfl (by omega) (by omega) (fun c_48 => ?_) (fun c_48 => ?_)
  · obtain rfl : j = p := by omega
    exact kk _
  · refine g_ald0 (q := 52) dX3_between_51 rfl ?_
    refine m_getA (j := 13) (q := 55) hk0 fs_X3_47 dX3_between_52 rfl (fun _ _ => rfl) ⟨rfl, by decide, by decide⟩ ?_
    refine g_bipush (q := 57) dX3_between_55 kb_12 rfl ?_
    refine g_ild2 (q := 58) dX3_between_57 rfl ?_
    refine g_imulN (q := 59) dX3_between_58 rfl ?_
    refine g_ild7 (q := 61) dX3_between_59 rfl ?_
    refine g_iaddN (q := 62) dX3_between_61 rfl ?_
    refine m_iald (n := ((12 * s) + j)) (q := 63) hk0 dX3_between_62 rfl ma_27 rfl (by omega) ?_
    refine g_top (hH.2.2.2.2.2.2 s j hs (by omega)) ?_
    refine g_ist8 (q := 65) dX3_between_63 rfl rfl ?_
    refine g_ild8 (q := 67) dX3_between_65 rfl ?_
    refine g_iconst (q := 68) dX3_between_67 ki_m1 rfl ?_
    refine g_ic_ne (t := 76) (q := 71) dX3_between_68 rfl rfl (fun c_68 => ?_) (fun c_68 => ?_)
    · refine g_ild8 (q := 78) dX3_between_76 rfl ?_
      refine g_ist5 (q := 80) dX3_between_78 rfl rfl ?_
      refine g_inc7 (w := nI (j + 1)) (q := 83) dX3_between_80 rfl (nI_1 _) rfl ?_
      refine g_goto (t := 45) dX3_between_83 rfl ?_
      have := ih (by omega)
      unfold lowB at this
      rw [if_neg c_68] at this
      exact this _
    · refine g_ild5 (q := 73) dX3_between_71 rfl ?_
      refine g_goto (t := 78) dX3_between_73 rfl ?_
      refine g_ist5 (q := 80) dX3_between_78 rfl rfl ?_
      refine g_inc7 (w := nI (j + 1)) (q := 83) dX3_between_80 rfl (nI_1 _) rfl ?_
      refine g_goto (t := 45) dX3_between_83 rfl ?_
      have := ih (by omega)
      unfold lowB at this
      rw [if_pos c_68] at this
      exact this _
theorem c_between (hk0 : Sk E M o) (hM : MLs S n Ls) (l s p m : Int32) : (Con E yX3_between cX3_between 10 (some .long) 5 0 0) [.ref o, .int l, .int s, .int p, .int m] (mv M o S) (pL (fun x => mP M o (fun S' => x = q_between n Ls l s p m ∧ Kp scr S S'))) := by
  have h2 := hM.1
  refine Go.enter [some (.ref o), some (.int l), some (.int s), some (.int p), some (.int m), none, none, none, none, none] rfl (Nat.le_of_ble_eq_true rfl) rfl (Nat.le_of_ble_eq_true rfl) ?_
  refine g_ald0 (q := 1) dX3_between_0 rfl ?_
  refine g_iconst (q := 2) dX3_between_1 ki_0 rfl ?_
  refine m_putI (q := 5) hk0 fs_X3_111 dX3_between_2 rfl rfl rfl ?_
  refine g_ald0 (q := 6) dX3_between_5 rfl ?_
  refine g_ild1 (q := 7) dX3_between_6 rfl ?_
  refine m_call (q := 10) hk0 (c_hand hk0 hM.cd _) sv_X3_270 dX3_between_7 rfl rfl rfl (Nat.le_of_ble_eq_true rfl) ⟨Nat.le_of_ble_eq_true rfl, Nat.le_of_ble_eq_true rfl⟩ ⟨Nat.zero_le _, Nat.zero_le _⟩ (mgI fun x S' h => ?_)
  obtain ⟨rfl, hK, hJ⟩ := h
  have hK : Kp scr S S' := (Kp.rf.s1 (ks := scr) (k := 0) rfl).then (hK.up hks_scr)
  refine g_ifb_eq (t := 31) (q := 13) dX3_between_10 rfl rfl (fun c_10 => ?_) (fun c_10 => ?_)
  · refine g_ldc2 (v := -1) (q := 34) q2026 dX3_between_31 rfl ?_
    exact g_lret dX3_between_34 (Nat.zero_le _) (Nat.zero_le _) ⟨_, rfl, _, rfl, by unfold q_between; rw [if_neg (fun h => c_10 h.1)], hK⟩
  · obtain ⟨hH, hBg⟩ := hJ c_10
    obtain ⟨l, hl, rfl⟩ := ixo_of c_10 (by omega)
    rw [nI_clamp (by omega)] at hH
    have hL := (hM.2.2 l hl).2
    have h4 := hL.2.2.2.1
    have h5 := hL.1.2
    have h32 := pow_b hL.1.2
    refine g_ald0 (q := 14) dX3_between_13 rfl ?_
    refine g_ild2 (q := 15) dX3_between_14 rfl ?_
    refine g_ild3 (q := 16) dX3_between_15 rfl ?_
    refine m_call (q := 19) hk0 (c_isPlace hk0 hH hL _ _) sv_X3_345 dX3_between_16 rfl rfl rfl (Nat.le_of_ble_eq_true rfl) ⟨Nat.le_of_ble_eq_true rfl, Nat.le_of_ble_eq_true rfl⟩ ⟨Nat.zero_le _, Nat.zero_le _⟩ (gIe ?_)
    refine g_ifb_eq (t := 31) (q := 22) dX3_between_19 rfl rfl (fun c_19 => ?_) (fun c_19 => ?_)
    · refine g_ldc2 (v := -1) (q := 34) q2026 dX3_between_31 rfl ?_
      exact g_lret dX3_between_34 (Nat.zero_le _) (Nat.zero_le _) ⟨_, rfl, _, rfl, by unfold q_between; rw [nI_clamp (by omega), if_neg (fun h => c_19 h.2.1)], hK⟩
    · refine g_ald0 (q := 23) dX3_between_22 rfl ?_
      refine g_ild4 (q := 25) dX3_between_23 rfl ?_
      refine m_call (q := 28) hk0 (c_isMark hk0 hH hL _) sv_X3_348 dX3_between_25 rfl rfl rfl (Nat.le_of_ble_eq_true rfl) ⟨Nat.le_of_ble_eq_true rfl, Nat.le_of_ble_eq_true rfl⟩ ⟨Nat.zero_le _, Nat.zero_le _⟩ (gIe ?_)
      refine g_ifb_ne (t := 35) (q := 31) dX3_between_28 rfl rfl (fun c_28 => ?_) (fun c_28 => ?_)
      · obtain ⟨c1, c2⟩ := c_19
        obtain ⟨s, hs, rfl⟩ := ixo_of c1 (by omega)
        rw [nI_clamp (by omega)] at c2
        have h12 := hL.p12 s
        obtain ⟨p, hp, rfl⟩ := ixo_of c2 (by omega)
        obtain ⟨m, hm, rfl⟩ := ixo_of c_28 (by omega)
        refine g_iconst (q := 36) dX3_between_35 ki_0 rfl ?_
        refine g_ist5 (q := 38) dX3_between_36 rfl rfl ?_
        refine g_bipush (q := 40) dX3_between_38 kb_32 rfl ?_
        refine g_ist6 (q := 42) dX3_between_40 rfl rfl ?_
        refine g_iconst (q := 43) dX3_between_42 ki_0 rfl ?_
        refine g_ist7 (q := 45) dX3_between_43 rfl rfl ?_
        refine lp_btw1 hk0 hH hL (by omega) hp (fun x8 => ?_) 0 (by omega) _
        refine g_ald0 (q := 87) dX3_between_86 rfl ?_
        refine m_getA (j := 11) (q := 90) hk0 fs_X3_41 dX3_between_87 rfl (fun _ _ => rfl) ⟨rfl, by decide, by decide⟩ ?_
        refine g_ild2 (q := 91) dX3_between_90 rfl ?_
        refine m_iald (n := s) (q := 92) hk0 dX3_between_91 rfl ma_25 rfl (by omega) ?_
        refine g_top (hH.2.2.2.2.1 s (by omega)) ?_
        refine g_iconst (q := 93) dX3_between_92 ki_1 rfl ?_
        refine g_isubN (q := 94) dX3_between_93 (by omega) rfl ?_
        refine g_ist7 (q := 96) dX3_between_94 rfl rfl ?_
        refine lp_btw2 hk0 hH hL (by omega) hp (x8 := none) (fun x8 => ?_) 0 (by omega) _
        refine g_lconst (v := 0) (q := 138) dX3_between_137 rfl rfl ?_
        refine g_lst7 (q := 140) dX3_between_138 rfl rfl ?_
        refine g_iconst (q := 141) dX3_between_140 ki_0 rfl ?_
        refine g_ist9 (q := 143) dX3_between_141 rfl rfl ?_
        refine lp_btw3 hk0 hH hL (fun r hr => ⟨_, rfl, _, rfl, ?_, hK⟩) 0 (Nat.zero_le _) _ sl_zero
        unfold q_between
        rw [nI_clamp (n := l) (by omega), nI_clamp (n := s) (by omega), nI_clamp (n := p) (by omega), nI_clamp (n := m) (by omega), if_pos ⟨c_10, ⟨c1, c2⟩, c_28⟩]
        exact eq_mkL (by omega) hr
      · refine g_ldc2 (v := -1) (q := 34) q2026 dX3_between_31 rfl ?_
        exact g_lret dX3_between_34 (Nat.zero_le _) (Nat.zero_le _) ⟨_, rfl, _, rfl, by unfold q_between; rw [nI_clamp (by omega), if_neg (fun h => c_28 h.2.2)], hK⟩
theorem lp_evIn (hk0 : Sk E M o) (hH : Hand S L) (hL : LOK L) {all set : Nat} {best : Int32} (hall : all ≤ 48) (hset : set < 16) (hn : 0 < vN L) {Post : Option Value → zM → Prop} (kk : ∀ x7, (GoR E yX3_even cX3_even 8 (some .int) 3 0 0) Post 130 [some (.ref o), some (.int (nI all)), some (.int best), some (.int (nI set)), some (.int (nI (evGo L all set (vN L)))), some (.int (bz (evFit L all set (vN L) = true))), some (.int (nI (vN L))), x7] [] (mv M o S) 0 0) :
    ∀ s, s ≤ vN L → ∀ x7, (GoR E yX3_even cX3_even 8 (some .int) 3 0 0) Post 49 [some (.ref o), some (.int (nI all)), some (.int best), some (.int (nI set)), some (.int (nI (evGo L all set s))), some (.int (bz (evFit L all set s = true))), some (.int (nI s)), x7] [] (mv M o S) 0 0 := by
  have h4 := hL.2.2.2.1
  refine up_ind _ (fun s hs ih x7 => ?_)
  have h12 := hL.p12 s
  have ht := ntab_le (vM L s) (vP L s)
  have hd : due (vN L) all set s ≤ 49 := by
    have := Nat.div_le_self all (vN L)
    unfold due
    split <;> omega
  have hq : all / vN L ≤ 48 := Nat.le_trans (Nat.div_le_self _ _) hall
  refine g_ild6 (q := 51) dX3_even_49 rfl ?_
  refine g_ald0 (q := 52) dX3_even_51 rfl ?_
  refine m_getI (q := 55) hk0 fs_X3_243 dX3_even_52 rfl rfl rfl ?_
  refine g_top hH.2.2.2.1 ?_
  refine g_icN_ge (t := 130) (q := 58) dX3_even_55 rfl rfl (by omega) (by omega) (fun c_55 => ?_) (fun c_55 => ?_)
  · obtain rfl : s = vN L := by omega
    exact kk _
  · refine g_ild1 (q := 59) dX3_even_58 rfl ?_
    refine g_ald0 (q := 60) dX3_even_59 rfl ?_
    refine m_getI (q := 63) hk0 fs_X3_243 dX3_even_60 rfl rfl rfl ?_
    refine g_top hH.2.2.2.1 ?_
    refine g_idivN (q := 64) dX3_even_63 (by omega) (by omega) (by omega) rfl ?_
    refine g_ild3 (q := 65) dX3_even_64 rfl ?_
    refine g_i2l (q := 66) dX3_even_65 rfl ?_
    refine g_ild6 (q := 68) dX3_even_66 rfl ?_
    refine m_calls (q := 71) (c_has _ _ _ _ (by omega)) ss_X3_115 dX3_even_68 rfl rfl rfl (Nat.le_of_ble_eq_true rfl) ⟨Nat.le_of_ble_eq_true rfl, Nat.le_of_ble_eq_true rfl⟩ ⟨Nat.zero_le _, Nat.zero_le _⟩ (gIe ?_)
    refine g_ifb_eq (t := 78) (q := 74) dX3_even_71 rfl rfl (fun c_71 => ?_) (fun c_71 => ?_)
    · refine g_iconst (q := 79) dX3_even_78 ki_0 rfl ?_
      refine g_iaddN (q := 80) dX3_even_79 rfl ?_
      refine g_top (show nI _ = nI (due (vN L) all set s) from by unfold due; rw [bl_int (by omega)] at c_71; first | rw [if_pos c_71] | rw [if_neg c_71]) ?_
      refine g_ist7 (q := 82) dX3_even_80 rfl rfl ?_
      refine g_ild5 (q := 84) dX3_even_82 rfl ?_
      refine g_ifb_eq (t := 103) (q := 87) dX3_even_84 rfl rfl (fun c_84 => ?_) (fun c_84 => ?_)
      · refine g_iconst (q := 104) dX3_even_103 ki_0 rfl ?_
        refine g_ist5 (q := 106) dX3_even_104 rfl rfl ?_
        refine g_ild4 (q := 108) dX3_even_106 rfl ?_
        refine g_iconst (q := 109) dX3_even_108 ki_0 rfl ?_
        refine g_ald0 (q := 110) dX3_even_109 rfl ?_
        refine g_ild6 (q := 112) dX3_even_110 rfl ?_
        refine m_call (q := 115) hk0 (c_tabletsOn hk0 hH hL _ (by omega)) sv_X3_249 dX3_even_112 rfl rfl rfl (Nat.le_of_ble_eq_true rfl) ⟨Nat.le_of_ble_eq_true rfl, Nat.le_of_ble_eq_true rfl⟩ ⟨Nat.zero_le _, Nat.zero_le _⟩ (gIe ?_)
        refine g_ild7 (q := 117) dX3_even_115 rfl ?_
        refine g_isub (q := 118) dX3_even_117 rfl ?_
        refine m_calls (q := 121) (c_greater _ _ _ _) ss_X3_181 dX3_even_118 rfl rfl rfl (Nat.le_of_ble_eq_true rfl) ⟨Nat.le_of_ble_eq_true rfl, Nat.le_of_ble_eq_true rfl⟩ ⟨Nat.zero_le _, Nat.zero_le _⟩ (gIe ?_)
        refine g_top (sub0 (by omega) (by omega)) ?_
        refine g_iaddN (q := 122) dX3_even_121 rfl ?_
        refine g_ist4 (q := 124) dX3_even_122 rfl rfl ?_
        refine g_inc6 (w := nI (s + 1)) (q := 127) dX3_even_124 rfl (nI_1 _) rfl ?_
        refine g_goto (t := 49) dX3_even_127 rfl ?_
        have := ih (by omega)
        rw [show bz (evFit L all set (s + 1) = true) = nI 0 from (bz_z (by unfold evFit; rw [Bool.and_eq_true]; exact fun h => c_84 h.1)).symm] at this
        exact this _
      · refine g_ild7 (q := 89) dX3_even_87 rfl ?_
        refine g_ald0 (q := 90) dX3_even_89 rfl ?_
        refine m_getA (j := 11) (q := 93) hk0 fs_X3_41 dX3_even_90 rfl (fun _ _ => rfl) ⟨rfl, by decide, by decide⟩ ?_
        refine g_ild6 (q := 95) dX3_even_93 rfl ?_
        refine m_iald (n := s) (q := 96) hk0 dX3_even_95 rfl ma_25 rfl (by omega) ?_
        refine g_top (hH.2.2.2.2.1 s (by omega)) ?_
        refine g_icN_gt (t := 103) (q := 99) dX3_even_96 rfl rfl (by omega) (by omega) (fun c_96 => ?_) (fun c_96 => ?_)
        · refine g_iconst (q := 104) dX3_even_103 ki_0 rfl ?_
          refine g_ist5 (q := 106) dX3_even_104 rfl rfl ?_
          refine g_ild4 (q := 108) dX3_even_106 rfl ?_
          refine g_iconst (q := 109) dX3_even_108 ki_0 rfl ?_
          refine g_ald0 (q := 110) dX3_even_109 rfl ?_
          refine g_ild6 (q := 112) dX3_even_110 rfl ?_
          refine m_call (q := 115) hk0 (c_tabletsOn hk0 hH hL _ (by omega)) sv_X3_249 dX3_even_112 rfl rfl rfl (Nat.le_of_ble_eq_true rfl) ⟨Nat.le_of_ble_eq_true rfl, Nat.le_of_ble_eq_true rfl⟩ ⟨Nat.zero_le _, Nat.zero_le _⟩ (gIe ?_)
          refine g_ild7 (q := 117) dX3_even_115 rfl ?_
          refine g_isub (q := 118) dX3_even_117 rfl ?_
          refine m_calls (q := 121) (c_greater _ _ _ _) ss_X3_181 dX3_even_118 rfl rfl rfl (Nat.le_of_ble_eq_true rfl) ⟨Nat.le_of_ble_eq_true rfl, Nat.le_of_ble_eq_true rfl⟩ ⟨Nat.zero_le _, Nat.zero_le _⟩ (gIe ?_)
          refine g_top (sub0 (by omega) (by omega)) ?_
          refine g_iaddN (q := 122) dX3_even_121 rfl ?_
          refine g_ist4 (q := 124) dX3_even_122 rfl rfl ?_
          refine g_inc6 (w := nI (s + 1)) (q := 127) dX3_even_124 rfl (nI_1 _) rfl ?_
          refine g_goto (t := 49) dX3_even_127 rfl ?_
          have := ih (by omega)
          rw [show bz (evFit L all set (s + 1) = true) = nI 0 from (bz_z (by unfold evFit; rw [Bool.and_eq_true, decide_eq_true_eq]; exact fun h => absurd h.2 (by omega))).symm] at this
          exact this _
        · refine g_iconst (q := 100) dX3_even_99 ki_1 rfl ?_
          refine g_goto (t := 104) dX3_even_100 rfl ?_
          refine g_ist5 (q := 106) dX3_even_104 rfl rfl ?_
          refine g_ild4 (q := 108) dX3_even_106 rfl ?_
          refine g_iconst (q := 109) dX3_even_108 ki_0 rfl ?_
          refine g_ald0 (q := 110) dX3_even_109 rfl ?_
          refine g_ild6 (q := 112) dX3_even_110 rfl ?_
          refine m_call (q := 115) hk0 (c_tabletsOn hk0 hH hL _ (by omega)) sv_X3_249 dX3_even_112 rfl rfl rfl (Nat.le_of_ble_eq_true rfl) ⟨Nat.le_of_ble_eq_true rfl, Nat.le_of_ble_eq_true rfl⟩ ⟨Nat.zero_le _, Nat.zero_le _⟩ (gIe ?_)
          refine g_ild7 (q := 117) dX3_even_115 rfl ?_
          refine g_isub (q := 118) dX3_even_117 rfl ?_
          refine m_calls (q := 121) (c_greater _ _ _ _) ss_X3_181 dX3_even_118 rfl rfl rfl (Nat.le_of_ble_eq_true rfl) ⟨Nat.le_of_ble_eq_true rfl, Nat.le_of_ble_eq_true rfl⟩ ⟨Nat.zero_le _, Nat.zero_le _⟩ (gIe ?_)
          refine g_top (sub0 (by omega) (by omega)) ?_
          refine g_iaddN (q := 122) dX3_even_121 rfl ?_
          refine g_ist4 (q := 124) dX3_even_122 rfl rfl ?_
          refine g_inc6 (w := nI (s + 1)) (q := 127) dX3_even_124 rfl (nI_1 _) rfl ?_
          refine g_goto (t := 49) dX3_even_127 rfl ?_
          have := ih (by omega)
          rw [show bz (evFit L all set (s + 1) = true) = nI 1 from (bz_1 (by unfold evFit; rw [Bool.and_eq_true, decide_eq_true_eq]; exact ⟨c_84, c_96⟩)).symm] at this
          exact this _
    · refine g_iconst (q := 75) dX3_even_74 ki_1 rfl ?_
      refine g_goto (t := 79) dX3_even_75 rfl ?_
      refine g_iaddN (q := 80) dX3_even_79 rfl ?_
      refine g_top (show nI _ = nI (due (vN L) all set s) from by unfold due; rw [bl_int (by omega)] at c_71; first | rw [if_pos c_71] | rw [if_neg c_71]) ?_
      refine g_ist7 (q := 82) dX3_even_80 rfl rfl ?_
      refine g_ild5 (q := 84) dX3_even_82 rfl ?_
      refine g_ifb_eq (t := 103) (q := 87) dX3_even_84 rfl rfl (fun c_84 => ?_) (fun c_84 => ?_)
      · refine g_iconst (q := 104) dX3_even_103 ki_0 rfl ?_
        refine g_ist5 (q := 106) dX3_even_104 rfl rfl ?_
        refine g_ild4 (q := 108) dX3_even_106 rfl ?_
        refine g_iconst (q := 109) dX3_even_108 ki_0 rfl ?_
        refine g_ald0 (q := 110) dX3_even_109 rfl ?_
        refine g_ild6 (q := 112) dX3_even_110 rfl ?_
        refine m_call (q := 115) hk0 (c_tabletsOn hk0 hH hL _ (by omega)) sv_X3_249 dX3_even_112 rfl rfl rfl (Nat.le_of_ble_eq_true rfl) ⟨Nat.le_of_ble_eq_true rfl, Nat.le_of_ble_eq_true rfl⟩ ⟨Nat.zero_le _, Nat.zero_le _⟩ (gIe ?_)
        refine g_ild7 (q := 117) dX3_even_115 rfl ?_
        refine g_isub (q := 118) dX3_even_117 rfl ?_
        refine m_calls (q := 121) (c_greater _ _ _ _) ss_X3_181 dX3_even_118 rfl rfl rfl (Nat.le_of_ble_eq_true rfl) ⟨Nat.le_of_ble_eq_true rfl, Nat.le_of_ble_eq_true rfl⟩ ⟨Nat.zero_le _, Nat.zero_le _⟩ (gIe ?_)
        refine g_top (sub0 (by omega) (by omega)) ?_
        refine g_iaddN (q := 122) dX3_even_121 rfl ?_
        refine g_ist4 (q := 124) dX3_even_122 rfl rfl ?_
        refine g_inc6 (w := nI (s + 1)) (q := 127) dX3_even_124 rfl (nI_1 _) rfl ?_
        refine g_goto (t := 49) dX3_even_127 rfl ?_
        have := ih (by omega)
        rw [show bz (evFit L all set (s + 1) = true) = nI 0 from (bz_z (by unfold evFit; rw [Bool.and_eq_true]; exact fun h => c_84 h.1)).symm] at this
        exact this _
      · refine g_ild7 (q := 89) dX3_even_87 rfl ?_
        refine g_ald0 (q := 90) dX3_even_89 rfl ?_
        refine m_getA (j := 11) (q := 93) hk0 fs_X3_41 dX3_even_90 rfl (fun _ _ => rfl) ⟨rfl, by decide, by decide⟩ ?_
        refine g_ild6 (q := 95) dX3_even_93 rfl ?_
        refine m_iald (n := s) (q := 96) hk0 dX3_even_95 rfl ma_25 rfl (by omega) ?_
        refine g_top (hH.2.2.2.2.1 s (by omega)) ?_
        refine g_icN_gt (t := 103) (q := 99) dX3_even_96 rfl rfl (by omega) (by omega) (fun c_96 => ?_) (fun c_96 => ?_)
        · refine g_iconst (q := 104) dX3_even_103 ki_0 rfl ?_
          refine g_ist5 (q := 106) dX3_even_104 rfl rfl ?_
          refine g_ild4 (q := 108) dX3_even_106 rfl ?_
          refine g_iconst (q := 109) dX3_even_108 ki_0 rfl ?_
          refine g_ald0 (q := 110) dX3_even_109 rfl ?_
          refine g_ild6 (q := 112) dX3_even_110 rfl ?_
          refine m_call (q := 115) hk0 (c_tabletsOn hk0 hH hL _ (by omega)) sv_X3_249 dX3_even_112 rfl rfl rfl (Nat.le_of_ble_eq_true rfl) ⟨Nat.le_of_ble_eq_true rfl, Nat.le_of_ble_eq_true rfl⟩ ⟨Nat.zero_le _, Nat.zero_le _⟩ (gIe ?_)
          refine g_ild7 (q := 117) dX3_even_115 rfl ?_
          refine g_isub (q := 118) dX3_even_117 rfl ?_
          refine m_calls (q := 121) (c_greater _ _ _ _) ss_X3_181 dX3_even_118 rfl rfl rfl (Nat.le_of_ble_eq_true rfl) ⟨Nat.le_of_ble_eq_true rfl, Nat.le_of_ble_eq_true rfl⟩ ⟨Nat.zero_le _, Nat.zero_le _⟩ (gIe ?_)
          refine g_top (sub0 (by omega) (by omega)) ?_
          refine g_iaddN (q := 122) dX3_even_121 rfl ?_
          refine g_ist4 (q := 124) dX3_even_122 rfl rfl ?_
          refine g_inc6 (w := nI (s + 1)) (q := 127) dX3_even_124 rfl (nI_1 _) rfl ?_
          refine g_goto (t := 49) dX3_even_127 rfl ?_
          have := ih (by omega)
          rw [show bz (evFit L all set (s + 1) = true) = nI 0 from (bz_z (by unfold evFit; rw [Bool.and_eq_true, decide_eq_true_eq]; exact fun h => absurd h.2 (by omega))).symm] at this
          exact this _
        · refine g_iconst (q := 100) dX3_even_99 ki_1 rfl ?_
          refine g_goto (t := 104) dX3_even_100 rfl ?_
          refine g_ist5 (q := 106) dX3_even_104 rfl rfl ?_
          refine g_ild4 (q := 108) dX3_even_106 rfl ?_
          refine g_iconst (q := 109) dX3_even_108 ki_0 rfl ?_
          refine g_ald0 (q := 110) dX3_even_109 rfl ?_
          refine g_ild6 (q := 112) dX3_even_110 rfl ?_
          refine m_call (q := 115) hk0 (c_tabletsOn hk0 hH hL _ (by omega)) sv_X3_249 dX3_even_112 rfl rfl rfl (Nat.le_of_ble_eq_true rfl) ⟨Nat.le_of_ble_eq_true rfl, Nat.le_of_ble_eq_true rfl⟩ ⟨Nat.zero_le _, Nat.zero_le _⟩ (gIe ?_)
          refine g_ild7 (q := 117) dX3_even_115 rfl ?_
          refine g_isub (q := 118) dX3_even_117 rfl ?_
          refine m_calls (q := 121) (c_greater _ _ _ _) ss_X3_181 dX3_even_118 rfl rfl rfl (Nat.le_of_ble_eq_true rfl) ⟨Nat.le_of_ble_eq_true rfl, Nat.le_of_ble_eq_true rfl⟩ ⟨Nat.zero_le _, Nat.zero_le _⟩ (gIe ?_)
          refine g_top (sub0 (by omega) (by omega)) ?_
          refine g_iaddN (q := 122) dX3_even_121 rfl ?_
          refine g_ist4 (q := 124) dX3_even_122 rfl rfl ?_
          refine g_inc6 (w := nI (s + 1)) (q := 127) dX3_even_124 rfl (nI_1 _) rfl ?_
          refine g_goto (t := 49) dX3_even_127 rfl ?_
          have := ih (by omega)
          rw [show bz (evFit L all set (s + 1) = true) = nI 1 from (bz_1 (by unfold evFit; rw [Bool.and_eq_true, decide_eq_true_eq]; exact ⟨c_84, c_96⟩)).symm] at this
          exact this _
theorem lp_evOut (hk0 : Sk E M o) (hH : Hand S L) (hL : LOK L) {all : Nat} (hall : all ≤ 48) (hn : 0 < vN L) {Post : Option Value → zM → Prop} (hpost : Post (some (.int (evB L all (2 ^ vN L)))) (mv M o S)) :
    ∀ set, set ≤ 2 ^ vN L → ∀ x4 x5 x6 x7, (GoR E yX3_even cX3_even 8 (some .int) 3 0 0) Post 9 [some (.ref o), some (.int (nI all)), some (.int (evB L all set)), some (.int (nI set)), x4, x5, x6, x7] [] (mv M o S) 0 0 := by
  have h4 := hL.2.2.2.1
  have h16 : 2 ^ vN L ≤ 16 := Nat.pow_le_pow_right (by decide) h4
  refine up_ind _ (fun set hset ih x4 x5 x6 x7 => ?_)
  have hct : fb_ct (fun i => set.testBit i) 32 ≤ 32 := fb_ct_le _ _
  have hmod : all % vN L ≤ all := Nat.mod_le _ _
  refine g_ild3 (q := 10) dX3_even_9 rfl ?_
  refine g_iconst (q := 11) dX3_even_10 ki_1 rfl ?_
  refine g_ald0 (q := 12) dX3_even_11 rfl ?_
  refine m_getI (q := 15) hk0 fs_X3_243 dX3_even_12 rfl rfl rfl ?_
  refine g_top hH.2.2.2.1 ?_
  refine g_ishl (q := 16) dX3_even_15 rfl ?_
  refine g_top (shl1 _ (by omega)) ?_
  refine g_icN_ge (t := 159) (q := 19) dX3_even_16 rfl rfl (by omega) (by omega) (fun c_16 => ?_) (fun c_16 => ?_)
  · obtain rfl : set = 2 ^ vN L := by omega
    refine g_ald0 (q := 160) dX3_even_159 rfl ?_
    refine m_getI (q := 163) hk0 fs_X3_243 dX3_even_160 rfl rfl rfl ?_
    refine g_top hH.2.2.2.1 ?_
    refine g_if_ne (t := 170) (q := 166) dX3_even_163 rfl rfl (fun c_163 => ?_) (fun c_163 => ?_)
    · refine g_ild2 (q := 171) dX3_even_170 rfl ?_
      exact g_iret dX3_even_171 (Nat.zero_le _) (Nat.zero_le _) hpost
    · exact absurd c_163 (nI_ne0 hn (by omega))
  · refine g_ald0 (q := 20) dX3_even_19 rfl ?_
    refine m_getI (q := 23) hk0 fs_X3_243 dX3_even_20 rfl rfl rfl ?_
    refine g_top hH.2.2.2.1 ?_
    refine g_if_le (t := 159) (q := 26) dX3_even_23 rfl rfl (fun c_23 => ?_) (fun c_23 => ?_)
    · exact absurd c_23 (nI_nle hn (by omega))
    · refine g_ild3 (q := 27) dX3_even_26 rfl ?_
      refine g_i2l (q := 28) dX3_even_27 rfl ?_
      refine m_calls (q := 31) (c_ones _ _ _) ss_X3_253 dX3_even_28 rfl rfl rfl (Nat.le_of_ble_eq_true rfl) ⟨Nat.le_of_ble_eq_true rfl, Nat.le_of_ble_eq_true rfl⟩ ⟨Nat.zero_le _, Nat.zero_le _⟩ (gIe ?_)
      rw [ct_int (by omega)]
      refine g_ild1 (q := 32) dX3_even_31 rfl ?_
      refine g_ald0 (q := 33) dX3_even_32 rfl ?_
      refine m_getI (q := 36) hk0 fs_X3_243 dX3_even_33 rfl rfl rfl ?_
      refine g_top hH.2.2.2.1 ?_
      refine g_iremN (q := 37) dX3_even_36 (by omega) (by omega) (by omega) rfl ?_
      refine g_icN_ne (t := 153) (q := 40) dX3_even_37 rfl rfl (by omega) (by omega) (fun c_37 => ?_) (fun c_37 => ?_)
      · refine g_inc3 (w := nI (set + 1)) (q := 156) dX3_even_153 rfl (nI_1 _) rfl ?_
        refine g_goto (t := 9) dX3_even_156 rfl ?_
        have := ih (by omega)
        rw [evB_succ, if_neg (fun h => c_37 h.1)] at this
        exact this _ _ _ _
      · refine g_iconst (q := 41) dX3_even_40 ki_0 rfl ?_
        refine g_ist4 (q := 43) dX3_even_41 rfl rfl ?_
        refine g_iconst (q := 44) dX3_even_43 ki_1 rfl ?_
        refine g_ist5 (q := 46) dX3_even_44 rfl rfl ?_
        refine g_iconst (q := 47) dX3_even_46 ki_0 rfl ?_
        refine g_ist6 (q := 49) dX3_even_47 rfl rfl ?_
        refine lp_evIn hk0 hH hL hall (by omega) hn (fun x7 => ?_) 0 (by omega) _
        refine g_ild5 (q := 132) dX3_even_130 rfl ?_
        refine g_ifb_eq (t := 151) (q := 135) dX3_even_132 rfl rfl (fun c_132 => ?_) (fun c_132 => ?_)
        · refine g_ild2 (q := 152) dX3_even_151 rfl ?_
          refine g_ist2 (q := 153) dX3_even_152 rfl rfl ?_
          refine g_inc3 (w := nI (set + 1)) (q := 156) dX3_even_153 rfl (nI_1 _) rfl ?_
          refine g_goto (t := 9) dX3_even_156 rfl ?_
          have := ih (by omega)
          rw [evB_succ, if_neg (fun h => c_132 h.2.1)] at this
          exact this _ _ _ _
        · refine g_ild2 (q := 136) dX3_even_135 rfl ?_
          refine g_iconst (q := 137) dX3_even_136 ki_m1 rfl ?_
          refine g_ic_eq (t := 146) (q := 140) dX3_even_137 rfl rfl (fun c_137 => ?_) (fun c_137 => ?_)
          · refine g_ild4 (q := 148) dX3_even_146 rfl ?_
            refine g_goto (t := 152) dX3_even_148 rfl ?_
            refine g_ist2 (q := 153) dX3_even_152 rfl rfl ?_
            refine g_inc3 (w := nI (set + 1)) (q := 156) dX3_even_153 rfl (nI_1 _) rfl ?_
            refine g_goto (t := 9) dX3_even_156 rfl ?_
            have := ih (by omega)
            rw [evB_succ, if_pos ⟨c_37, c_132, Or.inl c_137⟩] at this
            exact this _ _ _ _
          · refine g_ild4 (q := 142) dX3_even_140 rfl ?_
            refine g_ild2 (q := 143) dX3_even_142 rfl ?_
            refine g_ic_ge (t := 151) (q := 146) dX3_even_143 rfl rfl (fun c_143 => ?_) (fun c_143 => ?_)
            · refine g_ild2 (q := 152) dX3_even_151 rfl ?_
              refine g_ist2 (q := 153) dX3_even_152 rfl rfl ?_
              refine g_inc3 (w := nI (set + 1)) (q := 156) dX3_even_153 rfl (nI_1 _) rfl ?_
              refine g_goto (t := 9) dX3_even_156 rfl ?_
              have := ih (by omega)
              rw [evB_succ, if_neg (fun h => h.2.2.elim c_137 (fun e => absurd e (Int32.not_lt.mpr c_143)))] at this
              exact this _ _ _ _
            · refine g_ild4 (q := 148) dX3_even_146 rfl ?_
              refine g_goto (t := 152) dX3_even_148 rfl ?_
              refine g_ist2 (q := 153) dX3_even_152 rfl rfl ?_
              refine g_inc3 (w := nI (set + 1)) (q := 156) dX3_even_153 rfl (nI_1 _) rfl ?_
              refine g_goto (t := 9) dX3_even_156 rfl ?_
              have := ih (by omega)
              rw [evB_succ, if_pos ⟨c_37, c_132, Or.inr (Int32.not_le.mp c_143)⟩] at this
              exact this _ _ _ _
theorem c_even (hk0 : Sk E M o) (hH : Hand S L) (hL : LOK L) : (Con E yX3_even cX3_even 8 (some .int) 3 0 0) [.ref o] (mv M o S) (pI (fun x M' => x = evA L ∧ M' = mv M o S)) := by
  have h4 := hL.2.2.2.1
  have ht := ttab_le hL (vN L)
  by_cases hn : vN L = 0
  · refine Go.enter [some (.ref o), none, none, none, none, none, none, none] rfl (Nat.le_of_ble_eq_true rfl) rfl (Nat.le_of_ble_eq_true rfl) ?_
    refine g_ald0 (q := 1) dX3_even_0 rfl ?_
    refine m_call (q := 4) hk0 (c_tablets hk0 hH hL) sv_X3_267 dX3_even_1 rfl rfl rfl (Nat.le_of_ble_eq_true rfl) ⟨Nat.le_of_ble_eq_true rfl, Nat.le_of_ble_eq_true rfl⟩ ⟨Nat.zero_le _, Nat.zero_le _⟩ (gIe ?_)
    refine g_ist1 (q := 5) dX3_even_4 rfl rfl ?_
    refine g_iconst (q := 6) dX3_even_5 ki_m1 rfl ?_
    refine g_ist2 (q := 7) dX3_even_6 rfl rfl ?_
    refine g_iconst (q := 8) dX3_even_7 ki_0 rfl ?_
    refine g_ist3 (q := 9) dX3_even_8 rfl rfl ?_
    refine g_ild3 (q := 10) dX3_even_9 rfl ?_
    refine g_iconst (q := 11) dX3_even_10 ki_1 rfl ?_
    refine g_ald0 (q := 12) dX3_even_11 rfl ?_
    refine m_getI (q := 15) hk0 fs_X3_243 dX3_even_12 rfl rfl rfl ?_
    refine g_top hH.2.2.2.1 ?_
    refine g_ishl (q := 16) dX3_even_15 rfl ?_
    refine g_top (shl1 _ (by omega)) ?_
    refine g_icN_ge (t := 159) (q := 19) dX3_even_16 rfl rfl (by first | omega | (rw [hn]; decide)) (by first | omega | (rw [hn]; decide)) (fun c_16 => ?_) (fun c_16 => ?_)
    · rw [hn] at c_16; omega
    · refine g_ald0 (q := 20) dX3_even_19 rfl ?_
      refine m_getI (q := 23) hk0 fs_X3_243 dX3_even_20 rfl rfl rfl ?_
      refine g_top hH.2.2.2.1 ?_
      refine g_if_le (t := 159) (q := 26) dX3_even_23 rfl rfl (fun c_23 => ?_) (fun c_23 => ?_)
      · refine g_ald0 (q := 160) dX3_even_159 rfl ?_
        refine m_getI (q := 163) hk0 fs_X3_243 dX3_even_160 rfl rfl rfl ?_
        refine g_top hH.2.2.2.1 ?_
        refine g_if_ne (t := 170) (q := 166) dX3_even_163 rfl rfl (fun c_163 => ?_) (fun c_163 => ?_)
        · exact absurd (show nI (vN L) = 0 from by rw [hn]; rfl) c_163
        · refine g_iconst (q := 167) dX3_even_166 ki_0 rfl ?_
          refine g_goto (t := 171) dX3_even_167 rfl ?_
          exact g_iret dX3_even_171 (Nat.zero_le _) (Nat.zero_le _) ⟨_, rfl, by unfold evA; rw [if_pos hn], rfl⟩
      · exact absurd (show nI (vN L) ≤ 0 from by rw [hn]; decide) c_23
  · refine Go.enter [some (.ref o), none, none, none, none, none, none, none] rfl (Nat.le_of_ble_eq_true rfl) rfl (Nat.le_of_ble_eq_true rfl) ?_
    refine g_ald0 (q := 1) dX3_even_0 rfl ?_
    refine m_call (q := 4) hk0 (c_tablets hk0 hH hL) sv_X3_267 dX3_even_1 rfl rfl rfl (Nat.le_of_ble_eq_true rfl) ⟨Nat.le_of_ble_eq_true rfl, Nat.le_of_ble_eq_true rfl⟩ ⟨Nat.zero_le _, Nat.zero_le _⟩ (gIe ?_)
    refine g_ist1 (q := 5) dX3_even_4 rfl rfl ?_
    refine g_iconst (q := 6) dX3_even_5 ki_m1 rfl ?_
    refine g_ist2 (q := 7) dX3_even_6 rfl rfl ?_
    refine g_iconst (q := 8) dX3_even_7 ki_0 rfl ?_
    refine g_ist3 (q := 9) dX3_even_8 rfl rfl ?_
    exact lp_evOut hk0 hH hL (by omega) (by omega) ⟨_, rfl, by unfold evA; rw [if_neg hn], rfl⟩ 0 (Nat.zero_le _) _ _ _ _
end MQ7

