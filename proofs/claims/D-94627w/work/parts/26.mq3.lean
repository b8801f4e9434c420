set_option maxRecDepth 100000
theorem nI_and (a b : Nat) : nI a &&& nI b = nI (a &&& b) := b_ext (fun i hi => by rw [b_and, bt_nI i hi, bt_nI i hi, bt_nI i hi, Nat.testBit_and])
theorem hB_lt {L : LV} (hL : LOK L) {i : Nat} (h : hB L i = true) : i < 2 ^ vB L := by
  obtain ⟨s, p, _, _, h3, h4⟩ := dB_iff.mp h
  rcases hL.2.2.2.2.2.2.2 s p with e | ⟨m, hm, e⟩
  · exact absurd (h3.symm.trans e) (nI_m1 (by omega))
  · have h32 := pow_b hL.1.2
    have := (nI_eq (by omega) (by omega)).mp (h3.symm.trans e)
    omega
def ndt (f : Nat → Int32) : Nat → Nat × Nat
  | 0 => (0, 0)
  | p + 1 => if f p = -1 then ((ndt f p).1 + 1, max (ndt f p).2 ((ndt f p).1 + 1)) else (0, max (ndt f p).2 0)
theorem ndt_le (f : Nat → Int32) : ∀ p, (ndt f p).1 ≤ p ∧ (ndt f p).2 ≤ p
  | 0 => ⟨Nat.le_refl 0, Nat.le_refl 0⟩
  | p + 1 => by
    have := ndt_le f p
    unfold ndt
    split
    · exact ⟨by dsimp only; omega, by dsimp only; exact Nat.max_le.mpr ⟨by omega, by omega⟩⟩
    · exact ⟨by dsimp only; omega, by dsimp only; exact Nat.max_le.mpr ⟨by omega, by omega⟩⟩
/-- over gaps -/
def skp (f : Nat → Int32) (hi : Nat) : Nat → Nat → Nat
  | 0, p => p
  | k + 1, p => if p + 1 < hi ∧ f p = -1 then skp f hi k (p + 1) else p
theorem skp_ge (f : Nat → Int32) (hi : Nat) : ∀ k p, p ≤ skp f hi k p
  | 0, p => Nat.le_refl p
  | k + 1, p => by
    unfold skp
    split
    · have := skp_ge f hi k (p + 1); omega
    · omega
theorem skp_lt (f : Nat → Int32) (hi : Nat) : ∀ k p, p < hi → skp f hi k p < hi
  | 0, p, h => h
  | k + 1, p, h => by
    unfold skp
    split
    · exact skp_lt f hi k (p + 1) (by omega)
    · omega
/-- halving: how many are felt, and the place and 1 (0: none) -/
def hvF (f : Nat → Int32) (m : Int32) : Nat → Nat → Nat → Nat → Nat × Nat
  | 0, _, _, n => (n, 0)
  | k + 1, lo, hi, n =>
    if lo < hi then
      if f (skp f hi 12 ((lo + (hi - 1)) / 2)) = m then (n + 1 + (skp f hi 12 ((lo + (hi - 1)) / 2) - (lo + (hi - 1)) / 2), skp f hi 12 ((lo + (hi - 1)) / 2) + 1)
      else if ¬ f (skp f hi 12 ((lo + (hi - 1)) / 2)) = -1 ∧ f (skp f hi 12 ((lo + (hi - 1)) / 2)) < m then hvF f m k (skp f hi 12 ((lo + (hi - 1)) / 2) + 1) hi (n + 1 + (skp f hi 12 ((lo + (hi - 1)) / 2) - (lo + (hi - 1)) / 2))
      else hvF f m k lo ((lo + (hi - 1)) / 2) (n + 1 + (skp f hi 12 ((lo + (hi - 1)) / 2) - (lo + (hi - 1)) / 2))
    else (n, 0)
def hv (f : Nat → Int32) (m : Int32) (pl : Nat) : Nat × Nat := hvF f m (pl + 1) 0 pl 0
def q_halving (n : Nat) (Ls : Nat → LV) (l s m y : Int32) : Int32 := if ixo l n ∧ ixo s (vN (Ls l.toNatClampNeg)) ∧ ixo m (2 ^ vB (Ls l.toNatClampNeg)) then (if y = 0 then nI (hv (vM (Ls l.toNatClampNeg) s.toNatClampNeg) m (vP (Ls l.toNatClampNeg) s.toNatClampNeg)).1 else nI (hv (vM (Ls l.toNatClampNeg) s.toNatClampNeg) m (vP (Ls l.toNatClampNeg) s.toNatClampNeg)).2 - nI 1) else -2
theorem hg_lt {hi lo : Nat} (h1 : hi < 2 ^ 30) (h2 : lo < 2 ^ 30) : nI hi - nI 1 < nI lo ↔ hi ≤ lo := by
  have e : (nI hi - nI 1).toInt = (hi : Int) - 1 := by
    have h0 := nI_toInt (n := hi) (by omega)
    have h1 := nI_toInt (n := 1) (by decide)
    rw [fb_subI (by rw [h0, h1]; omega) (by rw [h0, h1]; omega), h0, h1]
    rfl
  rw [Int32.lt_iff_toInt_lt, e, nI_toInt (by omega)]
  omega
def hans (y : Int32) (q : Nat × Nat) : Int32 := if y = 0 then nI q.1 else nI q.2 - nI 1
section MQ3
variable {E : zE} {M : zM} {o : Nat} {S : zS} {n : Nat} {Ls : Nat → LV} {L : LV}
theorem lp_hole (hk0 : Sk E M o) (hH : Hand S L) (hL : LOK L) {s : Nat} (hs : s < 4) {Post : Option Value → zM → Prop} (hpost : Post (some (.int (nI (ndt (vM L s) (vP L s)).2))) (mv M o S)) :
    ∀ p, p ≤ vP L s → (GoR E yX3_hole cX3_hole 5 (some .int) 2 0 0) Post 7 [some (.ref o), some (.int (nI s)), some (.int (nI (ndt (vM L s) p).2)), some (.int (nI (ndt (vM L s) p).1)), some (.int (nI p))] [] (mv M o S) 0 0 := by
  have h12 := hL.p12 s
  refine up_ind _ (fun p hp ih => ?_)
  have hn := ndt_le (vM L s) p
  refine g_ild4 (q := 9) dX3_hole_7 rfl ?_
  refine g_ald0 (q := 10) dX3_hole_9 rfl ?_
  refine m_getA (j := 11) (q := 13) hk0 fs_X3_41 dX3_hole_10 rfl (fun _ _ => rfl) ⟨rfl, by decide, by decide⟩ ?_
  refine g_ild1 (q := 14) dX3_hole_13 rfl ?_
  refine m_iald (n := s) (q := 15) hk0 dX3_hole_14 rfl ma_25 rfl (by omega) ?_
  refine g_top (hH.2.2.2.2.1 s hs) ?_
  refine g_icN_ge (t := 54) (q := 18) dX3_hole_15 rfl rfl (by omega) (by omega) (fun c_15 => ?_) (fun c_15 => ?_)
  · obtain rfl : p = vP L s := by omega
    refine g_ild2 (q := 55) dX3_hole_54 rfl ?_
    exact g_iret dX3_hole_55 (Nat.zero_le _) (Nat.zero_le _) hpost
  · refine g_ald0 (q := 19) dX3_hole_18 rfl ?_
    refine m_getA (j := 13) (q := 22) hk0 fs_X3_47 dX3_hole_19 rfl (fun _ _ => rfl) ⟨rfl, by decide, by decide⟩ ?_
    refine g_bipush (q := 24) dX3_hole_22 kb_12 rfl ?_
    refine g_ild1 (q := 25) dX3_hole_24 rfl ?_
    refine g_imulN (q := 26) dX3_hole_25 rfl ?_
    refine g_ild4 (q := 28) dX3_hole_26 rfl ?_
    refine g_iaddN (q := 29) dX3_hole_28 rfl ?_
    refine m_iald (n := ((12 * s) + p)) (q := 30) hk0 dX3_hole_29 rfl ma_27 rfl (by omega) ?_
    refine g_top (hH.2.2.2.2.2.2 s p hs (by omega)) ?_
    refine g_iconst (q := 31) dX3_hole_30 ki_m1 rfl ?_
    refine g_ic_ne (t := 40) (q := 34) dX3_hole_31 rfl rfl (fun c_31 => ?_) (fun c_31 => ?_)
    · refine g_iconst (q := 41) dX3_hole_40 ki_0 rfl ?_
      refine g_ist3 (q := 42) dX3_hole_41 rfl rfl ?_
      refine g_ild2 (q := 43) dX3_hole_42 rfl ?_
      refine g_ild3 (q := 44) dX3_hole_43 rfl ?_
      refine m_calls (q := 47) (c_greater _ _ _ _) ss_X3_181 dX3_hole_44 rfl rfl rfl (Nat.le_of_ble_eq_true rfl) ⟨Nat.le_of_ble_eq_true rfl, Nat.le_of_ble_eq_true rfl⟩ ⟨Nat.zero_le _, Nat.zero_le _⟩ (gIe ?_)
      refine g_ist2 (q := 48) dX3_hole_47 rfl rfl ?_
      refine g_inc4 (w := nI (p + 1)) (q := 51) dX3_hole_48 rfl (nI_1 _) rfl ?_
      refine g_goto (t := 7) dX3_hole_51 rfl ?_
      have := ih (by omega)
      unfold ndt at this
      rw [if_neg c_31] at this
      rw [gre (by omega) (by omega)]
      exact this
    · refine g_ild3 (q := 35) dX3_hole_34 rfl ?_
      refine g_iconst (q := 36) dX3_hole_35 ki_1 rfl ?_
      refine g_iaddN (q := 37) dX3_hole_36 rfl ?_
      refine g_goto (t := 41) dX3_hole_37 rfl ?_
      refine g_ist3 (q := 42) dX3_hole_41 rfl rfl ?_
      refine g_ild2 (q := 43) dX3_hole_42 rfl ?_
      refine g_ild3 (q := 44) dX3_hole_43 rfl ?_
      refine m_calls (q := 47) (c_greater _ _ _ _) ss_X3_181 dX3_hole_44 rfl rfl rfl (Nat.le_of_ble_eq_true rfl) ⟨Nat.le_of_ble_eq_true rfl, Nat.le_of_ble_eq_true rfl⟩ ⟨Nat.zero_le _, Nat.zero_le _⟩ (gIe ?_)
      refine g_ist2 (q := 48) dX3_hole_47 rfl rfl ?_
      refine g_inc4 (w := nI (p + 1)) (q := 51) dX3_hole_48 rfl (nI_1 _) rfl ?_
      refine g_goto (t := 7) dX3_hole_51 rfl ?_
      have := ih (by omega)
      unfold ndt at this
      rw [if_pos c_31] at this
      rw [gre (by omega) (by omega)]
      exact this
theorem c_hole (hk0 : Sk E M o) (hH : Hand S L) (hL : LOK L) (s : Nat) (hs : s < 4) : (Con E yX3_hole cX3_hole 5 (some .int) 2 0 0) [.ref o, .int (nI s)] (mv M o S) (pI (fun x M' => x = nI (ndt (vM L s) (vP L s)).2 ∧ M' = mv M o S)) := by
  refine Go.enter [some (.ref o), some (.int (nI s)), none, none, none] rfl (Nat.le_of_ble_eq_true rfl) rfl (Nat.le_of_ble_eq_true rfl) ?_
  refine g_iconst (q := 1) dX3_hole_0 ki_0 rfl ?_
  refine g_ist2 (q := 2) dX3_hole_1 rfl rfl ?_
  refine g_iconst (q := 3) dX3_hole_2 ki_0 rfl ?_
  refine g_ist3 (q := 4) dX3_hole_3 rfl rfl ?_
  refine g_iconst (q := 5) dX3_hole_4 ki_0 rfl ?_
  refine g_ist4 (q := 7) dX3_hole_5 rfl rfl ?_
  exact lp_hole hk0 hH hL hs ⟨_, rfl, rfl, rfl⟩ 0 (by omega)
theorem lp_halvIn (hk0 : Sk E M o) (hH : Hand S L) (hL : LOK L) {s hi lo md : Nat} {l m y hg : Int32} {x10 : Option Value} (hs : s < 4) (hhi : hi ≤ vP L s) (hhg : hg = nI (hi - 1)) {Post : Option Value → zM → Prop} :
    ∀ k p f, p < hi → hi ≤ p + 1 + k → ((GoR E yX3_halving cX3_halving 11 (some .int) 4 0 0) Post 103 [some (.ref o), some (.int l), some (.int (nI s)), some (.int m), some (.int y), some (.int (nI (f + (skp (vM L s) hi k p - p)))), some (.int (nI lo)), some (.int hg), some (.int (nI md)), some (.int (nI (skp (vM L s) hi k p))), x10] [] (mv M o S) 0 0) → (GoR E yX3_halving cX3_halving 11 (some .int) 4 0 0) Post 71 [some (.ref o), some (.int l), some (.int (nI s)), some (.int m), some (.int y), some (.int (nI f)), some (.int (nI lo)), some (.int hg), some (.int (nI md)), some (.int (nI p)), x10] [] (mv M o S) 0 0 := by
  have h12 := hL.p12 s
  subst hhg
  intro k
  induction k with
  | zero =>
    intro p f hp hk kk
    refine g_ild9 (q := 73) dX3_halving_71 rfl ?_
    refine g_ild7 (q := 75) dX3_halving_73 rfl ?_
    refine g_icN_ge (t := 103) (q := 78) dX3_halving_75 rfl rfl (by omega) (by omega) (fun c_75 => ?_) (fun c_75 => ?_)
    · unfold skp at kk
      rw [Nat.sub_self] at kk
      exact kk
    · omega
  | succ k ih =>
    intro p f hp hk kk
    have hge := skp_ge (vM L s) hi k (p + 1)
    unfold skp at kk
    refine g_ild9 (q := 73) dX3_halving_71 rfl ?_
    refine g_ild7 (q := 75) dX3_halving_73 rfl ?_
    refine g_icN_ge (t := 103) (q := 78) dX3_halving_75 rfl rfl (by omega) (by omega) (fun c_75 => ?_) (fun c_75 => ?_)
    · rw [if_neg (by omega), Nat.sub_self] at kk
      exact kk
    · refine g_ald0 (q := 79) dX3_halving_78 rfl ?_
      refine m_getA (j := 13) (q := 82) hk0 fs_X3_47 dX3_halving_79 rfl (fun _ _ => rfl) ⟨rfl, by decide, by decide⟩ ?_
      refine g_bipush (q := 84) dX3_halving_82 kb_12 rfl ?_
      refine g_ild2 (q := 85) dX3_halving_84 rfl ?_
      refine g_imulN (q := 86) dX3_halving_85 rfl ?_
      refine g_ild9 (q := 88) dX3_halving_86 rfl ?_
      refine g_iaddN (q := 89) dX3_halving_88 rfl ?_
      refine m_iald (n := ((12 * s) + p)) (q := 90) hk0 dX3_halving_89 rfl ma_27 rfl (by omega) ?_
      refine g_top (hH.2.2.2.2.2.2 s p hs (by omega)) ?_
      refine g_iconst (q := 91) dX3_halving_90 ki_m1 rfl ?_
      refine g_ic_ne (t := 103) (q := 94) dX3_halving_91 rfl rfl (fun c_91 => ?_) (fun c_91 => ?_)
      · rw [if_neg (fun h => c_91 h.2), Nat.sub_self] at kk
        exact kk
      · refine g_inc9 (w := nI (p + 1)) (q := 97) dX3_halving_94 rfl (nI_1 _) rfl ?_
        refine g_inc5 (w := nI (f + 1)) (q := 100) dX3_halving_97 rfl (nI_1 _) rfl ?_
        refine g_goto (t := 71) dX3_halving_100 rfl ?_
        refine ih (p + 1) (f + 1) (by omega) (by omega) ?_
        rw [if_pos ⟨by omega, c_91⟩] at kk
        rw [show f + 1 + (skp (vM L s) hi k (p + 1) - (p + 1)) = f + (skp (vM L s) hi k (p + 1) - p) by omega]
        exact kk
theorem lp_halvOut (hk0 : Sk E M o) (hH : Hand S L) (hL : LOK L) {s : Nat} {l m y : Int32} (hs : s < 4) {Post : Option Value → zM → Prop} :
    ∀ k lo hi f, hi ≤ vP L s → lo ≤ 12 → hi ≤ lo + k → Post (some (.int (hans y (hvF (vM L s) m k lo hi f)))) (mv M o S) → ∀ (hg : Int32) (x8 x9 x10 : Option Value), hg = nI hi - nI 1 → (GoR E yX3_halving cX3_halving 11 (some .int) 4 0 0) Post 48 [some (.ref o), some (.int l), some (.int (nI s)), some (.int m), some (.int y), some (.int (nI f)), some (.int (nI lo)), some (.int hg), x8, x9, x10] [] (mv M o S) 0 0 := by
  have h12 := hL.p12 s
  intro k
  induction k with
  | zero =>
    intro lo hi f hhi hlo hk hpost hg x8 x9 x10 hhg
    subst hhg
    refine g_ild6 (q := 50) dX3_halving_48 rfl ?_
    refine g_ild7 (q := 52) dX3_halving_50 rfl ?_
    refine g_ic_gt (t := 185) (q := 55) dX3_halving_52 rfl rfl (fun c_52 => ?_) (fun c_52 => ?_)
    · refine g_ild4 (q := 187) dX3_halving_185 rfl ?_
      refine g_if_eq (t := 194) (q := 190) dX3_halving_187 rfl rfl (fun c_187 => ?_) (fun c_187 => ?_)
      · refine g_ild5 (q := 196) dX3_halving_194 rfl ?_
        refine g_iret dX3_halving_196 (Nat.zero_le _) (Nat.zero_le _) ?_
        unfold hans hvF at hpost
        rw [if_pos c_187] at hpost
        exact hpost
      · refine g_iconst (q := 191) dX3_halving_190 ki_m1 rfl ?_
        refine g_goto (t := 196) dX3_halving_191 rfl ?_
        refine g_iret dX3_halving_196 (Nat.zero_le _) (Nat.zero_le _) ?_
        unfold hans hvF at hpost
        rw [if_neg c_187] at hpost
        exact hpost
    · exact absurd ((hg_lt (by omega) (by omega)).mpr (by omega)) c_52
  | succ k ih =>
    intro lo hi f hhi hlo hk hpost hg x8 x9 x10 hhg
    unfold hvF at hpost
    by_cases hlt : lo < hi
    · have hg1 : hg = nI (hi - 1) := by rw [hhg]; exact pk_sub (by omega)
      have hs1 := skp_ge (vM L s) hi 12 ((lo + (hi - 1)) / 2)
      have hs2 := skp_lt (vM L s) hi 12 ((lo + (hi - 1)) / 2) (by omega)
      rw [if_pos hlt] at hpost
      refine g_ild6 (q := 50) dX3_halving_48 rfl ?_
      refine g_ild7 (q := 52) dX3_halving_50 rfl ?_
      refine g_ic_gt (t := 185) (q := 55) dX3_halving_52 rfl rfl (fun c_52 => ?_) (fun c_52 => ?_)
      · exact absurd ((hg_lt (hi := hi) (lo := lo) (by omega) (by omega)).mp (by rw [← hhg]; exact c_52)) (by omega)
      · subst hg1
        refine g_ild6 (q := 57) dX3_halving_55 rfl ?_
        refine g_ild7 (q := 59) dX3_halving_57 rfl ?_
        refine g_iaddN (q := 60) dX3_halving_59 rfl ?_
        refine g_iconst (q := 61) dX3_halving_60 ki_2 rfl ?_
        refine g_idivN (q := 62) dX3_halving_61 (by omega) (by omega) (by omega) rfl ?_
        refine g_ist8 (q := 64) dX3_halving_62 rfl rfl ?_
        refine g_ild8 (q := 66) dX3_halving_64 rfl ?_
        refine g_ist9 (q := 68) dX3_halving_66 rfl rfl ?_
        refine g_inc5 (w := nI (f + 1)) (q := 71) dX3_halving_68 rfl (nI_1 _) rfl ?_
        refine lp_halvIn hk0 hH hL hs hhi rfl 12 _ _ (by omega) (by omega) ?_
        generalize skp (vM L s) hi 12 ((lo + (hi - 1)) / 2) = p at *
        refine g_ald0 (q := 104) dX3_halving_103 rfl ?_
        refine m_getA (j := 13) (q := 107) hk0 fs_X3_47 dX3_halving_104 rfl (fun _ _ => rfl) ⟨rfl, by decide, by decide⟩ ?_
        refine g_bipush (q := 109) dX3_halving_107 kb_12 rfl ?_
        refine g_ild2 (q := 110) dX3_halving_109 rfl ?_
        refine g_imulN (q := 111) dX3_halving_110 rfl ?_
        refine g_ild9 (q := 113) dX3_halving_111 rfl ?_
        refine g_iaddN (q := 114) dX3_halving_113 rfl ?_
        refine m_iald (n := ((12 * s) + p)) (q := 115) hk0 dX3_halving_114 rfl ma_27 rfl (by omega) ?_
        refine g_top (hH.2.2.2.2.2.2 s p hs (by omega)) ?_
        refine g_ist10 (q := 117) dX3_halving_115 rfl rfl ?_
        refine g_ild10 (q := 119) dX3_halving_117 rfl ?_
        refine g_ild3 (q := 120) dX3_halving_119 rfl ?_
        refine g_ic_ne (t := 136) (q := 123) dX3_halving_120 rfl rfl (fun c_120 => ?_) (fun c_120 => ?_)
        · refine g_ild10 (q := 138) dX3_halving_136 rfl ?_
          refine g_iconst (q := 139) dX3_halving_138 ki_m1 rfl ?_
          refine g_ic_eq (t := 155) (q := 142) dX3_halving_139 rfl rfl (fun c_139 => ?_) (fun c_139 => ?_)
          · refine g_ild6 (q := 157) dX3_halving_155 rfl ?_
            refine g_ist6 (q := 159) dX3_halving_157 rfl rfl ?_
            refine g_ild10 (q := 161) dX3_halving_159 rfl ?_
            refine g_iconst (q := 162) dX3_halving_161 ki_m1 rfl ?_
            refine g_ic_eq (t := 171) (q := 165) dX3_halving_162 rfl rfl (fun c_162 => ?_) (fun c_162 => ?_)
            · refine g_ild8 (q := 173) dX3_halving_171 rfl ?_
              refine g_iconst (q := 174) dX3_halving_173 ki_1 rfl ?_
              refine g_isub (q := 175) dX3_halving_174 rfl ?_
              refine g_goto (t := 180) dX3_halving_175 rfl ?_
              refine g_ist7 (q := 182) dX3_halving_180 rfl rfl ?_
              refine g_goto (t := 48) dX3_halving_182 rfl ?_
              rw [if_neg c_120, if_neg (fun h => h.1 c_139)] at hpost
              exact ih _ _ _ (by omega) (by omega) (by omega) hpost _ _ _ _ rfl
            · exact absurd c_139 c_162
          · refine g_ild10 (q := 144) dX3_halving_142 rfl ?_
            refine g_ild3 (q := 145) dX3_halving_144 rfl ?_
            refine g_ic_ge (t := 155) (q := 148) dX3_halving_145 rfl rfl (fun c_145 => ?_) (fun c_145 => ?_)
            · refine g_ild6 (q := 157) dX3_halving_155 rfl ?_
              refine g_ist6 (q := 159) dX3_halving_157 rfl rfl ?_
              refine g_ild10 (q := 161) dX3_halving_159 rfl ?_
              refine g_iconst (q := 162) dX3_halving_161 ki_m1 rfl ?_
              refine g_ic_eq (t := 171) (q := 165) dX3_halving_162 rfl rfl (fun c_162 => ?_) (fun c_162 => ?_)
              · exact absurd c_162 c_139
              · refine g_ild10 (q := 167) dX3_halving_165 rfl ?_
                refine g_ild3 (q := 168) dX3_halving_167 rfl ?_
                refine g_ic_le (t := 178) (q := 171) dX3_halving_168 rfl rfl (fun c_168 => ?_) (fun c_168 => ?_)
                · exact absurd (Int32.le_antisymm c_168 c_145) c_120
                · refine g_ild8 (q := 173) dX3_halving_171 rfl ?_
                  refine g_iconst (q := 174) dX3_halving_173 ki_1 rfl ?_
                  refine g_isub (q := 175) dX3_halving_174 rfl ?_
                  refine g_goto (t := 180) dX3_halving_175 rfl ?_
                  refine g_ist7 (q := 182) dX3_halving_180 rfl rfl ?_
                  refine g_goto (t := 48) dX3_halving_182 rfl ?_
                  rw [if_neg c_120, if_neg (fun h => absurd h.2 (Int32.not_lt.mpr c_145))] at hpost
                  exact ih _ _ _ (by omega) (by omega) (by omega) hpost _ _ _ _ rfl
            · refine g_ild9 (q := 150) dX3_halving_148 rfl ?_
              refine g_iconst (q := 151) dX3_halving_150 ki_1 rfl ?_
              refine g_iaddN (q := 152) dX3_halving_151 rfl ?_
              refine g_goto (t := 157) dX3_halving_152 rfl ?_
              refine g_ist6 (q := 159) dX3_halving_157 rfl rfl ?_
              refine g_ild10 (q := 161) dX3_halving_159 rfl ?_
              refine g_iconst (q := 162) dX3_halving_161 ki_m1 rfl ?_
              refine g_ic_eq (t := 171) (q := 165) dX3_halving_162 rfl rfl (fun c_162 => ?_) (fun c_162 => ?_)
              · exact absurd c_162 c_139
              · refine g_ild10 (q := 167) dX3_halving_165 rfl ?_
                refine g_ild3 (q := 168) dX3_halving_167 rfl ?_
                refine g_ic_le (t := 178) (q := 171) dX3_halving_168 rfl rfl (fun c_168 => ?_) (fun c_168 => ?_)
                · refine g_ild7 (q := 180) dX3_halving_178 rfl ?_
                  refine g_ist7 (q := 182) dX3_halving_180 rfl rfl ?_
                  refine g_goto (t := 48) dX3_halving_182 rfl ?_
                  rw [if_neg c_120, if_pos ⟨c_139, Int32.not_le.mp c_145⟩] at hpost
                  exact ih _ _ _ (by omega) (by omega) (by omega) hpost _ _ _ _ (pk_sub (by omega)).symm
                · exact absurd (Int32.le_of_lt (Int32.not_le.mp c_145)) c_168
        · refine g_ild4 (q := 125) dX3_halving_123 rfl ?_
          refine g_if_eq (t := 133) (q := 128) dX3_halving_125 rfl rfl (fun c_125 => ?_) (fun c_125 => ?_)
          · refine g_ild5 (q := 135) dX3_halving_133 rfl ?_
            refine g_iret dX3_halving_135 (Nat.zero_le _) (Nat.zero_le _) ?_
            rw [if_pos c_120] at hpost
            unfold hans at hpost
            rw [if_pos c_125] at hpost
            exact hpost
          · refine g_ild9 (q := 130) dX3_halving_128 rfl ?_
            refine g_goto (t := 135) dX3_halving_130 rfl ?_
            refine g_iret dX3_halving_135 (Nat.zero_le _) (Nat.zero_le _) ?_
            rw [if_pos c_120] at hpost
            unfold hans at hpost
            rw [if_neg c_125, show nI (f + 1 + (p - (lo + (hi - 1)) / 2), p + 1).snd - nI 1 = nI p from nI_pred p] at hpost
            exact hpost
    · rw [if_neg hlt] at hpost
      subst hhg
      refine g_ild6 (q := 50) dX3_halving_48 rfl ?_
      refine g_ild7 (q := 52) dX3_halving_50 rfl ?_
      refine g_ic_gt (t := 185) (q := 55) dX3_halving_52 rfl rfl (fun c_52 => ?_) (fun c_52 => ?_)
      · refine g_ild4 (q := 187) dX3_halving_185 rfl ?_
        refine g_if_eq (t := 194) (q := 190) dX3_halving_187 rfl rfl (fun c_187 => ?_) (fun c_187 => ?_)
        · refine g_ild5 (q := 196) dX3_halving_194 rfl ?_
          refine g_iret dX3_halving_196 (Nat.zero_le _) (Nat.zero_le _) ?_
          unfold hans at hpost
          rw [if_pos c_187] at hpost
          exact hpost
        · refine g_iconst (q := 191) dX3_halving_190 ki_m1 rfl ?_
          refine g_goto (t := 196) dX3_halving_191 rfl ?_
          refine g_iret dX3_halving_196 (Nat.zero_le _) (Nat.zero_le _) ?_
          unfold hans at hpost
          rw [if_neg c_187] at hpost
          exact hpost
      · exact absurd ((hg_lt (by omega) (by omega)).mpr (by omega)) c_52
theorem c_halving (hk0 : Sk E M o) (hM : MLs S n Ls) (l s m y : Int32) : (Con E yX3_halving cX3_halving 11 (some .int) 4 0 0) [.ref o, .int l, .int s, .int m, .int y] (mv M o S) (pI (fun x => mP M o (fun S' => x = q_halving n Ls l s m y ∧ Kp (0 :: hks) S S'))) := by
  have h2 := hM.1
  refine Go.enter [some (.ref o), some (.int l), some (.int s), some (.int m), some (.int y), none, none, none, none, none, none] rfl (Nat.le_of_ble_eq_true rfl) rfl (Nat.le_of_ble_eq_true rfl) ?_
  refine g_ald0 (q := 1) dX3_halving_0 rfl ?_
  refine g_iconst (q := 2) dX3_halving_1 ki_0 rfl ?_
  refine m_putI (q := 5) hk0 fs_X3_111 dX3_halving_2 rfl rfl rfl ?_
  refine g_ald0 (q := 6) dX3_halving_5 rfl ?_
  refine g_ild1 (q := 7) dX3_halving_6 rfl ?_
  refine m_call (q := 10) hk0 (c_hand hk0 hM.cd _) sv_X3_270 dX3_halving_7 rfl rfl rfl (Nat.le_of_ble_eq_true rfl) ⟨Nat.le_of_ble_eq_true rfl, Nat.le_of_ble_eq_true rfl⟩ ⟨Nat.zero_le _, Nat.zero_le _⟩ (mgI fun x S' h => ?_)
  obtain ⟨rfl, hK, hJ⟩ := h
  have hK : Kp (0 :: hks) S S' := (Kp.rf.s1 (ks := 0 :: hks) (k := 0) rfl).then (hK.up (fun k h => by simp only [List.contains_cons, List.contains_nil, Bool.or_false, Bool.or_eq_true, beq_iff_eq] at h ⊢; omega))
  refine g_ifb_eq (t := 29) (q := 13) dX3_halving_10 rfl rfl (fun c_10 => ?_) (fun c_10 => ?_)
  · refine g_bipush (q := 31) dX3_halving_29 kb_m2 rfl ?_
    refine g_iret dX3_halving_31 (Nat.zero_le _) (Nat.zero_le _) ?_
    first
      | exact ⟨_, rfl, _, rfl, by unfold q_halving; rw [if_neg (fun h => c_10 h.1)], hK⟩
      | exact ⟨_, rfl, _, rfl, by unfold q_halving; rw [nI_clamp (by omega), if_neg (fun h => c_18 h.2.1)], hK⟩
      | exact ⟨_, rfl, _, rfl, by unfold q_halving; rw [nI_clamp (by omega), if_neg (fun h => c_26 h.2.2)], hK⟩
  · obtain ⟨hH, hBg⟩ := hJ c_10
    obtain ⟨l, hl, rfl⟩ := ixo_of c_10 (by omega)
    rw [nI_clamp (by omega)] at hH
    have hL := (hM.2.2 l hl).2
    have h4 := hL.2.2.2.1
    have h5 := hL.1.2
    have h32 := pow_b hL.1.2
    refine g_ald0 (q := 14) dX3_halving_13 rfl ?_
    refine g_ild2 (q := 15) dX3_halving_14 rfl ?_
    refine m_call (q := 18) hk0 (c_isShelf hk0 hH hL _) sv_X3_246 dX3_halving_15 rfl rfl rfl (Nat.le_of_ble_eq_true rfl) ⟨Nat.le_of_ble_eq_true rfl, Nat.le_of_ble_eq_true rfl⟩ ⟨Nat.zero_le _, Nat.zero_le _⟩ (gIe ?_)
    refine g_ifb_eq (t := 29) (q := 21) dX3_halving_18 rfl rfl (fun c_18 => ?_) (fun c_18 => ?_)
    · refine g_bipush (q := 31) dX3_halving_29 kb_m2 rfl ?_
      refine g_iret dX3_halving_31 (Nat.zero_le _) (Nat.zero_le _) ?_
      first
        | exact ⟨_, rfl, _, rfl, by unfold q_halving; rw [if_neg (fun h => c_10 h.1)], hK⟩
        | exact ⟨_, rfl, _, rfl, by unfold q_halving; rw [nI_clamp (by omega), if_neg (fun h => c_18 h.2.1)], hK⟩
        | exact ⟨_, rfl, _, rfl, by unfold q_halving; rw [nI_clamp (by omega), if_neg (fun h => c_26 h.2.2)], hK⟩
    · refine g_ald0 (q := 22) dX3_halving_21 rfl ?_
      refine g_ild3 (q := 23) dX3_halving_22 rfl ?_
      refine m_call (q := 26) hk0 (c_isMark hk0 hH hL _) sv_X3_348 dX3_halving_23 rfl rfl rfl (Nat.le_of_ble_eq_true rfl) ⟨Nat.le_of_ble_eq_true rfl, Nat.le_of_ble_eq_true rfl⟩ ⟨Nat.zero_le _, Nat.zero_le _⟩ (gIe ?_)
      refine g_ifb_ne (t := 32) (q := 29) dX3_halving_26 rfl rfl (fun c_26 => ?_) (fun c_26 => ?_)
      · obtain ⟨s, hs, rfl⟩ := ixo_of c_18 (by omega)
        have h12 := hL.p12 s
        refine g_iconst (q := 33) dX3_halving_32 ki_0 rfl ?_
        refine g_ist5 (q := 35) dX3_halving_33 rfl rfl ?_
        refine g_iconst (q := 36) dX3_halving_35 ki_0 rfl ?_
        refine g_ist6 (q := 38) dX3_halving_36 rfl rfl ?_
        refine g_ald0 (q := 39) dX3_halving_38 rfl ?_
        refine m_getA (j := 11) (q := 42) hk0 fs_X3_41 dX3_halving_39 rfl (fun _ _ => rfl) ⟨rfl, by decide, by decide⟩ ?_
        refine g_ild2 (q := 43) dX3_halving_42 rfl ?_
        refine m_iald (n := s) (q := 44) hk0 dX3_halving_43 rfl ma_25 rfl (by omega) ?_
        refine g_top (hH.2.2.2.2.1 s (by omega)) ?_
        refine g_iconst (q := 45) dX3_halving_44 ki_1 rfl ?_
        refine g_isub (q := 46) dX3_halving_45 rfl ?_
        refine g_ist7 (q := 48) dX3_halving_46 rfl rfl ?_
        refine lp_halvOut hk0 hH hL (by omega) (vP (Ls l) s + 1) 0 (vP (Ls l) s) 0 (Nat.le_refl _) (by omega) (by omega) ⟨_, rfl, _, rfl, ?_, hK⟩ _ _ _ _ rfl
        unfold q_halving
        rw [nI_clamp (by omega), nI_clamp (by omega), if_pos ⟨c_10, c_18, c_26⟩]
        rfl
      · refine g_bipush (q := 31) dX3_halving_29 kb_m2 rfl ?_
        refine g_iret dX3_halving_31 (Nat.zero_le _) (Nat.zero_le _) ?_
        first
          | exact ⟨_, rfl, _, rfl, by unfold q_halving; rw [if_neg (fun h => c_10 h.1)], hK⟩
          | exact ⟨_, rfl, _, rfl, by unfold q_halving; rw [nI_clamp (by omega), if_neg (fun h => c_18 h.2.1)], hK⟩
          | exact ⟨_, rfl, _, rfl, by unfold q_halving; rw [nI_clamp (by omega), if_neg (fun h => c_26 h.2.2)], hK⟩
end MQ3

