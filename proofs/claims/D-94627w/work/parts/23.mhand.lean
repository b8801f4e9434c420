set_option maxRecDepth 100000
/-! A LIBRARY COMES TO HAND -/
theorem ms1_at (S : zS) (k j : Nat) (v : Int32) : (ms1 S k j v).1 k j = v := by simp [ms1, zup]
theorem ms1_nj (S : zS) (k : Nat) {j i : Nat} (v : Int32) (h : i ≠ j) : (ms1 S k j v).1 k i = S.1 k i := by simp [ms1, zup, h]
theorem ms1_nk (S : zS) {k m : Nat} (j : Nat) (v : Int32) (h : m ≠ k) : (ms1 S k j v).1 m = S.1 m := by funext i; simp [ms1, zup, h]
theorem ms2_at (S : zS) (k j : Nat) (v : Int64) : (ms2 S k j v).2 k j = v := by simp [ms2, zup]
theorem ms2_nj (S : zS) (k : Nat) {j i : Nat} (v : Int64) (h : i ≠ j) : (ms2 S k j v).2 k i = S.2 k i := by simp [ms2, zup, h]
theorem ms2_nk (S : zS) {k m : Nat} (j : Nat) (v : Int64) (h : m ≠ k) : (ms2 S k j v).2 m = S.2 m := by funext i; simp [ms2, zup, h]
/-- nothing has changed but fields of the list -/
def Kp (ks : List Nat) (S S' : zS) : Prop := ∀ k, ks.contains k = false → S'.1 k = S.1 k ∧ S'.2 k = S.2 k
theorem Kp.rf {ks : List Nat} {S : zS} : Kp ks S S := fun _ _ => ⟨rfl, rfl⟩
theorem Kp.s1 {ks : List Nat} {S S' : zS} {k j : Nat} {v : Int32} (h : Kp ks S S') (hk : ks.contains k = true) : Kp ks S (ms1 S' k j v) := fun m hm => by
  have hne : m ≠ k := fun e => by rw [e, hk] at hm; cases hm
  exact ⟨by rw [ms1_nk _ _ _ hne]; exact (h m hm).1, (h m hm).2⟩
theorem Kp.s2 {ks : List Nat} {S S' : zS} {k j : Nat} {v : Int64} (h : Kp ks S S') (hk : ks.contains k = true) : Kp ks S (ms2 S' k j v) := fun m hm => by
  have hne : m ≠ k := fun e => by rw [e, hk] at hm; cases hm
  exact ⟨(h m hm).1, by rw [ms2_nk _ _ _ hne]; exact (h m hm).2⟩
theorem Kp.tr {ks ks2 : List Nat} {S S' S2 : zS} (h : Kp ks S S') (h2 : Kp ks2 S' S2) (hs : ∀ k, ks.contains k = true → ks2.contains k = true) : Kp ks2 S S2 := fun m hm => by
  have h1 : ks.contains m = false := by
    cases e : ks.contains m with
    | false => rfl
    | true => rw [hs m e] at hm; cases hm
  exact ⟨(h2 m hm).1.trans (h m h1).1, (h2 m hm).2.trans (h m h1).2⟩
theorem Kp.up {ks ks2 : List Nat} {S S' : zS} (h : Kp ks S S') (hs : ∀ k, ks.contains k = true → ks2.contains k = true) : Kp ks2 S S' := Kp.tr h (Kp.rf (ks := ks2)) hs
theorem Kp.then {ks : List Nat} {S S' S2 : zS} (h : Kp ks S S') (h2 : Kp ks S' S2) : Kp ks S S2 := Kp.tr h h2 (fun _ e => e)
def LR (f : Nat → Int32) (a : Nat) (L : LV) : Prop := f a = nI (vB L) ∧ f (a + 1) = nI (vW L) ∧ f (a + 2) = nI (vR L) ∧ f (a + 3) = nI (vN L) ∧ ∀ s, s < vN L → f (a + 4 + 14 * s) = nI (vP L s) ∧ f (a + 4 + 14 * s + 1) = nI (vT L s) ∧ ∀ p, p < vP L s → f (a + 4 + 14 * s + 2 + p) = vM L s p
/-- the libraries that are told -/
def MLs (S : zS) (n : Nat) (Ls : Nat → LV) : Prop := n ≤ 2 ∧ (S.1 5) 0 = nI n ∧ ∀ l, l < n → LR ((S.1 6)) (60 * l) (Ls l) ∧ LOK (Ls l)
abbrev hks : List Nat := [21, 22, 23, 24, 25, 26, 27, 28]
def HIn (S : zS) (L : LV) (a j : Nat) (S' : zS) : Prop := Kp hks S S' ∧ ((S'.1 21 0) = nI (vB L) ∧ (S'.1 22 0) = nI (vW L) ∧ (S'.1 23 0) = nI (vR L) ∧ (S'.1 24 0) = nI (vN L)) ∧ (∀ s, s < a → (S'.1 25) s = nI (vP L s) ∧ (S'.1 26) s = nI (vT L s)) ∧ (∀ i, i < j → (S'.1 27) i = vM L (i / 12) (i % 12) ∧ (S'.1 28) i = (S'.1 27) i)
section MHand
variable {E : zE} {M : zM} {o : Nat} {S : zS} {L : LV}
theorem HIn.put {s : Nat} {S' : zS} {v w : Int32} (h : HIn S L s (12 * s) S') (hv : v = nI (vP L s)) (hw : w = nI (vT L s)) : HIn S L (s + 1) (12 * s + 0) (ms1 (ms1 S' 25 s v) 26 s w) := by
  obtain ⟨h1, h2, h3, h4⟩ := h
  refine ⟨(h1.s1 rfl).s1 rfl, h2, fun s' hs' => ?_, h4⟩
  by_cases e : s' = s
  · subst e
    exact ⟨(ms1_at S' 25 s' v).trans hv, (ms1_at (ms1 S' 25 s' v) 26 s' w).trans hw⟩
  · have := h3 s' (by omega)
    exact ⟨(ms1_nj S' 25 v e).trans this.1, (ms1_nj (ms1 S' 25 s v) 26 w e).trans this.2⟩
theorem HIn.mark {s p : Nat} {S' : zS} {v w : Int32} (h : HIn S L (s + 1) (12 * s + p) S') (hp : p < 12) (hv : v = vM L s p) (hw : w = v) : HIn S L (s + 1) (12 * s + (p + 1)) (ms1 (ms1 S' 27 (12 * s + p) v) 28 (12 * s + p) w) := by
  obtain ⟨h1, h2, h3, h4⟩ := h
  refine ⟨(h1.s1 rfl).s1 rfl, h2, h3, fun i hi => ?_⟩
  by_cases e : i = 12 * s + p
  · subst e
    have a1 : (ms1 (ms1 S' 27 (12 * s + p) v) 28 (12 * s + p) w).1 27 (12 * s + p) = v := ms1_at S' 27 _ v
    have a2 : (ms1 (ms1 S' 27 (12 * s + p) v) 28 (12 * s + p) w).1 28 (12 * s + p) = w := ms1_at _ 28 _ w
    refine ⟨?_, by rw [a1, a2, hw]⟩
    rw [a1, hv, show (12 * s + p) / 12 = s by omega, show (12 * s + p) % 12 = p by omega]
  · have := h4 i (by omega)
    have a1 : (ms1 (ms1 S' 27 (12 * s + p) v) 28 (12 * s + p) w).1 27 i = S'.1 27 i := ms1_nj S' 27 v e
    have a2 : (ms1 (ms1 S' 27 (12 * s + p) v) 28 (12 * s + p) w).1 28 i = S'.1 28 i := ms1_nj (ms1 S' 27 (12 * s + p) v) 28 w e
    exact ⟨a1.trans this.1, by rw [a1, a2]; exact this.2⟩
theorem HIn.hand {S' : zS} (h : HIn S L 4 48 S') : Hand S' L ∧ ∀ j, j < 48 → (S'.1 28) j = (S'.1 27) j := by
  obtain ⟨h1, h2, h3, h4⟩ := h
  refine ⟨⟨h2.1, h2.2.1, h2.2.2.1, h2.2.2.2, fun s hs => (h3 s hs).1, fun s hs => (h3 s hs).2, fun s p hs hp => ?_⟩, fun j hj => (h4 j hj).2⟩
  have := (h4 (12 * s + p) (by omega)).1
  rw [show (12 * s + p) / 12 = s by omega, show (12 * s + p) % 12 = p by omega] at this
  exact this
theorem lp_handIn (hk0 : Sk E M o) {l s : Nat} {k : Int32} (hl : l < 2) (hs : s < 4) (hR : LR ((S.1 6)) (60 * l) L) (hL : LOK L) {Post : Option Value → zM → Prop}
    (kk : ∀ S', HIn S L (s + 1) (12 * s + 12) S' → (GoR E yX3_hand cX3_hand 5 (some .boolean) 3 0 0) Post 218 [some (.ref o), some (.int k), some (.int (nI (60 * l))), some (.int (nI s)), some (.int (nI 12))] [] (mv M o S') 0 0) :
    ∀ p, p ≤ 12 → ∀ S', HIn S L (s + 1) (12 * s + p) S' → (GoR E yX3_hand cX3_hand 5 (some .boolean) 3 0 0) Post 136 [some (.ref o), some (.int k), some (.int (nI (60 * l))), some (.int (nI s)), some (.int (nI p))] [] (mv M o S') 0 0 := by
  refine up_ind _ (fun p hp ih S' hI => ?_)
  have h12 := hL.p12 s
  have hpl := (hI.2.2.1 s (by omega)).1
  have hlib : (S'.1 6) = (S.1 6) := (hI.1 6 rfl).1
  refine g_ild4 (q := 138) dX3_hand_136 rfl ?_
  refine g_bipush (q := 140) dX3_hand_138 kb_12 rfl ?_
  refine g_icN_ge (t := 218) (q := 143) dX3_hand_140 rfl rfl (by omega) (by omega) (fun c_140 => ?_) (fun c_140 => ?_)
  · obtain rfl : p = 12 := by omega
    exact kk S' hI
  · refine g_ald0 (q := 144) dX3_hand_143 rfl ?_
    refine m_getA (j := 13) (q := 147) hk0 fs_X3_47 dX3_hand_144 rfl (fun _ _ => rfl) ⟨rfl, by decide, by decide⟩ ?_
    refine g_bipush (q := 149) dX3_hand_147 kb_12 rfl ?_
    refine g_ild3 (q := 150) dX3_hand_149 rfl ?_
    refine g_imulN (q := 151) dX3_hand_150 rfl ?_
    refine g_ild4 (q := 153) dX3_hand_151 rfl ?_
    refine g_iaddN (q := 154) dX3_hand_153 rfl ?_
    refine g_ild4 (q := 156) dX3_hand_154 rfl ?_
    refine g_ald0 (q := 157) dX3_hand_156 rfl ?_
    refine m_getA (j := 11) (q := 160) hk0 fs_X3_41 dX3_hand_157 rfl (fun _ _ => rfl) ⟨rfl, by decide, by decide⟩ ?_
    refine g_ild3 (q := 161) dX3_hand_160 rfl ?_
    refine m_iald (n := s) (q := 162) hk0 dX3_hand_161 rfl ma_25 rfl (by omega) ?_
    refine g_top hpl ?_
    refine g_icN_ge (t := 186) (q := 165) dX3_hand_162 rfl rfl (by omega) (by omega) (fun c_162 => ?_) (fun c_162 => ?_)
    · refine g_iconst (q := 187) dX3_hand_186 ki_m1 rfl ?_
      refine m_iast (n := ((12 * s) + p)) (q := 188) hk0 dX3_hand_187 rfl ma_27 rfl (by omega) ?_
      refine g_ald0 (q := 189) dX3_hand_188 rfl ?_
      refine m_getA (j := 14) (q := 192) hk0 fs_X3_50 dX3_hand_189 rfl (fun _ _ => rfl) ⟨rfl, by decide, by decide⟩ ?_
      refine g_bipush (q := 194) dX3_hand_192 kb_12 rfl ?_
      refine g_ild3 (q := 195) dX3_hand_194 rfl ?_
      refine g_imulN (q := 196) dX3_hand_195 rfl ?_
      refine g_ild4 (q := 198) dX3_hand_196 rfl ?_
      refine g_iaddN (q := 199) dX3_hand_198 rfl ?_
      refine g_ald0 (q := 200) dX3_hand_199 rfl ?_
      refine m_getA (j := 13) (q := 203) hk0 fs_X3_47 dX3_hand_200 rfl (fun _ _ => rfl) ⟨rfl, by decide, by decide⟩ ?_
      refine g_bipush (q := 205) dX3_hand_203 kb_12 rfl ?_
      refine g_ild3 (q := 206) dX3_hand_205 rfl ?_
      refine g_imulN (q := 207) dX3_hand_206 rfl ?_
      refine g_ild4 (q := 209) dX3_hand_207 rfl ?_
      refine g_iaddN (q := 210) dX3_hand_209 rfl ?_
      refine m_iald (n := ((12 * s) + p)) (q := 211) hk0 dX3_hand_210 rfl ma_27 rfl (by omega) ?_
      refine m_iast (n := ((12 * s) + p)) (q := 212) hk0 dX3_hand_211 rfl ma_28 rfl (by omega) ?_
      refine g_inc4 (w := nI (p + 1)) (q := 215) dX3_hand_212 rfl (nI_1 _) rfl ?_
      refine g_goto (t := 136) dX3_hand_215 rfl ?_
      exact ih (by omega) _ (hI.mark (by omega) (hL.2.2.2.2.2.2.1 s p c_162).symm (ms1_at S' 27 _ _))
    · refine g_ald0 (q := 166) dX3_hand_165 rfl ?_
      refine m_getA (j := 6) (q := 169) hk0 fs_X3_26 dX3_hand_166 rfl (fun _ _ => rfl) ⟨rfl, by decide, by decide⟩ ?_
      refine g_ild2 (q := 170) dX3_hand_169 rfl ?_
      refine g_iconst (q := 171) dX3_hand_170 ki_4 rfl ?_
      refine g_iaddN (q := 172) dX3_hand_171 rfl ?_
      refine g_bipush (q := 174) dX3_hand_172 kb_14 rfl ?_
      refine g_ild3 (q := 175) dX3_hand_174 rfl ?_
      refine g_imulN (q := 176) dX3_hand_175 rfl ?_
      refine g_iaddN (q := 177) dX3_hand_176 rfl ?_
      refine g_iconst (q := 178) dX3_hand_177 ki_2 rfl ?_
      refine g_iaddN (q := 179) dX3_hand_178 rfl ?_
      refine g_ild4 (q := 181) dX3_hand_179 rfl ?_
      refine g_iaddN (q := 182) dX3_hand_181 rfl ?_
      refine m_iald (n := (((((60 * l) + 4) + ((14 * s))) + 2) + p)) (q := 183) hk0 dX3_hand_182 rfl ma_6 rfl (by omega) ?_
      refine g_goto (t := 187) dX3_hand_183 rfl ?_
      refine m_iast (n := ((12 * s) + p)) (q := 188) hk0 dX3_hand_187 rfl ma_27 rfl (by omega) ?_
      refine g_ald0 (q := 189) dX3_hand_188 rfl ?_
      refine m_getA (j := 14) (q := 192) hk0 fs_X3_50 dX3_hand_189 rfl (fun _ _ => rfl) ⟨rfl, by decide, by decide⟩ ?_
      refine g_bipush (q := 194) dX3_hand_192 kb_12 rfl ?_
      refine g_ild3 (q := 195) dX3_hand_194 rfl ?_
      refine g_imulN (q := 196) dX3_hand_195 rfl ?_
      refine g_ild4 (q := 198) dX3_hand_196 rfl ?_
      refine g_iaddN (q := 199) dX3_hand_198 rfl ?_
      refine g_ald0 (q := 200) dX3_hand_199 rfl ?_
      refine m_getA (j := 13) (q := 203) hk0 fs_X3_47 dX3_hand_200 rfl (fun _ _ => rfl) ⟨rfl, by decide, by decide⟩ ?_
      refine g_bipush (q := 205) dX3_hand_203 kb_12 rfl ?_
      refine g_ild3 (q := 206) dX3_hand_205 rfl ?_
      refine g_imulN (q := 207) dX3_hand_206 rfl ?_
      refine g_ild4 (q := 209) dX3_hand_207 rfl ?_
      refine g_iaddN (q := 210) dX3_hand_209 rfl ?_
      refine m_iald (n := ((12 * s) + p)) (q := 211) hk0 dX3_hand_210 rfl ma_27 rfl (by omega) ?_
      refine m_iast (n := ((12 * s) + p)) (q := 212) hk0 dX3_hand_211 rfl ma_28 rfl (by omega) ?_
      refine g_inc4 (w := nI (p + 1)) (q := 215) dX3_hand_212 rfl (nI_1 _) rfl ?_
      refine g_goto (t := 136) dX3_hand_215 rfl ?_
      have hsn : s < vN L := Classical.byContradiction (fun h => by have := (hL.2.2.2.2.2.1 s (by omega)).1; omega)
      refine ih (by omega) _ (hI.mark (by omega) ?_ (ms1_at S' 27 _ _))
      rw [hlib]
      exact (hR.2.2.2.2 s hsn).2.2 p c_162
theorem lp_handOut (hk0 : Sk E M o) {l : Nat} {k : Int32} (hl : l < 2) (hR : LR ((S.1 6)) (60 * l) L) (hL : LOK L) {Post : Option Value → zM → Prop}
    (kk : ∀ S', HIn S L 4 48 S' → Post (some (.int 1)) (mv M o S')) :
    ∀ s, s ≤ 4 → ∀ x4, ∀ S', HIn S L s (12 * s) S' → (GoR E yX3_hand cX3_hand 5 (some .boolean) 3 0 0) Post 64 [some (.ref o), some (.int k), some (.int (nI (60 * l))), some (.int (nI s)), x4] [] (mv M o S') 0 0 := by
  refine up_ind _ (fun s hs ih x4 S' hI => ?_)
  have h4 := hL.2.2.2.1
  have hlib : (S'.1 6) = (S.1 6) := (hI.1 6 rfl).1
  refine g_ild3 (q := 65) dX3_hand_64 rfl ?_
  refine g_iconst (q := 66) dX3_hand_65 ki_4 rfl ?_
  refine g_icN_ge (t := 224) (q := 69) dX3_hand_66 rfl rfl (by omega) (by omega) (fun c_66 => ?_) (fun c_66 => ?_)
  · obtain rfl : s = 4 := by omega
    refine g_iconst (q := 225) dX3_hand_224 ki_1 rfl ?_
    exact g_zret dX3_hand_225 rfl (Nat.zero_le _) (Nat.zero_le _) (kk S' hI)
  · refine g_ald0 (q := 70) dX3_hand_69 rfl ?_
    refine m_getA (j := 11) (q := 73) hk0 fs_X3_41 dX3_hand_70 rfl (fun _ _ => rfl) ⟨rfl, by decide, by decide⟩ ?_
    refine g_ild3 (q := 74) dX3_hand_73 rfl ?_
    refine g_ild3 (q := 75) dX3_hand_74 rfl ?_
    refine g_ald0 (q := 76) dX3_hand_75 rfl ?_
    refine m_getI (q := 79) hk0 fs_X3_243 dX3_hand_76 rfl rfl rfl ?_
    refine g_top hI.2.1.2.2.2 ?_
    refine g_icN_ge (t := 98) (q := 82) dX3_hand_79 rfl rfl (by omega) (by omega) (fun c_79 => ?_) (fun c_79 => ?_)
    · refine g_iconst (q := 99) dX3_hand_98 ki_0 rfl ?_
      refine m_iast (n := s) (q := 100) hk0 dX3_hand_99 rfl ma_25 rfl (by omega) ?_
      refine g_ald0 (q := 101) dX3_hand_100 rfl ?_
      refine m_getA (j := 12) (q := 104) hk0 fs_X3_44 dX3_hand_101 rfl (fun _ _ => rfl) ⟨rfl, by decide, by decide⟩ ?_
      refine g_ild3 (q := 105) dX3_hand_104 rfl ?_
      refine g_ild3 (q := 106) dX3_hand_105 rfl ?_
      refine g_ald0 (q := 107) dX3_hand_106 rfl ?_
      refine m_getI (q := 110) hk0 fs_X3_243 dX3_hand_107 rfl rfl rfl ?_
      refine g_top hI.2.1.2.2.2 ?_
      refine g_icN_ge (t := 131) (q := 113) dX3_hand_110 rfl rfl (by omega) (by omega) (fun c_110 => ?_) (fun c_110 => ?_)
      · refine g_iconst (q := 132) dX3_hand_131 ki_0 rfl ?_
        refine m_iast (n := s) (q := 133) hk0 dX3_hand_132 rfl ma_26 rfl (by omega) ?_
        refine g_iconst (q := 134) dX3_hand_133 ki_0 rfl ?_
        refine g_ist4 (q := 136) dX3_hand_134 rfl rfl ?_
        refine lp_handIn hk0 hl (by omega) hR hL (fun S2 h2 => ?_) 0 (by omega) _ (hI.put ?_ ?_)
        · refine g_inc3 (w := nI (s + 1)) (q := 221) dX3_hand_218 rfl (nI_1 _) rfl ?_
          refine g_goto (t := 64) dX3_hand_221 rfl ?_
          exact ih (by omega) _ S2 h2
        · rw [(hL.2.2.2.2.2.1 s c_79).1]
        · rw [(hL.2.2.2.2.2.1 s c_79).2]
      · omega
    · refine g_ald0 (q := 83) dX3_hand_82 rfl ?_
      refine m_getA (j := 6) (q := 86) hk0 fs_X3_26 dX3_hand_83 rfl (fun _ _ => rfl) ⟨rfl, by decide, by decide⟩ ?_
      refine g_ild2 (q := 87) dX3_hand_86 rfl ?_
      refine g_iconst (q := 88) dX3_hand_87 ki_4 rfl ?_
      refine g_iaddN (q := 89) dX3_hand_88 rfl ?_
      refine g_bipush (q := 91) dX3_hand_89 kb_14 rfl ?_
      refine g_ild3 (q := 92) dX3_hand_91 rfl ?_
      refine g_imulN (q := 93) dX3_hand_92 rfl ?_
      refine g_iaddN (q := 94) dX3_hand_93 rfl ?_
      refine m_iald (n := (((60 * l) + 4) + ((14 * s)))) (q := 95) hk0 dX3_hand_94 rfl ma_6 rfl (by omega) ?_
      refine g_goto (t := 99) dX3_hand_95 rfl ?_
      refine m_iast (n := s) (q := 100) hk0 dX3_hand_99 rfl ma_25 rfl (by omega) ?_
      refine g_ald0 (q := 101) dX3_hand_100 rfl ?_
      refine m_getA (j := 12) (q := 104) hk0 fs_X3_44 dX3_hand_101 rfl (fun _ _ => rfl) ⟨rfl, by decide, by decide⟩ ?_
      refine g_ild3 (q := 105) dX3_hand_104 rfl ?_
      refine g_ild3 (q := 106) dX3_hand_105 rfl ?_
      refine g_ald0 (q := 107) dX3_hand_106 rfl ?_
      refine m_getI (q := 110) hk0 fs_X3_243 dX3_hand_107 rfl rfl rfl ?_
      refine g_top hI.2.1.2.2.2 ?_
      refine g_icN_ge (t := 131) (q := 113) dX3_hand_110 rfl rfl (by omega) (by omega) (fun c_110 => ?_) (fun c_110 => ?_)
      · omega
      · refine g_ald0 (q := 114) dX3_hand_113 rfl ?_
        refine m_getA (j := 6) (q := 117) hk0 fs_X3_26 dX3_hand_114 rfl (fun _ _ => rfl) ⟨rfl, by decide, by decide⟩ ?_
        refine g_ild2 (q := 118) dX3_hand_117 rfl ?_
        refine g_iconst (q := 119) dX3_hand_118 ki_4 rfl ?_
        refine g_iaddN (q := 120) dX3_hand_119 rfl ?_
        refine g_bipush (q := 122) dX3_hand_120 kb_14 rfl ?_
        refine g_ild3 (q := 123) dX3_hand_122 rfl ?_
        refine g_imulN (q := 124) dX3_hand_123 rfl ?_
        refine g_iaddN (q := 125) dX3_hand_124 rfl ?_
        refine g_iconst (q := 126) dX3_hand_125 ki_1 rfl ?_
        refine g_iaddN (q := 127) dX3_hand_126 rfl ?_
        refine m_iald (n := ((((60 * l) + 4) + ((14 * s))) + 1)) (q := 128) hk0 dX3_hand_127 rfl ma_6 rfl (by omega) ?_
        refine g_goto (t := 132) dX3_hand_128 rfl ?_
        refine m_iast (n := s) (q := 133) hk0 dX3_hand_132 rfl ma_26 rfl (by omega) ?_
        refine g_iconst (q := 134) dX3_hand_133 ki_0 rfl ?_
        refine g_ist4 (q := 136) dX3_hand_134 rfl rfl ?_
        refine lp_handIn hk0 hl (by omega) hR hL (fun S2 h2 => ?_) 0 (by omega) _ (hI.put ?_ ?_)
        · refine g_inc3 (w := nI (s + 1)) (q := 221) dX3_hand_218 rfl (nI_1 _) rfl ?_
          refine g_goto (t := 64) dX3_hand_221 rfl ?_
          exact ih (by omega) _ S2 h2
        · rw [hlib]; exact (hR.2.2.2.2 s c_79).1
        · show (S'.1 6) _ = _
          rw [hlib]; exact (hR.2.2.2.2 s c_79).2.1
theorem c_hand (hk0 : Sk E M o) {n : Nat} {Ls : Nat → LV} (hM : MLs S n Ls) (k : Int32) : (Con E yX3_hand cX3_hand 5 (some .boolean) 3 0 0) [.ref o, .int k] (mv M o S) (pI (fun x => mP M o (fun S' => x = bz (ixo k n) ∧ Kp hks S S' ∧ (ixo k n → Hand S' (Ls k.toNatClampNeg) ∧ ∀ j, j < 48 → (S'.1 28) j = (S'.1 27) j)))) := by
  have h2 := hM.1
  refine Go.enter [some (.ref o), some (.int k), none, none, none] rfl (Nat.le_of_ble_eq_true rfl) rfl (Nat.le_of_ble_eq_true rfl) ?_
  refine g_ald0 (q := 1) dX3_hand_0 rfl ?_
  refine g_iconst (q := 2) dX3_hand_1 ki_0 rfl ?_
  refine g_ild1 (q := 3) dX3_hand_2 rfl ?_
  refine m_call (q := 6) hk0 (c_is E M o S hk0 0 n (by omega) (by omega) hM.2.1 k) sv_X3_223 dX3_hand_3 rfl rfl rfl (Nat.le_of_ble_eq_true rfl) ⟨Nat.le_of_ble_eq_true rfl, Nat.le_of_ble_eq_true rfl⟩ ⟨Nat.zero_le _, Nat.zero_le _⟩ (gIe ?_)
  refine g_ifb_ne (t := 11) (q := 9) dX3_hand_6 rfl rfl (fun c_6 => ?_) (fun c_6 => ?_)
  · obtain ⟨l, hl, rfl⟩ := ixo_of c_6 (by omega)
    obtain ⟨hR, hL⟩ := hM.2.2 l hl
    refine g_bipush (q := 13) dX3_hand_11 kb_60 rfl ?_
    refine g_ild1 (q := 14) dX3_hand_13 rfl ?_
    refine g_imulN (q := 15) dX3_hand_14 rfl ?_
    refine g_ist2 (q := 16) dX3_hand_15 rfl rfl ?_
    refine g_ald0 (q := 17) dX3_hand_16 rfl ?_
    refine g_ald0 (q := 18) dX3_hand_17 rfl ?_
    refine m_getA (j := 6) (q := 21) hk0 fs_X3_26 dX3_hand_18 rfl (fun _ _ => rfl) ⟨rfl, by decide, by decide⟩ ?_
    refine g_ild2 (q := 22) dX3_hand_21 rfl ?_
    refine m_iald (n := (60 * l)) (q := 23) hk0 dX3_hand_22 rfl ma_6 rfl (by omega) ?_
    refine m_putI (q := 26) hk0 fs_X3_234 dX3_hand_23 rfl rfl rfl ?_
    refine g_ald0 (q := 27) dX3_hand_26 rfl ?_
    refine g_ald0 (q := 28) dX3_hand_27 rfl ?_
    refine m_getA (j := 6) (q := 31) hk0 fs_X3_26 dX3_hand_28 rfl (fun _ _ => rfl) ⟨rfl, by decide, by decide⟩ ?_
    refine g_ild2 (q := 32) dX3_hand_31 rfl ?_
    refine g_iconst (q := 33) dX3_hand_32 ki_1 rfl ?_
    refine g_iaddN (q := 34) dX3_hand_33 rfl ?_
    refine m_iald (n := ((60 * l) + 1)) (q := 35) hk0 dX3_hand_34 rfl ma_6 rfl (by omega) ?_
    refine m_putI (q := 38) hk0 fs_X3_237 dX3_hand_35 rfl rfl rfl ?_
    refine g_ald0 (q := 39) dX3_hand_38 rfl ?_
    refine g_ald0 (q := 40) dX3_hand_39 rfl ?_
    refine m_getA (j := 6) (q := 43) hk0 fs_X3_26 dX3_hand_40 rfl (fun _ _ => rfl) ⟨rfl, by decide, by decide⟩ ?_
    refine g_ild2 (q := 44) dX3_hand_43 rfl ?_
    refine g_iconst (q := 45) dX3_hand_44 ki_2 rfl ?_
    refine g_iaddN (q := 46) dX3_hand_45 rfl ?_
    refine m_iald (n := ((60 * l) + 2)) (q := 47) hk0 dX3_hand_46 rfl ma_6 rfl (by omega) ?_
    refine m_putI (q := 50) hk0 fs_X3_240 dX3_hand_47 rfl rfl rfl ?_
    refine g_ald0 (q := 51) dX3_hand_50 rfl ?_
    refine g_ald0 (q := 52) dX3_hand_51 rfl ?_
    refine m_getA (j := 6) (q := 55) hk0 fs_X3_26 dX3_hand_52 rfl (fun _ _ => rfl) ⟨rfl, by decide, by decide⟩ ?_
    refine g_ild2 (q := 56) dX3_hand_55 rfl ?_
    refine g_iconst (q := 57) dX3_hand_56 ki_3 rfl ?_
    refine g_iaddN (q := 58) dX3_hand_57 rfl ?_
    refine m_iald (n := ((60 * l) + 3)) (q := 59) hk0 dX3_hand_58 rfl ma_6 rfl (by omega) ?_
    refine m_putI (q := 62) hk0 fs_X3_243 dX3_hand_59 rfl rfl rfl ?_
    refine g_iconst (q := 63) dX3_hand_62 ki_0 rfl ?_
    refine g_ist3 (q := 64) dX3_hand_63 rfl rfl ?_
    refine lp_handOut (S := S) hk0 (by omega) hR hL (fun S' hI => ⟨_, rfl, S', rfl, bz_1 c_6, hI.1, fun _ => ?_⟩) 0 (by omega) _ _ ⟨((((Kp.rf.s1 rfl).s1 rfl).s1 rfl).s1 rfl), ⟨?_, ?_, ?_, ?_⟩, (fun s h => by omega), (fun i h => by omega)⟩
    · exact hR.1
    · exact hR.2.1
    · exact hR.2.2.1
    · exact hR.2.2.2.1
    · rw [nI_clamp (by omega)]; exact hI.hand
  · refine g_iconst (q := 10) dX3_hand_9 ki_0 rfl ?_
    exact g_zret dX3_hand_10 rfl (Nat.zero_le _) (Nat.zero_le _) ⟨_, rfl, S, rfl, bz_z c_6, Kp.rf, fun h => absurd h c_6⟩
end MHand

