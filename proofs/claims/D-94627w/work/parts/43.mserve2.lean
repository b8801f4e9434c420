set_option maxRecDepth 100000
theorem mnF_anti (g : Nat → Nat) {r m : Nat} (h : r ≤ m) : mnF g m ≤ mnF g r := by
  induction m with
  | zero => rw [show r = 0 by omega]; exact Nat.le_refl _
  | succ m ih =>
    by_cases e : r = m + 1
    · rw [e]; exact Nat.le_refl _
    · have := ih (by omega)
      rw [mnF_succ]
      split <;> omega
theorem mnF_at (g : Nat → Nat) {r m : Nat} (h : r < m) : mnF g m ≤ g r := by
  have h1 := mnF_anti g (show r + 1 ≤ m from h)
  rw [mnF_succ] at h1
  split at h1 <;> omega
theorem mnF_ex (g : Nat → Nat) : ∀ m, mnF g m = 1000000 ∨ ∃ r, r < m ∧ g r = mnF g m
  | 0 => Or.inl rfl
  | m + 1 => by
    rw [mnF_succ]
    split
    · exact Or.inr ⟨m, by omega, rfl⟩
    · exact (mnF_ex g m).elim Or.inl (fun ⟨r, h1, h2⟩ => Or.inr ⟨r, by omega, h2⟩)
theorem cstF_small {R : RV} (hO : ROK R) : ∀ j c, cstF R j c ≤ 12 * j
  | 0, c => Nat.zero_le _
  | j + 1, c => by
    have h := mnF_at (fun r => dst (spo c r) (R.2.2.2 (R.2.1 - (j + 1))) + cstF R j (mvd c r (R.2.2.2 (R.2.1 - (j + 1))))) (r := 0) (m := R.1) (by have := hO.1.1; omega)
    have h1 := spo_lt c 0
    have h2 := hO.2.2.2 (R.2.1 - (j + 1))
    have h3 := dst_le (a := spo c 0) (b := R.2.2.2 (R.2.1 - (j + 1))) (c := 11) (by omega) (by omega)
    have h4 := cstF_small hO j (mvd c 0 (R.2.2.2 (R.2.1 - (j + 1))))
    show mnF (fun r => dst (spo c r) (R.2.2.2 (R.2.1 - (j + 1))) + cstF R j (mvd c r (R.2.2.2 (R.2.1 - (j + 1))))) R.1 ≤ _
    omega
/-- the first reader that serves as cheaply -/
noncomputable def whR (R : RV) (k c : Nat) : Nat := if h : ∃ r, r < R.1 ∧ cgR R k c r = mnF (cgR R k c) R.1 ∧ ∀ r', r' < r → cgR R k c r' ≠ mnF (cgR R k c) R.1 then Classical.choose h else 0
theorem whR_ok {R : RV} (hO : ROK R) {k : Nat} (hk : k < R.2.1) (c : Nat) : whR R k c < R.1 ∧ cgR R k c (whR R k c) = mnF (cgR R k c) R.1 ∧ ∀ r', r' < whR R k c → cgR R k c r' ≠ mnF (cgR R k c) R.1 := by
  have h12 := hO.2.1
  have hs := cstF_small hO (R.2.1 - k) c
  rw [cst_k hk] at hs
  have hex : ∃ r, r < R.1 ∧ cgR R k c r = mnF (cgR R k c) R.1 ∧ ∀ r', r' < r → cgR R k c r' ≠ mnF (cgR R k c) R.1 := by
    rcases mnF_ex (cgR R k c) R.1 with e | ⟨r, h1, h2⟩
    · omega
    · obtain ⟨i, h3, h4, h5⟩ := fb_first (p := fun r => cgR R k c r = mnF (cgR R k c) R.1) ⟨r, h1, h2⟩
      exact ⟨i, h3, h4, h5⟩
  unfold whR
  rw [dif_pos hex]
  exact Classical.choose_spec hex
def spR (R : RV) (k : Nat) : Nat := if k < R.1 then R.2.2.1 k else 0
noncomputable def cdF (R : RV) : Nat → Nat
  | 0 => spR R 0 + 12 * spR R 1 + 144 * spR R 2
  | k + 1 => mvd (cdF R k) (whR R k (cdF R k)) (R.2.2.2 k)
theorem spR_lt {R : RV} (hO : ROK R) (k : Nat) : spR R k < 12 := by unfold spR; split; exact hO.2.2.1 k; omega
theorem cdF_lt {R : RV} (hO : ROK R) : ∀ k, k ≤ R.2.1 → cdF R k < 1728
  | 0, _ => by
    have h0 := spR_lt hO 0
    have h1 := spR_lt hO 1
    have h2 := spR_lt hO 2
    show spR R 0 + 12 * spR R 1 + 144 * spR R 2 < 1728
    omega
  | k + 1, h => mvd_lt (cdF_lt hO k (by omega)) (by have := (whR_ok hO (show k < R.2.1 by omega) (cdF R k)).1; have := hO.1.2; omega) (hO.2.2.2 k)
section MServe2
variable {E : zE} {M : zM} {o : Nat} {S S0 : zS} {n : Nat} {Rs : Nat → RV} {R : RV}
theorem CT.kp {ks : List Nat} {S' : zS} {k : Nat} (h : CT S R k) (hK : Kp ks S S') (h1 : ks.contains 54 = false) : CT S' R k := by
  unfold CT at *
  rw [(hK 54 h1).1]
  exact h
theorem lp_srv0 (hk0 : Sk E M o) (hO : ROK R) (hQ : RLaid S0 R) {x2 x3 x4 : Option Value} {Post : Option Value → zM → Prop} (kk : ∀ S', Kp [54] S0 S' → CT S' R R.2.1 → (GoR E yX3_serve cX3_serve 5 (some .int) 5 0 0) Post 31 [some (.ref o), some (.int (nI 1728)), x2, x3, x4] [] (mv M o S') 0 0) :
    ∀ c, c ≤ 1728 → ∀ S', Kp [54] S0 S' → (∀ c', c' < c → (S'.1 54) (1728 * R.2.1 + c') = nI 0) → (GoR E yX3_serve cX3_serve 5 (some .int) 5 0 0) Post 2 [some (.ref o), some (.int (nI c)), x2, x3, x4] [] (mv M o S') 0 0 := by
  have h12 := hO.2.1
  refine up_ind _ (fun c hc ih S' hK hR => ?_)
  refine g_ild1 (q := 3) dX3_serve_2 rfl ?_
  refine g_sipush (q := 6) dX3_serve_3 ks_1728 rfl ?_
  refine g_icN_ge (t := 31) (q := 9) dX3_serve_6 rfl rfl (by omega) (by omega) (fun c_6 => ?_) (fun c_6 => ?_)
  · obtain rfl : c = 1728 := by omega
    refine kk S' hK (fun k' h1 h2 c' hc' => ?_)
    obtain rfl : k' = R.2.1 := by omega
    rw [Nat.sub_self]
    exact hR c' hc'
  · refine g_ald0 (q := 10) dX3_serve_9 rfl ?_
    refine m_getA (j := 28) (q := 13) hk0 fs_X3_95 dX3_serve_10 rfl (fun _ _ => rfl) ⟨rfl, by decide, by decide⟩ ?_
    refine g_sipush (q := 16) dX3_serve_13 ks_1728 rfl ?_
    refine g_ald0 (q := 17) dX3_serve_16 rfl ?_
    refine m_getI (q := 20) hk0 fs_X3_442 dX3_serve_17 rfl rfl rfl ?_
    refine g_top (show (S'.1 56 0) = nI R.2.1 by rw [(hK 56 rfl).1]; exact hQ.2.1) ?_
    refine g_imulN (q := 21) dX3_serve_20 rfl ?_
    refine g_ild1 (q := 22) dX3_serve_21 rfl ?_
    refine g_iaddN (q := 23) dX3_serve_22 rfl ?_
    refine g_iconst (q := 24) dX3_serve_23 ki_0 rfl ?_
    refine m_iast (n := ((1728 * (R.2.1)) + c)) (q := 25) hk0 dX3_serve_24 rfl ma_54 rfl (by omega) ?_
    refine g_inc1 (w := nI (c + 1)) (q := 28) dX3_serve_25 rfl (nI_1 _) rfl ?_
    refine g_goto (t := 2) dX3_serve_28 rfl ?_
    refine ih (by omega) _ (hK.s1 rfl) (fun c' hc' => ?_)
    by_cases e : c' = c
    · rw [e, ms1_at]
    · rw [ms1_nj _ _ _ (by omega)]; exact hR c' (by omega)
theorem lp_srvW (hk0 : Sk E M o) (hO : ROK R) (hQ : RLaid S0 R) (hC : CT S0 R 0) {k c : Nat} {al : Int32} (hk : k < R.2.1) (hc : c < 1728) {x4 : Option Value} {Post : Option Value → zM → Prop} (kk : ∀ S', Kp [59] S0 S' → (∀ j, j ≠ k → (S'.1 59) j = (S0.1 59) j) → (S'.1 59) k = nI (whR R k c) → (GoR E yX3_serve cX3_serve 5 (some .int) 5 0 0) Post 215 [some (.ref o), some (.int (nI c)), some (.int al), some (.int (nI k)), x4] [] (mv M o S') 0 0) :
    ∀ r, r ≤ whR R k c → ∀ S', Kp [59] S0 S' → (∀ j, j ≠ k → (S'.1 59) j = (S0.1 59) j) → (S'.1 59) k = nI r → (GoR E yX3_serve cX3_serve 5 (some .int) 5 0 0) Post 175 [some (.ref o), some (.int (nI c)), some (.int al), some (.int (nI k)), x4] [] (mv M o S') 0 0 := by
  have h12 := hO.2.1
  have h3 := hO.1.2
  obtain ⟨w1, w2, w3⟩ := whR_ok hO hk c
  refine up_ind _ (fun r hr ih S' hK hJ hW => ?_)
  have hC' := hC.kp hK rfl
  have b1 := mnF_le (cgR R k c) R.1
  have b2 := cgR_le hO k c r
  have hct : (S'.1 54) (1728 * k + c) = nI (mnF (cgR R k c) R.1) := by rw [← cst_k hk]; exact hC' k (Nat.zero_le _) (by omega) c hc
  refine g_ald0 (q := 176) dX3_serve_175 rfl ?_
  refine g_ild3 (q := 177) dX3_serve_176 rfl ?_
  refine g_ild1 (q := 178) dX3_serve_177 rfl ?_
  refine g_ald0 (q := 179) dX3_serve_178 rfl ?_
  refine m_getA (j := 31) (q := 182) hk0 fs_X3_104 dX3_serve_179 rfl (fun _ _ => rfl) ⟨rfl, by decide, by decide⟩ ?_
  refine g_ild3 (q := 183) dX3_serve_182 rfl ?_
  refine m_iald (n := k) (q := 184) hk0 dX3_serve_183 rfl ma_59 rfl (by omega) ?_
  refine g_top hW ?_
  refine m_call (q := 187) hk0 (c_costBy hk0 hO (hQ.kp hK ⟨rfl, rfl, rfl, rfl⟩) k c r _ hk hc (by omega) (hC' (k + 1) (Nat.zero_le _) (by omega) _ (mvd_lt hc (by omega) (hO.2.2.2 k)))) sv_X3_459 dX3_serve_184 rfl rfl rfl (Nat.le_of_ble_eq_true rfl) ⟨Nat.le_of_ble_eq_true rfl, Nat.le_of_ble_eq_true rfl⟩ ⟨Nat.zero_le _, Nat.zero_le _⟩ (gIe ?_)
  refine g_top (show _ = nI (cgR R k c r) from rfl) ?_
  refine g_ald0 (q := 188) dX3_serve_187 rfl ?_
  refine m_getA (j := 28) (q := 191) hk0 fs_X3_95 dX3_serve_188 rfl (fun _ _ => rfl) ⟨rfl, by decide, by decide⟩ ?_
  refine g_sipush (q := 194) dX3_serve_191 ks_1728 rfl ?_
  refine g_ild3 (q := 195) dX3_serve_194 rfl ?_
  refine g_imulN (q := 196) dX3_serve_195 rfl ?_
  refine g_ild1 (q := 197) dX3_serve_196 rfl ?_
  refine g_iaddN (q := 198) dX3_serve_197 rfl ?_
  refine m_iald (n := ((1728 * k) + c)) (q := 199) hk0 dX3_serve_198 rfl ma_54 rfl (by omega) ?_
  refine g_top hct ?_
  refine g_icN_eq (t := 215) (q := 202) dX3_serve_199 rfl rfl (by omega) (by omega) (fun c_199 => ?_) (fun c_199 => ?_)
  · obtain rfl : r = whR R k c := Classical.byContradiction (fun e => w3 r (by omega) c_199)
    exact kk S' hK hJ hW
  · refine g_ald0 (q := 203) dX3_serve_202 rfl ?_
    refine m_getA (j := 31) (q := 206) hk0 fs_X3_104 dX3_serve_203 rfl (fun _ _ => rfl) ⟨rfl, by decide, by decide⟩ ?_
    refine g_ild3 (q := 207) dX3_serve_206 rfl ?_
    refine g_dup2 (q := 208) dX3_serve_207 rfl rfl rfl ?_
    refine m_iald (n := k) (q := 209) hk0 dX3_serve_208 rfl ma_59 rfl (by omega) ?_
    refine g_top hW ?_
    refine g_iconst (q := 210) dX3_serve_209 ki_1 rfl ?_
    refine g_iaddN (q := 211) dX3_serve_210 rfl ?_
    refine m_iast (n := k) (q := 212) hk0 dX3_serve_211 rfl ma_59 rfl (by omega) ?_
    refine g_goto (t := 175) dX3_serve_212 rfl ?_
    have hne : r ≠ whR R k c := fun e => c_199 (by rw [e]; exact w2)
    exact ih (by omega) _ (hK.s1 rfl) (fun j hj => by rw [ms1_nj _ _ _ hj]; exact hJ j hj) (ms1_at _ _ _ _)
theorem lp_srvP (hk0 : Sk E M o) (hO : ROK R) (hQ : RLaid S0 R) (hC : CT S0 R 0) {al : Int32} {Post : Option Value → zM → Prop} (hpost : ∀ S', Kp [59] S0 S' → (∀ j, j < R.2.1 → (S'.1 59) j = nI (whR R j (cdF R j))) → Post (some (.int al)) (mv M o S')) :
    ∀ k, k ≤ R.2.1 → ∀ S' x4, Kp [59] S0 S' → (∀ j, j < k → (S'.1 59) j = nI (whR R j (cdF R j))) → (GoR E yX3_serve cX3_serve 5 (some .int) 5 0 0) Post 160 [some (.ref o), some (.int (nI (cdF R k))), some (.int al), some (.int (nI k)), x4] [] (mv M o S') 0 0 := by
  have h12 := hO.2.1
  have h3 := hO.1.2
  refine up_ind _ (fun k hk ih S' x4 hK hW => ?_)
  have hcd := cdF_lt hO k hk
  have hQ' := hQ.kp hK ⟨rfl, rfl, rfl, rfl⟩
  refine g_ild3 (q := 161) dX3_serve_160 rfl ?_
  refine g_ald0 (q := 162) dX3_serve_161 rfl ?_
  refine m_getI (q := 165) hk0 fs_X3_442 dX3_serve_162 rfl rfl rfl ?_
  refine g_top hQ'.2.1 ?_
  refine g_icN_ge (t := 238) (q := 168) dX3_serve_165 rfl rfl (by omega) (by omega) (fun c_165 => ?_) (fun c_165 => ?_)
  · obtain rfl : k = R.2.1 := by omega
    refine g_ild2 (q := 239) dX3_serve_238 rfl ?_
    exact g_iret dX3_serve_239 (Nat.zero_le _) (Nat.zero_le _) (hpost S' hK hW)
  · refine g_ald0 (q := 169) dX3_serve_168 rfl ?_
    refine m_getA (j := 31) (q := 172) hk0 fs_X3_104 dX3_serve_169 rfl (fun _ _ => rfl) ⟨rfl, by decide, by decide⟩ ?_
    refine g_ild3 (q := 173) dX3_serve_172 rfl ?_
    refine g_iconst (q := 174) dX3_serve_173 ki_0 rfl ?_
    refine m_iast (n := k) (q := 175) hk0 dX3_serve_174 rfl ma_59 rfl (by omega) ?_
    have hkl : k < R.2.1 := by omega
    obtain ⟨w1, w2, w3⟩ := whR_ok hO hkl (cdF R k)
    refine lp_srvW (S0 := ms1 S' 59 k (nI 0)) hk0 hO (hQ'.kp (ks := [59]) (Kp.rf.s1 rfl) ⟨rfl, rfl, rfl, rfl⟩) ((hC.kp hK rfl).kp (ks := [59]) (Kp.rf.s1 rfl) rfl) hkl hcd (fun S2 hK2 hJ2 hW2 => ?_) 0 (Nat.zero_le _) _ Kp.rf (fun j _ => rfl) (ms1_at _ _ _ _)
    have hK3 : Kp [59] S0 S2 := (hK.s1 rfl).then hK2
    have hQ2 := hQ.kp hK3 ⟨rfl, rfl, rfl, rfl⟩
    refine g_ild1 (q := 216) dX3_serve_215 rfl ?_
    refine g_ald0 (q := 217) dX3_serve_216 rfl ?_
    refine m_getA (j := 31) (q := 220) hk0 fs_X3_104 dX3_serve_217 rfl (fun _ _ => rfl) ⟨rfl, by decide, by decide⟩ ?_
    refine g_ild3 (q := 221) dX3_serve_220 rfl ?_
    refine m_iald (n := k) (q := 222) hk0 dX3_serve_221 rfl ma_59 rfl (by omega) ?_
    refine g_top hW2 ?_
    refine g_ald0 (q := 223) dX3_serve_222 rfl ?_
    refine m_getA (j := 30) (q := 226) hk0 fs_X3_101 dX3_serve_223 rfl (fun _ _ => rfl) ⟨rfl, by decide, by decide⟩ ?_
    refine g_ild3 (q := 227) dX3_serve_226 rfl ?_
    refine m_iald (n := k) (q := 228) hk0 dX3_serve_227 rfl ma_58 rfl (by omega) ?_
    refine g_top (hQ2.2.2.2 k hkl) ?_
    refine m_calls (q := 231) (c_moved _ _ _ _ _ (by omega) (by omega)) ss_X3_454 dX3_serve_228 rfl rfl rfl (Nat.le_of_ble_eq_true rfl) ⟨Nat.le_of_ble_eq_true rfl, Nat.le_of_ble_eq_true rfl⟩ ⟨Nat.zero_le _, Nat.zero_le _⟩ (gIe ?_)
    refine g_ist1 (q := 232) dX3_serve_231 rfl rfl ?_
    refine g_inc3 (w := nI (k + 1)) (q := 235) dX3_serve_232 rfl (nI_1 _) rfl ?_
    refine g_goto (t := 160) dX3_serve_235 rfl ?_
    refine ih (by omega) _ _ hK3 (fun j hj => ?_)
    by_cases e : j = k
    · rw [e]; exact hW2
    · rw [hJ2 j e, ms1_nj _ _ _ e]; exact hW j (by omega)
/-- the fewest steps for all asks, and who serves each -/
theorem c_serve (hk0 : Sk E M o) (hO : ROK R) (hQ : RLaid S R) : (Con E yX3_serve cX3_serve 5 (some .int) 5 0 0) [.ref o] (mv M o S) (pI (fun x => mP M o (fun S' => x = nI (cstF R R.2.1 (cdF R 0)) ∧ Kp [54, 59] S S' ∧ ∀ j, j < R.2.1 → (S'.1 59) j = nI (whR R j (cdF R j))))) := by
  have h12 := hO.2.1
  have h0 := spR_lt hO 0
  have h1 := spR_lt hO 1
  have h2 := spR_lt hO 2
  have up : ∀ k', k' = 54 ∨ k' = 59 → ∀ k, ([k'] : List Nat).contains k = true → ([54, 59] : List Nat).contains k = true := by
    intro k' hk' k h
    simp only [List.contains_cons, List.contains_nil, Bool.or_false, Bool.or_eq_true, beq_iff_eq] at h ⊢
    omega
  refine Go.enter [some (.ref o), none, none, none, none] rfl (Nat.le_of_ble_eq_true rfl) rfl (Nat.le_of_ble_eq_true rfl) ?_
  refine g_iconst (q := 1) dX3_serve_0 ki_0 rfl ?_
  refine g_ist1 (q := 2) dX3_serve_1 rfl rfl ?_
  refine lp_srv0 (S0 := S) hk0 hO hQ (fun S1 K1 C1 => ?_) 0 (Nat.zero_le _) S Kp.rf (fun c' h => by omega)
  have hQ1 := hQ.kp K1 ⟨rfl, rfl, rfl, rfl⟩
  refine g_ald0 (q := 32) dX3_serve_31 rfl ?_
  refine m_getI (q := 35) hk0 fs_X3_442 dX3_serve_32 rfl rfl rfl ?_
  refine g_top hQ1.2.1 ?_
  refine g_iconst (q := 36) dX3_serve_35 ki_1 rfl ?_
  refine g_isub (q := 37) dX3_serve_36 rfl ?_
  refine g_ist1 (q := 38) dX3_serve_37 rfl rfl ?_
  refine lp_srvK (S0 := S) hk0 hO hQ (fun S2 x2 x3 x4 K2 C2 => ?_) R.2.1 (Nat.le_refl _) S1 _ _ _ K1 C1
  have hQ2 := hQ.kp K2 ⟨rfl, rfl, rfl, rfl⟩
  refine g_ald0 (q := 124) dX3_serve_123 rfl ?_
  refine m_getA (j := 29) (q := 127) hk0 fs_X3_98 dX3_serve_124 rfl (fun _ _ => rfl) ⟨rfl, by decide, by decide⟩ ?_
  refine g_iconst (q := 128) dX3_serve_127 ki_0 rfl ?_
  refine m_iald (n := 0) (q := 129) hk0 dX3_serve_128 rfl ma_57 rfl (by omega) ?_
  refine g_top (hQ2.2.2.1 0 (by omega)) ?_
  refine g_bipush (q := 131) dX3_serve_129 kb_12 rfl ?_
  refine g_ald0 (q := 132) dX3_serve_131 rfl ?_
  refine m_getA (j := 29) (q := 135) hk0 fs_X3_98 dX3_serve_132 rfl (fun _ _ => rfl) ⟨rfl, by decide, by decide⟩ ?_
  refine g_iconst (q := 136) dX3_serve_135 ki_1 rfl ?_
  refine m_iald (n := 1) (q := 137) hk0 dX3_serve_136 rfl ma_57 rfl (by omega) ?_
  refine g_top (hQ2.2.2.1 1 (by omega)) ?_
  refine g_imulN (q := 138) dX3_serve_137 rfl ?_
  refine g_iaddN (q := 139) dX3_serve_138 rfl ?_
  refine g_sipush (q := 142) dX3_serve_139 ks_144 rfl ?_
  refine g_ald0 (q := 143) dX3_serve_142 rfl ?_
  refine m_getA (j := 29) (q := 146) hk0 fs_X3_98 dX3_serve_143 rfl (fun _ _ => rfl) ⟨rfl, by decide, by decide⟩ ?_
  refine g_iconst (q := 147) dX3_serve_146 ki_2 rfl ?_
  refine m_iald (n := 2) (q := 148) hk0 dX3_serve_147 rfl ma_57 rfl (by omega) ?_
  refine g_top (hQ2.2.2.1 2 (by omega)) ?_
  refine g_imulN (q := 149) dX3_serve_148 rfl ?_
  refine g_iaddN (q := 150) dX3_serve_149 rfl ?_
  refine g_ist1 (q := 151) dX3_serve_150 rfl rfl ?_
  refine g_ald0 (q := 152) dX3_serve_151 rfl ?_
  refine m_getA (j := 28) (q := 155) hk0 fs_X3_95 dX3_serve_152 rfl (fun _ _ => rfl) ⟨rfl, by decide, by decide⟩ ?_
  refine g_ild1 (q := 156) dX3_serve_155 rfl ?_
  refine m_iald (n := (((spR R 0) + ((12 * ((spR R 1))))) + ((144 * ((spR R 2)))))) (q := 157) hk0 dX3_serve_156 rfl ma_54 rfl (by omega) ?_
  refine g_top (show (S2.1 54) (spR R 0 + 12 * spR R 1 + 144 * spR R 2) = nI (cstF R R.2.1 (cdF R 0)) by have := C2 0 (Nat.zero_le _) (Nat.zero_le _) (cdF R 0) (cdF_lt hO 0 (Nat.zero_le _)); rw [Nat.mul_zero, Nat.zero_add] at this; exact this) ?_
  refine g_ist2 (q := 158) dX3_serve_157 rfl rfl ?_
  refine g_iconst (q := 159) dX3_serve_158 ki_0 rfl ?_
  refine g_ist3 (q := 160) dX3_serve_159 rfl rfl ?_
  exact lp_srvP (S0 := S2) hk0 hO hQ2 C2 (fun S3 K3 W3 => ⟨_, rfl, S3, rfl, rfl, (K2.up (up 54 (Or.inl rfl))).then (K3.up (up 59 (Or.inr rfl))), W3⟩) 0 (Nat.zero_le _) S2 _ Kp.rf (fun j h => by omega)
end MServe2

