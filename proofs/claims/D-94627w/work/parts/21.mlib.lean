set_option maxRecDepth 100000
/-! A LIBRARY's VALUE: bits, wear, rate, shelves, places, weights, marks -/
abbrev LV : Type := Nat × Nat × Nat × Nat × (Nat → Nat) × (Nat → Nat) × (Nat → Nat → Int32)
def vB (L : LV) : Nat := L.1
def vW (L : LV) : Nat := L.2.1
def vR (L : LV) : Nat := L.2.2.1
def vN (L : LV) : Nat := L.2.2.2.1
def vP (L : LV) : Nat → Nat := L.2.2.2.2.1
def vT (L : LV) : Nat → Nat := L.2.2.2.2.2.1
def vM (L : LV) : Nat → Nat → Int32 := L.2.2.2.2.2.2
def LOK (L : LV) : Prop := (2 ≤ vB L ∧ vB L ≤ 5) ∧ vW L ≤ 3 ∧ (1 ≤ vR L ∧ vR L ≤ 99) ∧ vN L ≤ 4 ∧ (∀ s, s < vN L → 1 ≤ vP L s ∧ vP L s ≤ 12 ∧ vT L s ≤ 9) ∧ (∀ s, vN L ≤ s → vP L s = 0 ∧ vT L s = 0) ∧ (∀ s p, vP L s ≤ p → vM L s p = -1) ∧ (∀ s p, vM L s p = -1 ∨ ∃ m, m < 2 ^ vB L ∧ vM L s p = nI m)
/-- the library is at hand -/
def Hand (S : zS) (L : LV) : Prop := (S.1 21 0) = nI (vB L) ∧ (S.1 22 0) = nI (vW L) ∧ (S.1 23 0) = nI (vR L) ∧ (S.1 24 0) = nI (vN L) ∧ (∀ s, s < 4 → (S.1 25) s = nI (vP L s)) ∧ (∀ s, s < 4 → (S.1 26) s = nI (vT L s)) ∧ (∀ s p, s < 4 → p < 12 → (S.1 27) (12 * s + p) = vM L s p)
theorem LOK.p12 {L : LV} (h : LOK L) (s : Nat) : vP L s ≤ 12 := by
  by_cases hs : s < vN L
  · exact (h.2.2.2.2.1 s hs).2.1
  · rw [(h.2.2.2.2.2.1 s (by omega)).1]; omega
theorem LOK.t9 {L : LV} (h : LOK L) (s : Nat) : vT L s ≤ 9 := by
  by_cases hs : s < vN L
  · exact (h.2.2.2.2.1 s hs).2.2
  · rw [(h.2.2.2.2.2.1 s (by omega)).2]; omega
theorem pow_b {b : Nat} (h : b ≤ 5) : 2 ^ b ≤ 32 := Nat.pow_le_pow_right (by decide) h
theorem LOK.mk {L : LV} (h : LOK L) (s p : Nat) : vM L s p = -1 ∨ ∃ m, m < 32 ∧ vM L s p = nI m := by
  rcases h.2.2.2.2.2.2.2 s p with h1 | ⟨m, h1, h2⟩
  · exact Or.inl h1
  · exact Or.inr ⟨m, Nat.lt_of_lt_of_le h1 (pow_b h.1.2), h2⟩
theorem nI_m1 {m : Nat} (h : m < 2 ^ 31) : nI m ≠ -1 := fun e => by
  have := nI_pos h
  rw [e] at this
  exact this (by decide)
theorem shl1 (b : Nat) (h : b < 31) : nI 1 <<< (nI b &&& 31) = nI (2 ^ b) := by
  have := pk_shlN (n := 1) (nI b &&& 31) b (s_l b (by omega)) (by rw [Nat.one_mul]; exact Nat.pow_lt_pow_right (by decide) (by omega))
  rw [this, Nat.one_mul]
/-- an index within -/
abbrev ixo (v : Int32) (n : Nat) : Prop := 0 ≤ v.toInt ∧ v.toInt < n
theorem ixo_of {v : Int32} {n : Nat} (h : ixo v n) (hn : n < 2 ^ 31) : ∃ j, j < n ∧ v = nI j := vp_in_of (vp_in_iff.mpr h) hn
theorem ixo_nI {j n : Nat} (h : j < n) (hn : n < 2 ^ 31) : ixo (nI j) n := by
  have := nI_toInt (n := j) (by omega)
  constructor <;> rw [this] <;> omega
theorem in_ixo {v : Int32} {n : Nat} (hn : n < 2 ^ 31) : (nI 0 ≤ v ∧ v ≤ nI n - nI 1) ↔ ixo v n := by
  have e : (nI n - nI 1).toInt = (n : Int) - 1 := by
    have h0 := nI_toInt hn
    have h1 := nI_toInt (n := 1) (by decide)
    rw [fb_subI (by rw [h0, h1]; omega) (by rw [h0, h1]; omega), h0, h1]
    rfl
  rw [Int32.le_iff_toInt_le, Int32.le_iff_toInt_le, e, nI_toInt (n := 0) (by decide)]
  omega
theorem c_is (E : zE) (M : zM) (o : Nat) (S : zS) (hk0 : Sk E M o) (sort n : Nat) (hs : sort < 12) (hn : n < 2 ^ 31) (hm : (S.1 5) sort = nI n) (k : Int32) : (Con E yX3_is cX3_is 3 (some .boolean) 2 0 0) [.ref o, .int (nI sort), .int k] (mv M o S) (pI (fun x M' => x = bz (ixo k n) ∧ M' = mv M o S)) := by
  refine Go.enter [some (.ref o), some (.int (nI sort)), some (.int k)] rfl (Nat.le_of_ble_eq_true rfl) rfl (Nat.le_of_ble_eq_true rfl) ?_
  refine g_ild2 (q := 1) dX3_is_0 rfl ?_
  refine g_iconst (q := 2) dX3_is_1 ki_0 rfl ?_
  refine g_ald0 (q := 3) dX3_is_2 rfl ?_
  refine m_getA (j := 5) (q := 6) hk0 fs_X3_23 dX3_is_3 rfl (fun _ _ => rfl) ⟨rfl, by decide, by decide⟩ ?_
  refine g_ild1 (q := 7) dX3_is_6 rfl ?_
  refine m_iald (n := sort) (q := 8) hk0 dX3_is_7 rfl ma_5 rfl (by omega) ?_
  refine g_top hm ?_
  refine g_iconst (q := 9) dX3_is_8 ki_1 rfl ?_
  refine g_isub (q := 10) dX3_is_9 rfl ?_
  refine m_calls (q := 13) (c_in _ _ _ _ _) ss_X3_123 dX3_is_10 rfl rfl rfl (Nat.le_of_ble_eq_true rfl) ⟨Nat.le_of_ble_eq_true rfl, Nat.le_of_ble_eq_true rfl⟩ ⟨Nat.zero_le _, Nat.zero_le _⟩ (gIe ?_)
  refine g_zret dX3_is_13 bz_nar (Nat.zero_le _) (Nat.zero_le _) ?_
  exact ⟨_, rfl, bz_iff (in_ixo hn), rfl⟩
section MLib
variable {E : zE} {M : zM} {o : Nat} {S : zS} {L : LV}
theorem c_isShelf (hk0 : Sk E M o) (hH : Hand S L) (hL : LOK L) (k : Int32) : (Con E yX3_isShelf cX3_isShelf 2 (some .boolean) 2 0 0) [.ref o, .int k] (mv M o S) (pI (fun x M' => x = bz (ixo k (vN L)) ∧ M' = mv M o S)) := by
  have h4 := hL.2.2.2.1
  refine Go.enter [some (.ref o), some (.int k)] rfl (Nat.le_of_ble_eq_true rfl) rfl (Nat.le_of_ble_eq_true rfl) ?_
  refine g_ild1 (q := 1) dX3_isShelf_0 rfl ?_
  refine g_iconst (q := 2) dX3_isShelf_1 ki_0 rfl ?_
  refine g_ald0 (q := 3) dX3_isShelf_2 rfl ?_
  refine m_getI (q := 6) hk0 fs_X3_243 dX3_isShelf_3 rfl rfl rfl ?_
  refine g_top hH.2.2.2.1 ?_
  refine g_iconst (q := 7) dX3_isShelf_6 ki_1 rfl ?_
  refine g_isub (q := 8) dX3_isShelf_7 rfl ?_
  refine m_calls (q := 11) (c_in _ _ _ _ _) ss_X3_123 dX3_isShelf_8 rfl rfl rfl (Nat.le_of_ble_eq_true rfl) ⟨Nat.le_of_ble_eq_true rfl, Nat.le_of_ble_eq_true rfl⟩ ⟨Nat.zero_le _, Nat.zero_le _⟩ (gIe ?_)
  refine g_zret dX3_isShelf_11 bz_nar (Nat.zero_le _) (Nat.zero_le _) ?_
  exact ⟨_, rfl, bz_iff (in_ixo (by omega)), rfl⟩
theorem c_isPlace (hk0 : Sk E M o) (hH : Hand S L) (hL : LOK L) (k p : Int32) : (Con E yX3_isPlace cX3_isPlace 3 (some .boolean) 3 0 0) [.ref o, .int k, .int p] (mv M o S) (pI (fun x M' => x = bz (ixo k (vN L) ∧ ixo p (vP L k.toNatClampNeg)) ∧ M' = mv M o S)) := by
  have h4 := hL.2.2.2.1
  refine Go.enter [some (.ref o), some (.int k), some (.int p)] rfl (Nat.le_of_ble_eq_true rfl) rfl (Nat.le_of_ble_eq_true rfl) ?_
  refine g_ald0 (q := 1) dX3_isPlace_0 rfl ?_
  refine g_ild1 (q := 2) dX3_isPlace_1 rfl ?_
  refine m_call (q := 5) hk0 (c_isShelf hk0 hH hL _) sv_X3_246 dX3_isPlace_2 rfl rfl rfl (Nat.le_of_ble_eq_true rfl) ⟨Nat.le_of_ble_eq_true rfl, Nat.le_of_ble_eq_true rfl⟩ ⟨Nat.zero_le _, Nat.zero_le _⟩ (gIe ?_)
  refine g_ifb_eq (t := 28) (q := 8) dX3_isPlace_5 rfl rfl (fun c_5 => ?_) (fun c_5 => ?_)
  · refine g_iconst (q := 29) dX3_isPlace_28 ki_0 rfl ?_
    exact g_zret dX3_isPlace_29 rfl (Nat.zero_le _) (Nat.zero_le _) ⟨_, rfl, bz_z (fun h => c_5 h.1), rfl⟩
  · obtain ⟨j, hj, rfl⟩ := ixo_of c_5 (by omega)
    have h12 := hL.p12 j
    refine g_ild2 (q := 9) dX3_isPlace_8 rfl ?_
    refine g_iconst (q := 10) dX3_isPlace_9 ki_0 rfl ?_
    refine g_ald0 (q := 11) dX3_isPlace_10 rfl ?_
    refine m_getA (j := 11) (q := 14) hk0 fs_X3_41 dX3_isPlace_11 rfl (fun _ _ => rfl) ⟨rfl, by decide, by decide⟩ ?_
    refine g_ild1 (q := 15) dX3_isPlace_14 rfl ?_
    refine m_iald (n := j) (q := 16) hk0 dX3_isPlace_15 rfl ma_25 rfl (by omega) ?_
    refine g_top (hH.2.2.2.2.1 j (by omega)) ?_
    refine g_iconst (q := 17) dX3_isPlace_16 ki_1 rfl ?_
    refine g_isub (q := 18) dX3_isPlace_17 rfl ?_
    refine m_calls (q := 21) (c_in _ _ _ _ _) ss_X3_123 dX3_isPlace_18 rfl rfl rfl (Nat.le_of_ble_eq_true rfl) ⟨Nat.le_of_ble_eq_true rfl, Nat.le_of_ble_eq_true rfl⟩ ⟨Nat.zero_le _, Nat.zero_le _⟩ (gIe ?_)
    refine g_ifb_eq (t := 28) (q := 24) dX3_isPlace_21 rfl rfl (fun c_21 => ?_) (fun c_21 => ?_)
    · refine g_iconst (q := 29) dX3_isPlace_28 ki_0 rfl ?_
      refine g_zret dX3_isPlace_29 rfl (Nat.zero_le _) (Nat.zero_le _) ?_
      first
        | exact ⟨_, rfl, bz_1 ⟨c_5, by rw [nI_clamp (by omega)]; exact (in_ixo (by omega)).mp c_21⟩, rfl⟩
        | exact ⟨_, rfl, bz_z (fun h => c_21 ((in_ixo (by omega)).mpr (by have h2 := h.2; rw [nI_clamp (by omega)] at h2; exact h2))), rfl⟩
    · refine g_iconst (q := 25) dX3_isPlace_24 ki_1 rfl ?_
      refine g_goto (t := 29) dX3_isPlace_25 rfl ?_
      refine g_zret dX3_isPlace_29 rfl (Nat.zero_le _) (Nat.zero_le _) ?_
      first
        | exact ⟨_, rfl, bz_1 ⟨c_5, by rw [nI_clamp (by omega)]; exact (in_ixo (by omega)).mp c_21⟩, rfl⟩
        | exact ⟨_, rfl, bz_z (fun h => c_21 ((in_ixo (by omega)).mpr (by have h2 := h.2; rw [nI_clamp (by omega)] at h2; exact h2))), rfl⟩
theorem c_isMark (hk0 : Sk E M o) (hH : Hand S L) (hL : LOK L) (k : Int32) : (Con E yX3_isMark cX3_isMark 2 (some .boolean) 2 0 0) [.ref o, .int k] (mv M o S) (pI (fun x M' => x = bz (ixo k (2 ^ vB L)) ∧ M' = mv M o S)) := by
  have h5 := hL.1.2
  have hp := pow_b h5
  refine Go.enter [some (.ref o), some (.int k)] rfl (Nat.le_of_ble_eq_true rfl) rfl (Nat.le_of_ble_eq_true rfl) ?_
  refine g_ild1 (q := 1) dX3_isMark_0 rfl ?_
  refine g_iconst (q := 2) dX3_isMark_1 ki_0 rfl ?_
  refine g_iconst (q := 3) dX3_isMark_2 ki_1 rfl ?_
  refine g_ald0 (q := 4) dX3_isMark_3 rfl ?_
  refine m_getI (q := 7) hk0 fs_X3_234 dX3_isMark_4 rfl rfl rfl ?_
  refine g_top hH.1 ?_
  refine g_ishl (q := 8) dX3_isMark_7 rfl ?_
  refine g_top (shl1 _ (by omega)) ?_
  refine g_iconst (q := 9) dX3_isMark_8 ki_1 rfl ?_
  refine g_isub (q := 10) dX3_isMark_9 rfl ?_
  refine m_calls (q := 13) (c_in _ _ _ _ _) ss_X3_123 dX3_isMark_10 rfl rfl rfl (Nat.le_of_ble_eq_true rfl) ⟨Nat.le_of_ble_eq_true rfl, Nat.le_of_ble_eq_true rfl⟩ ⟨Nat.zero_le _, Nat.zero_le _⟩ (gIe ?_)
  refine g_zret dX3_isMark_13 bz_nar (Nat.zero_le _) (Nat.zero_le _) ?_
  exact ⟨_, rfl, bz_iff (in_ixo (by omega)), rfl⟩
/-- the tablets of a shelf -/
def ntab (f : Nat → Int32) : Nat → Nat
  | 0 => 0
  | n + 1 => ntab f n + (if f n = -1 then 0 else 1)
theorem ntab_le (f : Nat → Int32) : ∀ n, ntab f n ≤ n
  | 0 => Nat.le_refl 0
  | n + 1 => by
    have := ntab_le f n
    unfold ntab
    split <;> omega
def ttab (L : LV) (n : Nat) : Nat := fb_sm (fun s => ntab (vM L s) (vP L s)) n
theorem ttab_le (hL : LOK L) (n : Nat) : ttab L n ≤ n * 12 := fb_sm_bound (fun s _ => Nat.le_trans (ntab_le _ _) (hL.p12 s))
theorem lp_tabletsOn (hk0 : Sk E M o) (hH : Hand S L) (hL : LOK L) {s : Nat} (hs : s < 4) {Post : Option Value → zM → Prop} (hpost : Post (some (.int (nI (ntab (vM L s) (vP L s))))) (mv M o S)) :
    ∀ p : Nat, p ≤ vP L s → (GoR E yX3_tabletsOn cX3_tabletsOn 4 (some .int) 1 0 0) Post 4 [some (.ref o), some (.int (nI s)), some (.int (nI (ntab (vM L s) p))), some (.int (nI p))] [] (mv M o S) 0 0 := by
  have h12 := hL.p12 s
  refine up_ind _ (fun p hp ih => ?_)
  have hn := ntab_le (vM L s) p
  refine g_ild3 (q := 5) dX3_tabletsOn_4 rfl ?_
  refine g_ald0 (q := 6) dX3_tabletsOn_5 rfl ?_
  refine m_getA (j := 11) (q := 9) hk0 fs_X3_41 dX3_tabletsOn_6 rfl (fun _ _ => rfl) ⟨rfl, by decide, by decide⟩ ?_
  refine g_ild1 (q := 10) dX3_tabletsOn_9 rfl ?_
  refine m_iald (n := s) (q := 11) hk0 dX3_tabletsOn_10 rfl ma_25 rfl (by omega) ?_
  refine g_top (hH.2.2.2.2.1 s hs) ?_
  refine g_icN_ge (t := 43) (q := 14) dX3_tabletsOn_11 rfl rfl (by omega) (by omega) (fun c_11 => ?_) (fun c_11 => ?_)
  · obtain rfl : p = vP L s := by omega
    refine g_ild2 (q := 44) dX3_tabletsOn_43 rfl ?_
    exact g_iret dX3_tabletsOn_44 (Nat.zero_le _) (Nat.zero_le _) hpost
  · refine g_ild2 (q := 15) dX3_tabletsOn_14 rfl ?_
    refine g_ald0 (q := 16) dX3_tabletsOn_15 rfl ?_
    refine m_getA (j := 13) (q := 19) hk0 fs_X3_47 dX3_tabletsOn_16 rfl (fun _ _ => rfl) ⟨rfl, by decide, by decide⟩ ?_
    refine g_bipush (q := 21) dX3_tabletsOn_19 kb_12 rfl ?_
    refine g_ild1 (q := 22) dX3_tabletsOn_21 rfl ?_
    refine g_imulN (q := 23) dX3_tabletsOn_22 rfl ?_
    refine g_ild3 (q := 24) dX3_tabletsOn_23 rfl ?_
    refine g_iaddN (q := 25) dX3_tabletsOn_24 rfl ?_
    refine m_iald (n := ((12 * s) + p)) (q := 26) hk0 dX3_tabletsOn_25 rfl ma_27 rfl (by omega) ?_
    refine g_top (hH.2.2.2.2.2.2 s p hs (by omega)) ?_
    refine g_iconst (q := 27) dX3_tabletsOn_26 ki_m1 rfl ?_
    refine g_ic_eq (t := 34) (q := 30) dX3_tabletsOn_27 rfl rfl (fun c_27 => ?_) (fun c_27 => ?_)
    · refine g_iconst (q := 35) dX3_tabletsOn_34 ki_0 rfl ?_
      refine g_iaddN (q := 36) dX3_tabletsOn_35 rfl ?_
      refine g_ist2 (q := 37) dX3_tabletsOn_36 rfl rfl ?_
      refine g_inc3 (w := nI (p + 1)) (q := 40) dX3_tabletsOn_37 rfl (nI_1 _) rfl ?_
      refine g_goto (t := 4) dX3_tabletsOn_40 rfl ?_
      have := ih (by omega)
      simp only [ntab] at this
      first | (rw [if_pos c_27] at this; exact this) | (rw [if_neg c_27] at this; exact this)
    · refine g_iconst (q := 31) dX3_tabletsOn_30 ki_1 rfl ?_
      refine g_goto (t := 35) dX3_tabletsOn_31 rfl ?_
      refine g_iaddN (q := 36) dX3_tabletsOn_35 rfl ?_
      refine g_ist2 (q := 37) dX3_tabletsOn_36 rfl rfl ?_
      refine g_inc3 (w := nI (p + 1)) (q := 40) dX3_tabletsOn_37 rfl (nI_1 _) rfl ?_
      refine g_goto (t := 4) dX3_tabletsOn_40 rfl ?_
      have := ih (by omega)
      simp only [ntab] at this
      first | (rw [if_pos c_27] at this; exact this) | (rw [if_neg c_27] at this; exact this)
theorem c_tabletsOn (hk0 : Sk E M o) (hH : Hand S L) (hL : LOK L) (s : Nat) (hs : s < 4) : (Con E yX3_tabletsOn cX3_tabletsOn 4 (some .int) 1 0 0) [.ref o, .int (nI s)] (mv M o S) (pI (fun x M' => x = nI (ntab (vM L s) (vP L s)) ∧ M' = mv M o S)) := by
  refine Go.enter [some (.ref o), some (.int (nI s)), none, none] rfl (Nat.le_of_ble_eq_true rfl) rfl (Nat.le_of_ble_eq_true rfl) ?_
  refine g_iconst (q := 1) dX3_tabletsOn_0 ki_0 rfl ?_
  refine g_ist2 (q := 2) dX3_tabletsOn_1 rfl rfl ?_
  refine g_iconst (q := 3) dX3_tabletsOn_2 ki_0 rfl ?_
  refine g_ist3 (q := 4) dX3_tabletsOn_3 rfl rfl ?_
  exact lp_tabletsOn hk0 hH hL hs ⟨_, rfl, rfl, rfl⟩ 0 (by omega)
theorem lp_tablets (hk0 : Sk E M o) (hH : Hand S L) (hL : LOK L) {Post : Option Value → zM → Prop} (hpost : Post (some (.int (nI (ttab L (vN L))))) (mv M o S)) :
    ∀ s : Nat, s ≤ vN L → (GoR E yX3_tablets cX3_tablets 3 (some .int) 2 0 0) Post 4 [some (.ref o), some (.int (nI (ttab L s))), some (.int (nI s))] [] (mv M o S) 0 0 := by
  have h4 := hL.2.2.2.1
  refine up_ind _ (fun s hs ih => ?_)
  have hn := ttab_le hL s
  have h12 := hL.p12 s
  have hn2 := ntab_le (vM L s) (vP L s)
  refine g_ild2 (q := 5) dX3_tablets_4 rfl ?_
  refine g_ald0 (q := 6) dX3_tablets_5 rfl ?_
  refine m_getI (q := 9) hk0 fs_X3_243 dX3_tablets_6 rfl rfl rfl ?_
  refine g_top hH.2.2.2.1 ?_
  refine g_icN_ge (t := 26) (q := 12) dX3_tablets_9 rfl rfl (by omega) (by omega) (fun c_9 => ?_) (fun c_9 => ?_)
  · obtain rfl : s = vN L := by omega
    refine g_ild1 (q := 27) dX3_tablets_26 rfl ?_
    exact g_iret dX3_tablets_27 (Nat.zero_le _) (Nat.zero_le _) hpost
  · refine g_ild1 (q := 13) dX3_tablets_12 rfl ?_
    refine g_ald0 (q := 14) dX3_tablets_13 rfl ?_
    refine g_ild2 (q := 15) dX3_tablets_14 rfl ?_
    refine m_call (q := 18) hk0 (c_tabletsOn hk0 hH hL _ (by omega)) sv_X3_249 dX3_tablets_15 rfl rfl rfl (Nat.le_of_ble_eq_true rfl) ⟨Nat.le_of_ble_eq_true rfl, Nat.le_of_ble_eq_true rfl⟩ ⟨Nat.zero_le _, Nat.zero_le _⟩ (gIe ?_)
    refine g_iaddN (q := 19) dX3_tablets_18 rfl ?_
    refine g_ist1 (q := 20) dX3_tablets_19 rfl rfl ?_
    refine g_inc2 (w := nI (s + 1)) (q := 23) dX3_tablets_20 rfl (nI_1 _) rfl ?_
    refine g_goto (t := 4) dX3_tablets_23 rfl ?_
    exact ih (by omega)
theorem c_tablets (hk0 : Sk E M o) (hH : Hand S L) (hL : LOK L) : (Con E yX3_tablets cX3_tablets 3 (some .int) 2 0 0) [.ref o] (mv M o S) (pI (fun x M' => x = nI (ttab L (vN L)) ∧ M' = mv M o S)) := by
  refine Go.enter [some (.ref o), none, none] rfl (Nat.le_of_ble_eq_true rfl) rfl (Nat.le_of_ble_eq_true rfl) ?_
  refine g_iconst (q := 1) dX3_tablets_0 ki_0 rfl ?_
  refine g_ist1 (q := 2) dX3_tablets_1 rfl rfl ?_
  refine g_iconst (q := 3) dX3_tablets_2 ki_0 rfl ?_
  refine g_ist2 (q := 4) dX3_tablets_3 rfl rfl ?_
  exact lp_tablets hk0 hH hL ⟨_, rfl, rfl, rfl⟩ 0 (by omega)
end MLib

