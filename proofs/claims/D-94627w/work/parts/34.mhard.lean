set_option maxRecDepth 100000
/-- the longest row that rises -/
def riIn (r : Nat → Nat) (g : Nat → Int32) (k : Nat) : Nat → Nat
  | 0 => 1
  | i + 1 => if g i ≤ g k then max (riIn r g k i) (r i + 1) else riIn r g k i
theorem riIn_succ (r : Nat → Nat) (g : Nat → Int32) (k i : Nat) : riIn r g k (i + 1) = if g i ≤ g k then max (riIn r g k i) (r i + 1) else riIn r g k i := rfl
def risT (g : Nat → Int32) : Nat → Nat → Nat
  | 0, _ => 0
  | k + 1, j => if j = k then riIn (risT g k) g k k else risT g k j
def loN (g : Nat → Int32) : Nat → Nat
  | 0 => 0
  | k + 1 => max (loN g k) (riIn (risT g k) g k k)
theorem riIn_le {r : Nat → Nat} {g : Nat → Int32} {k c : Nat} (h : ∀ i, i < k → r i ≤ c) : ∀ i, i ≤ k → riIn r g k i ≤ c + 1
  | 0, _ => by unfold riIn; omega
  | i + 1, hi => by
    have h1 := riIn_le (g := g) h i (by omega)
    have h2 := h i (by omega)
    unfold riIn
    split
    · exact Nat.max_le.mpr ⟨h1, by omega⟩
    · exact h1
theorem risT_le (g : Nat → Int32) : ∀ k j, risT g k j ≤ k
  | 0, j => Nat.le_refl 0
  | k + 1, j => by
    unfold risT
    split
    · exact riIn_le (fun i _ => risT_le g k i) k (Nat.le_refl k)
    · have := risT_le g k j; omega
theorem loN_le (g : Nat → Int32) : ∀ k, loN g k ≤ k
  | 0 => Nat.le_refl 0
  | k + 1 => by
    unfold loN
    exact Nat.max_le.mpr ⟨by have := loN_le g k; omega, riIn_le (fun i _ => risT_le g k i) k (Nat.le_refl k)⟩
theorem hvF_le (f : Nat → Int32) (m : Int32) : ∀ k lo hi n, hi ≤ 12 → (hvF f m k lo hi n).1 ≤ n + k * 13
  | 0, lo, hi, n, _ => by unfold hvF; dsimp only; omega
  | k + 1, lo, hi, n, h => by
    unfold hvF
    by_cases hl : lo < hi
    · have h1 := skp_lt f hi 12 ((lo + (hi - 1)) / 2) (by omega)
      rw [if_pos hl]
      split
      · dsimp only; omega
      · split
        · have := hvF_le f m k (skp f hi 12 ((lo + (hi - 1)) / 2) + 1) hi (n + 1 + (skp f hi 12 ((lo + (hi - 1)) / 2) - (lo + (hi - 1)) / 2)) h
          omega
        · have := hvF_le f m k lo ((lo + (hi - 1)) / 2) (n + 1 + (skp f hi 12 ((lo + (hi - 1)) / 2) - (lo + (hi - 1)) / 2)) (by omega)
          omega
    · rw [if_neg hl]; dsimp only; omega
theorem rowF_ok (f : Nat → Int32) : ∀ p i, i < ntab f p → ∃ j, j < p ∧ f j ≠ -1 ∧ rowF f p i = f j
  | 0, i, h => absurd h (Nat.not_lt_zero _)
  | p + 1, i, h => by
    rw [ntab_succ] at h
    unfold rowF
    by_cases e : f p = -1
    · rw [if_pos e] at h ⊢
      obtain ⟨j, h1, h2⟩ := rowF_ok f p i h
      exact ⟨j, by omega, h2⟩
    · rw [if_neg e] at h ⊢
      by_cases e2 : i = ntab f p
      · rw [if_pos e2]; exact ⟨p, by omega, e, rfl⟩
      · rw [if_neg e2]
        obtain ⟨j, h1, h2⟩ := rowF_ok f p i (by omega)
        exact ⟨j, by omega, h2⟩
def hdF (g : Nat → Int32) (h : Nat → Nat) : Nat → Int32 × Nat × Nat
  | 0 => (-1, 0, 0)
  | k + 1 => (if (hdF g h k).2.1 < h k ∨ (h k = (hdF g h k).2.1 ∧ g k < (hdF g h k).1) then g k else (hdF g h k).1, max (hdF g h k).2.1 (h k), (hdF g h k).2.2 + h k)
theorem hdF_succ (g : Nat → Int32) (h : Nat → Nat) (k : Nat) : hdF g h (k + 1) = (if (hdF g h k).2.1 < h k ∨ (h k = (hdF g h k).2.1 ∧ g k < (hdF g h k).1) then g k else (hdF g h k).1, max (hdF g h k).2.1 (h k), (hdF g h k).2.2 + h k) := rfl
def hdA (L : LV) (s : Nat) (w : Int32) : Int32 := if w = nI 2 then nI (ndt (vM L s) (vP L s)).2 else if w = 0 then (hdF (rowF (vM L s) (vP L s)) (fun k => (hv (vM L s) (rowF (vM L s) (vP L s) k) (vP L s)).1) (ntab (vM L s) (vP L s))).1 else nI (hdF (rowF (vM L s) (vP L s)) (fun k => (hv (vM L s) (rowF (vM L s) (vP L s) k) (vP L s)).1) (ntab (vM L s) (vP L s))).2.2
def q_hardest (n : Nat) (Ls : Nat → LV) (l s w : Int32) : Int32 := if ixo l n ∧ ixo s (vN (Ls l.toNatClampNeg)) ∧ ixo w 3 then hdA (Ls l.toNatClampNeg) s.toNatClampNeg w else -2
theorem hdF_le {g : Nat → Int32} {h : Nat → Nat} {c : Nat} (hc : ∀ k, h k ≤ c) : ∀ k, (hdF g h k).2.1 ≤ c
  | 0 => Nat.zero_le _
  | k + 1 => Nat.max_le.mpr ⟨hdF_le hc k, hc k⟩
theorem RowIs.kp {ks : List Nat} {S S' : zS} {f : Nat → Int32} {p : Nat} (h : RowIs S f p) (hk : Kp ks S S') (h38 : ks.contains 38 = false) (h39 : ks.contains 39 = false) : RowIs S' f p := by
  unfold RowIs at *
  rw [(hk 38 h38).1, (hk 39 h39).1]
  exact h
theorem hv_scr : ∀ k, (0 :: hks).contains k = true → scr.contains k = true := by
  intro k h
  simp only [List.contains_cons, List.contains_nil, Bool.or_false, Bool.or_eq_true, beq_iff_eq] at h ⊢
  omega
theorem row_scr : ∀ k, ([38, 39] : List Nat).contains k = true → scr.contains k = true := by
  intro k h
  simp only [List.contains_cons, List.contains_nil, Bool.or_false, Bool.or_eq_true, beq_iff_eq] at h ⊢
  omega
section MHard
variable {E : zE} {M : zM} {o : Nat} {S S0 : zS} {n : Nat} {Ls : Nat → LV} {L : LV}
theorem lp_longIn (hk0 : Sk E M o) {k m lg : Nat} {g : Nat → Int32} (hm : m ≤ 12) (hk : k < m) (hg : ∀ i, i < m → (S0.1 39) i = g i) {Post : Option Value → zM → Prop} (kk : ∀ S', Kp [40] S0 S' → (∀ j, j < k → (S'.1 40) j = nI (risT g k j)) → (S'.1 40) k = nI (riIn (risT g k) g k k) → (GoR E yX3_longest cX3_longest 4 (some .int) 2 0 0) Post 79 [some (.ref o), some (.int (nI lg)), some (.int (nI k)), some (.int (nI k))] [] (mv M o S') 0 0) :
    ∀ i, i ≤ k → ∀ S', Kp [40] S0 S' → (∀ j, j < k → (S'.1 40) j = nI (risT g k j)) → (S'.1 40) k = nI (riIn (risT g k) g k i) → (GoR E yX3_longest cX3_longest 4 (some .int) 2 0 0) Post 21 [some (.ref o), some (.int (nI lg)), some (.int (nI k)), some (.int (nI i))] [] (mv M o S') 0 0 := by
  refine up_ind _ (fun i hi ih S' hK hR hr => ?_)
  have e39 := (hK 39 rfl).1
  have b1 := riIn_le (g := g) (c := k) (fun i _ => risT_le g k i) i hi
  have b2 := risT_le g k i
  have hstep : ∀ v : Int32, (∀ j, j < k → (ms1 S' 40 k v).1 40 j = nI (risT g k j)) := fun v j hj => by rw [ms1_nj _ _ _ (by omega)]; exact hR j hj
  refine g_ild3 (q := 22) dX3_longest_21 rfl ?_
  refine g_ild2 (q := 23) dX3_longest_22 rfl ?_
  refine g_icN_ge (t := 79) (q := 26) dX3_longest_23 rfl rfl (by omega) (by omega) (fun c_23 => ?_) (fun c_23 => ?_)
  · obtain rfl : i = k := by omega
    exact kk S' hK hR hr
  · refine g_ald0 (q := 27) dX3_longest_26 rfl ?_
    refine m_getA (j := 21) (q := 30) hk0 fs_X3_74 dX3_longest_27 rfl (fun _ _ => rfl) ⟨rfl, by decide, by decide⟩ ?_
    refine g_ild2 (q := 31) dX3_longest_30 rfl ?_
    refine g_ald0 (q := 32) dX3_longest_31 rfl ?_
    refine m_getA (j := 20) (q := 35) hk0 fs_X3_71 dX3_longest_32 rfl (fun _ _ => rfl) ⟨rfl, by decide, by decide⟩ ?_
    refine g_ild3 (q := 36) dX3_longest_35 rfl ?_
    refine m_iald (n := i) (q := 37) hk0 dX3_longest_36 rfl ma_39 rfl (by omega) ?_
    refine g_top (show (S'.1 39) i = g i by rw [e39]; exact hg i (by omega)) ?_
    refine g_ald0 (q := 38) dX3_longest_37 rfl ?_
    refine m_getA (j := 20) (q := 41) hk0 fs_X3_71 dX3_longest_38 rfl (fun _ _ => rfl) ⟨rfl, by decide, by decide⟩ ?_
    refine g_ild2 (q := 42) dX3_longest_41 rfl ?_
    refine m_iald (n := k) (q := 43) hk0 dX3_longest_42 rfl ma_39 rfl (by omega) ?_
    refine g_top (show (S'.1 39) k = g k by rw [e39]; exact hg k (by omega)) ?_
    refine g_ic_gt (t := 66) (q := 46) dX3_longest_43 rfl rfl (fun c_43 => ?_) (fun c_43 => ?_)
    · refine g_ald0 (q := 67) dX3_longest_66 rfl ?_
      refine m_getA (j := 21) (q := 70) hk0 fs_X3_74 dX3_longest_67 rfl (fun _ _ => rfl) ⟨rfl, by decide, by decide⟩ ?_
      refine g_ild2 (q := 71) dX3_longest_70 rfl ?_
      refine m_iald (n := k) (q := 72) hk0 dX3_longest_71 rfl ma_40 rfl (by omega) ?_
      refine m_iast (n := k) (q := 73) hk0 dX3_longest_72 rfl ma_40 rfl (by omega) ?_
      refine g_inc3 (w := nI (i + 1)) (q := 76) dX3_longest_73 rfl (nI_1 _) rfl ?_
      refine g_goto (t := 21) dX3_longest_76 rfl ?_
      refine ih (by omega) _ (hK.s1 rfl) (hstep _) ?_
      rw [ms1_at, hr, riIn_succ, if_neg (Int32.not_le.mpr c_43)]
    · refine g_ald0 (q := 47) dX3_longest_46 rfl ?_
      refine m_getA (j := 21) (q := 50) hk0 fs_X3_74 dX3_longest_47 rfl (fun _ _ => rfl) ⟨rfl, by decide, by decide⟩ ?_
      refine g_ild2 (q := 51) dX3_longest_50 rfl ?_
      refine m_iald (n := k) (q := 52) hk0 dX3_longest_51 rfl ma_40 rfl (by omega) ?_
      refine g_top hr ?_
      refine g_ald0 (q := 53) dX3_longest_52 rfl ?_
      refine m_getA (j := 21) (q := 56) hk0 fs_X3_74 dX3_longest_53 rfl (fun _ _ => rfl) ⟨rfl, by decide, by decide⟩ ?_
      refine g_ild3 (q := 57) dX3_longest_56 rfl ?_
      refine m_iald (n := i) (q := 58) hk0 dX3_longest_57 rfl ma_40 rfl (by omega) ?_
      refine g_top (hR i (by omega)) ?_
      refine g_iconst (q := 59) dX3_longest_58 ki_1 rfl ?_
      refine g_iaddN (q := 60) dX3_longest_59 rfl ?_
      refine m_calls (q := 63) (c_greater _ _ _ _) ss_X3_181 dX3_longest_60 rfl rfl rfl (Nat.le_of_ble_eq_true rfl) ⟨Nat.le_of_ble_eq_true rfl, Nat.le_of_ble_eq_true rfl⟩ ⟨Nat.zero_le _, Nat.zero_le _⟩ (gIe ?_)
      refine g_goto (t := 72) dX3_longest_63 rfl ?_
      refine m_iast (n := k) (q := 73) hk0 dX3_longest_72 rfl ma_40 rfl (by omega) ?_
      refine g_inc3 (w := nI (i + 1)) (q := 76) dX3_longest_73 rfl (nI_1 _) rfl ?_
      refine g_goto (t := 21) dX3_longest_76 rfl ?_
      refine ih (by omega) _ (hK.s1 rfl) (hstep _) ?_
      rw [ms1_at, gre (by omega) (by omega), riIn_succ, if_pos (Int32.not_lt.mp c_43)]
theorem lp_longOut (hk0 : Sk E M o) {m : Nat} {g : Nat → Int32} (hm : m ≤ 12) (hr : (S0.1 38 0) = nI m) (hg : ∀ i, i < m → (S0.1 39) i = g i) {Post : Option Value → zM → Prop} (hpost : ∀ S', Kp [40] S0 S' → Post (some (.int (nI (loN g m)))) (mv M o S')) :
    ∀ k, k ≤ m → ∀ S', Kp [40] S0 S' → (∀ j, j < k → (S'.1 40) j = nI (risT g k j)) → ∀ x3, (GoR E yX3_longest cX3_longest 4 (some .int) 2 0 0) Post 4 [some (.ref o), some (.int (nI (loN g k))), some (.int (nI k)), x3] [] (mv M o S') 0 0 := by
  refine up_ind _ (fun k hk ih S' hK hR x3 => ?_)
  have b1 := riIn_le (g := g) (c := k) (fun i _ => risT_le g k i) k (Nat.le_refl k)
  have b2 := loN_le g k
  refine g_ild2 (q := 5) dX3_longest_4 rfl ?_
  refine g_ald0 (q := 6) dX3_longest_5 rfl ?_
  refine m_getI (q := 9) hk0 fs_X3_330 dX3_longest_6 rfl rfl rfl ?_
  refine g_top (show (S'.1 38 0) = nI m by rw [(hK 38 rfl).1]; exact hr) ?_
  refine g_icN_ge (t := 96) (q := 12) dX3_longest_9 rfl rfl (by omega) (by omega) (fun c_9 => ?_) (fun c_9 => ?_)
  · obtain rfl : k = m := by omega
    refine g_ild1 (q := 97) dX3_longest_96 rfl ?_
    exact g_iret dX3_longest_97 (Nat.zero_le _) (Nat.zero_le _) (hpost S' hK)
  · refine g_ald0 (q := 13) dX3_longest_12 rfl ?_
    refine m_getA (j := 21) (q := 16) hk0 fs_X3_74 dX3_longest_13 rfl (fun _ _ => rfl) ⟨rfl, by decide, by decide⟩ ?_
    refine g_ild2 (q := 17) dX3_longest_16 rfl ?_
    refine g_iconst (q := 18) dX3_longest_17 ki_1 rfl ?_
    refine m_iast (n := k) (q := 19) hk0 dX3_longest_18 rfl ma_40 rfl (by omega) ?_
    refine g_iconst (q := 20) dX3_longest_19 ki_0 rfl ?_
    refine g_ist3 (q := 21) dX3_longest_20 rfl rfl ?_
    refine lp_longIn (S0 := S0) hk0 hm (by omega) hg (fun S2 hK2 hR2 hr2 => ?_) 0 (by omega) _ (hK.s1 rfl) (fun j hj => by rw [ms1_nj _ _ _ (by omega)]; exact hR j hj) (ms1_at _ _ _ _)
    refine g_ild1 (q := 80) dX3_longest_79 rfl ?_
    refine g_ald0 (q := 81) dX3_longest_80 rfl ?_
    refine m_getA (j := 21) (q := 84) hk0 fs_X3_74 dX3_longest_81 rfl (fun _ _ => rfl) ⟨rfl, by decide, by decide⟩ ?_
    refine g_ild2 (q := 85) dX3_longest_84 rfl ?_
    refine m_iald (n := k) (q := 86) hk0 dX3_longest_85 rfl ma_40 rfl (by omega) ?_
    refine g_top hr2 ?_
    refine m_calls (q := 89) (c_greater _ _ _ _) ss_X3_181 dX3_longest_86 rfl rfl rfl (Nat.le_of_ble_eq_true rfl) ⟨Nat.le_of_ble_eq_true rfl, Nat.le_of_ble_eq_true rfl⟩ ⟨Nat.zero_le _, Nat.zero_le _⟩ (gIe ?_)
    refine g_top (gre (by omega) (by omega)) ?_
    refine g_ist1 (q := 90) dX3_longest_89 rfl rfl ?_
    refine g_inc2 (w := nI (k + 1)) (q := 93) dX3_longest_90 rfl (nI_1 _) rfl ?_
    refine g_goto (t := 4) dX3_longest_93 rfl ?_
    refine ih (by omega) _ hK2 (fun j hj => ?_) _
    unfold risT
    by_cases e : j = k
    · rw [if_pos e, e]; exact hr2
    · rw [if_neg e]; exact hR2 j (by omega)
theorem c_longest (hk0 : Sk E M o) {f : Nat → Int32} {pl : Nat} (hp : pl ≤ 12) (hR : RowIs S f pl) : (Con E yX3_longest cX3_longest 4 (some .int) 2 0 0) [.ref o] (mv M o S) (pI (fun x => mP M o (fun S' => x = nI (loN (rowF f pl) (ntab f pl)) ∧ Kp [40] S S'))) := by
  have hn := ntab_le f pl
  refine Go.enter [some (.ref o), none, none, none] rfl (Nat.le_of_ble_eq_true rfl) rfl (Nat.le_of_ble_eq_true rfl) ?_
  refine g_iconst (q := 1) dX3_longest_0 ki_0 rfl ?_
  refine g_ist1 (q := 2) dX3_longest_1 rfl rfl ?_
  refine g_iconst (q := 3) dX3_longest_2 ki_0 rfl ?_
  refine g_ist2 (q := 4) dX3_longest_3 rfl rfl ?_
  exact lp_longOut (S0 := S) hk0 (by omega) hR.1 hR.2 (fun S' h => ⟨_, rfl, S', rfl, rfl, h⟩) 0 (by omega) S Kp.rf (fun j h => by omega) _
theorem lp_hard (hk0 : Sk E M o) (hM : MLs S0 n Ls) {l s : Nat} {w : Int32} (hl : l < n) (hL : LOK (Ls l)) (hs : s < vN (Ls l)) {Post : Option Value → zM → Prop} (kk : ∀ S' x8 x9, Kp scr S0 S' → (GoR E yX3_hardest cX3_hardest 10 (some .int) 5 0 0) Post 142 [some (.ref o), some (.int (nI l)), some (.int (nI s)), some (.int w), some (.int (hdF (rowF (vM (Ls l) s) (vP (Ls l) s)) (fun k => (hv (vM (Ls l) s) (rowF (vM (Ls l) s) (vP (Ls l) s) k) (vP (Ls l) s)).1) (ntab (vM (Ls l) s) (vP (Ls l) s))).1), some (.int (nI (hdF (rowF (vM (Ls l) s) (vP (Ls l) s)) (fun k => (hv (vM (Ls l) s) (rowF (vM (Ls l) s) (vP (Ls l) s) k) (vP (Ls l) s)).1) (ntab (vM (Ls l) s) (vP (Ls l) s))).2.1)), some (.int (nI (hdF (rowF (vM (Ls l) s) (vP (Ls l) s)) (fun k => (hv (vM (Ls l) s) (rowF (vM (Ls l) s) (vP (Ls l) s) k) (vP (Ls l) s)).1) (ntab (vM (Ls l) s) (vP (Ls l) s))).2.2)), some (.int (nI (ntab (vM (Ls l) s) (vP (Ls l) s)))), x8, x9] [] (mv M o S') 0 0) :
    ∀ k, k ≤ ntab (vM (Ls l) s) (vP (Ls l) s) → ∀ S' x8 x9, Kp scr S0 S' → RowIs S' (vM (Ls l) s) (vP (Ls l) s) → (GoR E yX3_hardest cX3_hardest 10 (some .int) 5 0 0) Post 61 [some (.ref o), some (.int (nI l)), some (.int (nI s)), some (.int w), some (.int (hdF (rowF (vM (Ls l) s) (vP (Ls l) s)) (fun k => (hv (vM (Ls l) s) (rowF (vM (Ls l) s) (vP (Ls l) s) k) (vP (Ls l) s)).1) k).1), some (.int (nI (hdF (rowF (vM (Ls l) s) (vP (Ls l) s)) (fun k => (hv (vM (Ls l) s) (rowF (vM (Ls l) s) (vP (Ls l) s) k) (vP (Ls l) s)).1) k).2.1)), some (.int (nI (hdF (rowF (vM (Ls l) s) (vP (Ls l) s)) (fun k => (hv (vM (Ls l) s) (rowF (vM (Ls l) s) (vP (Ls l) s) k) (vP (Ls l) s)).1) k).2.2)), some (.int (nI k)), x8, x9] [] (mv M o S') 0 0 := by
  have h2 := hM.1
  have h4 := hL.2.2.2.1
  have h12 := hL.p12 s
  have h32 := pow_b hL.1.2
  have hn := ntab_le (vM (Ls l) s) (vP (Ls l) s)
  have hv1 : ∀ k, (fun k => (hv (vM (Ls l) s) (rowF (vM (Ls l) s) (vP (Ls l) s) k) (vP (Ls l) s)).1) k ≤ 169 := fun k => by
    have := hvF_le (vM (Ls l) s) (rowF (vM (Ls l) s) (vP (Ls l) s) k) (vP (Ls l) s + 1) 0 (vP (Ls l) s) 0 h12
    unfold hv
    dsimp only
    omega
  refine up_ind _ (fun k hk ih S' x8 x9 hK hR => ?_)
  have b1 := hdF_le (g := rowF (vM (Ls l) s) (vP (Ls l) s)) hv1 k
  have b2 := hv1 k
  have hM' : MLs S' n Ls := hM.kp hK rfl rfl
  have e1 := ih
  generalize hh : (fun k => (hv (vM (Ls l) s) (rowF (vM (Ls l) s) (vP (Ls l) s) k) (vP (Ls l) s)).1) = h at *
  refine g_ild7 (q := 63) dX3_hardest_61 rfl ?_
  refine g_ald0 (q := 64) dX3_hardest_63 rfl ?_
  refine m_getI (q := 67) hk0 fs_X3_330 dX3_hardest_64 rfl rfl rfl ?_
  refine g_top hR.1 ?_
  refine g_icN_ge (t := 142) (q := 70) dX3_hardest_67 rfl rfl (by omega) (by omega) (fun c_67 => ?_) (fun c_67 => ?_)
  · obtain rfl : k = ntab (vM (Ls l) s) (vP (Ls l) s) := by omega
    exact kk S' _ _ hK
  · refine g_ald0 (q := 71) dX3_hardest_70 rfl ?_
    refine m_getA (j := 20) (q := 74) hk0 fs_X3_71 dX3_hardest_71 rfl (fun _ _ => rfl) ⟨rfl, by decide, by decide⟩ ?_
    refine g_ild7 (q := 76) dX3_hardest_74 rfl ?_
    refine m_iald (n := k) (q := 77) hk0 dX3_hardest_76 rfl ma_39 rfl (by omega) ?_
    refine g_top (hR.2 k (by omega)) ?_
    obtain ⟨j, hj, hj1, hj2⟩ := rowF_ok (vM (Ls l) s) (vP (Ls l) s) k (by omega)
    obtain ⟨mm, hmm, hme⟩ := (hL.2.2.2.2.2.2.2 s j).resolve_left hj1
    have hq : q_halving n Ls (nI l) (nI s) (rowF (vM (Ls l) s) (vP (Ls l) s) k) (nI 0) = nI (h k) := by
      unfold q_halving
      rw [nI_clamp (n := l) (by omega), nI_clamp (n := s) (by omega), if_pos ⟨ixo_nI hl (by omega), ixo_nI hs (by omega), by rw [hj2, hme]; exact ixo_nI hmm (by omega)⟩, if_pos (show nI 0 = 0 from rfl), ← hh]
    refine g_ist8 (q := 79) dX3_hardest_77 rfl rfl ?_
    refine g_ald0 (q := 80) dX3_hardest_79 rfl ?_
    refine g_ild1 (q := 81) dX3_hardest_80 rfl ?_
    refine g_ild2 (q := 82) dX3_hardest_81 rfl ?_
    refine g_ild8 (q := 84) dX3_hardest_82 rfl ?_
    refine g_iconst (q := 85) dX3_hardest_84 ki_0 rfl ?_
    refine m_call (q := 88) hk0 (c_halving hk0 hM' _ _ _ _) sv_X3_481 dX3_hardest_85 rfl rfl rfl (Nat.le_of_ble_eq_true rfl) ⟨Nat.le_of_ble_eq_true rfl, Nat.le_of_ble_eq_true rfl⟩ ⟨Nat.zero_le _, Nat.zero_le _⟩ (mgI fun x S2 h3 => ?_)
    obtain ⟨rfl, hK2⟩ := h3
    refine g_top hq ?_
    have hK3 := hK.then (hK2.up hv_scr)
    have hR3 := hR.kp hK2 rfl rfl
    refine g_ist9 (q := 90) dX3_hardest_88 rfl rfl ?_
    refine g_ild6 (q := 92) dX3_hardest_90 rfl ?_
    refine g_ild9 (q := 94) dX3_hardest_92 rfl ?_
    refine g_iaddN (q := 95) dX3_hardest_94 rfl ?_
    refine g_ist6 (q := 97) dX3_hardest_95 rfl rfl ?_
    refine g_ild9 (q := 99) dX3_hardest_97 rfl ?_
    refine g_ild5 (q := 101) dX3_hardest_99 rfl ?_
    refine g_icN_gt (t := 118) (q := 104) dX3_hardest_101 rfl rfl (by omega) (by omega) (fun c_101 => ?_) (fun c_101 => ?_)
    · refine g_ild8 (q := 120) dX3_hardest_118 rfl ?_
      refine g_goto (t := 125) dX3_hardest_120 rfl ?_
      refine g_ist4 (q := 127) dX3_hardest_125 rfl rfl ?_
      refine g_ild5 (q := 129) dX3_hardest_127 rfl ?_
      refine g_ild9 (q := 131) dX3_hardest_129 rfl ?_
      refine m_calls (q := 134) (c_greater _ _ _ _) ss_X3_181 dX3_hardest_131 rfl rfl rfl (Nat.le_of_ble_eq_true rfl) ⟨Nat.le_of_ble_eq_true rfl, Nat.le_of_ble_eq_true rfl⟩ ⟨Nat.zero_le _, Nat.zero_le _⟩ (gIe ?_)
      refine g_top (gre (by omega) (by omega)) ?_
      refine g_ist5 (q := 136) dX3_hardest_134 rfl rfl ?_
      refine g_inc7 (w := nI (k + 1)) (q := 139) dX3_hardest_136 rfl (nI_1 _) rfl ?_
      refine g_goto (t := 61) dX3_hardest_139 rfl ?_
      have := ih (by omega)
      rw [hdF_succ, if_pos (Or.inl c_101)] at this
      exact this _ _ _ hK3 hR3
    · refine g_ild9 (q := 106) dX3_hardest_104 rfl ?_
      refine g_ild5 (q := 108) dX3_hardest_106 rfl ?_
      refine g_icN_ne (t := 123) (q := 111) dX3_hardest_108 rfl rfl (by omega) (by omega) (fun c_108 => ?_) (fun c_108 => ?_)
      · refine g_ild4 (q := 125) dX3_hardest_123 rfl ?_
        refine g_ist4 (q := 127) dX3_hardest_125 rfl rfl ?_
        refine g_ild5 (q := 129) dX3_hardest_127 rfl ?_
        refine g_ild9 (q := 131) dX3_hardest_129 rfl ?_
        refine m_calls (q := 134) (c_greater _ _ _ _) ss_X3_181 dX3_hardest_131 rfl rfl rfl (Nat.le_of_ble_eq_true rfl) ⟨Nat.le_of_ble_eq_true rfl, Nat.le_of_ble_eq_true rfl⟩ ⟨Nat.zero_le _, Nat.zero_le _⟩ (gIe ?_)
        refine g_top (gre (by omega) (by omega)) ?_
        refine g_ist5 (q := 136) dX3_hardest_134 rfl rfl ?_
        refine g_inc7 (w := nI (k + 1)) (q := 139) dX3_hardest_136 rfl (nI_1 _) rfl ?_
        refine g_goto (t := 61) dX3_hardest_139 rfl ?_
        have := ih (by omega)
        rw [hdF_succ, if_neg (fun e => e.elim (fun e => by omega) (fun e => c_108 e.1))] at this
        exact this _ _ _ hK3 hR3
      · refine g_ild8 (q := 113) dX3_hardest_111 rfl ?_
        refine g_ild4 (q := 115) dX3_hardest_113 rfl ?_
        refine g_ic_ge (t := 123) (q := 118) dX3_hardest_115 rfl rfl (fun c_115 => ?_) (fun c_115 => ?_)
        · refine g_ild4 (q := 125) dX3_hardest_123 rfl ?_
          refine g_ist4 (q := 127) dX3_hardest_125 rfl rfl ?_
          refine g_ild5 (q := 129) dX3_hardest_127 rfl ?_
          refine g_ild9 (q := 131) dX3_hardest_129 rfl ?_
          refine m_calls (q := 134) (c_greater _ _ _ _) ss_X3_181 dX3_hardest_131 rfl rfl rfl (Nat.le_of_ble_eq_true rfl) ⟨Nat.le_of_ble_eq_true rfl, Nat.le_of_ble_eq_true rfl⟩ ⟨Nat.zero_le _, Nat.zero_le _⟩ (gIe ?_)
          refine g_top (gre (by omega) (by omega)) ?_
          refine g_ist5 (q := 136) dX3_hardest_134 rfl rfl ?_
          refine g_inc7 (w := nI (k + 1)) (q := 139) dX3_hardest_136 rfl (nI_1 _) rfl ?_
          refine g_goto (t := 61) dX3_hardest_139 rfl ?_
          have := ih (by omega)
          rw [hdF_succ, if_neg (fun e => e.elim (fun e => by omega) (fun e => absurd e.2 (Int32.not_lt.mpr c_115)))] at this
          exact this _ _ _ hK3 hR3
        · refine g_ild8 (q := 120) dX3_hardest_118 rfl ?_
          refine g_goto (t := 125) dX3_hardest_120 rfl ?_
          refine g_ist4 (q := 127) dX3_hardest_125 rfl rfl ?_
          refine g_ild5 (q := 129) dX3_hardest_127 rfl ?_
          refine g_ild9 (q := 131) dX3_hardest_129 rfl ?_
          refine m_calls (q := 134) (c_greater _ _ _ _) ss_X3_181 dX3_hardest_131 rfl rfl rfl (Nat.le_of_ble_eq_true rfl) ⟨Nat.le_of_ble_eq_true rfl, Nat.le_of_ble_eq_true rfl⟩ ⟨Nat.zero_le _, Nat.zero_le _⟩ (gIe ?_)
          refine g_top (gre (by omega) (by omega)) ?_
          refine g_ist5 (q := 136) dX3_hardest_134 rfl rfl ?_
          refine g_inc7 (w := nI (k + 1)) (q := 139) dX3_hardest_136 rfl (nI_1 _) rfl ?_
          refine g_goto (t := 61) dX3_hardest_139 rfl ?_
          have := ih (by omega)
          rw [hdF_succ, if_pos (Or.inr ⟨c_108, Int32.not_le.mp c_115⟩)] at this
          exact this _ _ _ hK3 hR3
theorem c_hardest (hk0 : Sk E M o) (hM : MLs S n Ls) (l s w : Int32) : (Con E yX3_hardest cX3_hardest 10 (some .int) 5 0 0) [.ref o, .int l, .int s, .int w] (mv M o S) (pI (fun x => mP M o (fun S' => x = q_hardest n Ls l s w ∧ Kp scr S S'))) := by
  have h2 := hM.1
  refine Go.enter [some (.ref o), some (.int l), some (.int s), some (.int w), none, none, none, none, none, none] rfl (Nat.le_of_ble_eq_true rfl) rfl (Nat.le_of_ble_eq_true rfl) ?_
  refine g_ald0 (q := 1) dX3_hardest_0 rfl ?_
  refine g_iconst (q := 2) dX3_hardest_1 ki_0 rfl ?_
  refine m_putI (q := 5) hk0 fs_X3_111 dX3_hardest_2 rfl rfl rfl ?_
  refine g_ald0 (q := 6) dX3_hardest_5 rfl ?_
  refine g_ild1 (q := 7) dX3_hardest_6 rfl ?_
  refine m_call (q := 10) hk0 (c_hand hk0 hM.cd _) sv_X3_270 dX3_hardest_7 rfl rfl rfl (Nat.le_of_ble_eq_true rfl) ⟨Nat.le_of_ble_eq_true rfl, Nat.le_of_ble_eq_true rfl⟩ ⟨Nat.zero_le _, Nat.zero_le _⟩ (mgI fun x S' h => ?_)
  obtain ⟨rfl, hK, hJ⟩ := h
  have hK : Kp scr S S' := (Kp.rf.s1 (ks := scr) (k := 0) rfl).then (hK.up hks_scr)
  refine g_ifb_eq (t := 30) (q := 13) dX3_hardest_10 rfl rfl (fun c_10 => ?_) (fun c_10 => ?_)
  · refine g_bipush (q := 32) dX3_hardest_30 kb_m2 rfl ?_
    refine g_iret dX3_hardest_32 (Nat.zero_le _) (Nat.zero_le _) ?_
    exact ⟨_, rfl, _, rfl, by unfold q_hardest; rw [if_neg (fun h => c_10 h.1)], hK⟩
  · obtain ⟨hH, hBg⟩ := hJ c_10
    obtain ⟨l, hl, rfl⟩ := ixo_of c_10 (by omega)
    rw [nI_clamp (by omega)] at hH
    have hL := (hM.2.2 l hl).2
    have h4 := hL.2.2.2.1
    have h5 := hL.1.2
    have h32 := pow_b hL.1.2
    refine g_ald0 (q := 14) dX3_hardest_13 rfl ?_
    refine g_ild2 (q := 15) dX3_hardest_14 rfl ?_
    refine m_call (q := 18) hk0 (c_isShelf hk0 hH hL _) sv_X3_246 dX3_hardest_15 rfl rfl rfl (Nat.le_of_ble_eq_true rfl) ⟨Nat.le_of_ble_eq_true rfl, Nat.le_of_ble_eq_true rfl⟩ ⟨Nat.zero_le _, Nat.zero_le _⟩ (gIe ?_)
    refine g_ifb_eq (t := 30) (q := 21) dX3_hardest_18 rfl rfl (fun c_18 => ?_) (fun c_18 => ?_)
    · refine g_bipush (q := 32) dX3_hardest_30 kb_m2 rfl ?_
      refine g_iret dX3_hardest_32 (Nat.zero_le _) (Nat.zero_le _) ?_
      exact ⟨_, rfl, _, rfl, by unfold q_hardest; rw [nI_clamp (by omega), if_neg (fun h => c_18 h.2.1)], hK⟩
    · refine g_ild3 (q := 22) dX3_hardest_21 rfl ?_
      refine g_iconst (q := 23) dX3_hardest_22 ki_0 rfl ?_
      refine g_iconst (q := 24) dX3_hardest_23 ki_2 rfl ?_
      refine m_calls (q := 27) (c_in _ _ _ _ _) ss_X3_123 dX3_hardest_24 rfl rfl rfl (Nat.le_of_ble_eq_true rfl) ⟨Nat.le_of_ble_eq_true rfl, Nat.le_of_ble_eq_true rfl⟩ ⟨Nat.zero_le _, Nat.zero_le _⟩ (gIe ?_)
      refine g_ifb_ne (t := 33) (q := 30) dX3_hardest_27 rfl rfl (fun c_27 => ?_) (fun c_27 => ?_)
      · obtain ⟨s, hs, rfl⟩ := ixo_of c_18 (by omega)
        have cw := (in_n (by omega)).mp c_27
        have h12 := hL.p12 s
        have R : ∀ x S2, Kp scr S S2 → x = hdA (Ls l) s w → mP M o (fun S' => x = q_hardest n Ls (nI l) (nI s) w ∧ Kp scr S S') (mv M o S2) := fun x S2 hK2 hx => ⟨S2, rfl, by unfold q_hardest; rw [nI_clamp (n := l) (by omega), nI_clamp (n := s) (by omega), if_pos ⟨c_10, c_18, cw⟩]; exact hx, hK2⟩
        refine g_ild3 (q := 34) dX3_hardest_33 rfl ?_
        refine g_iconst (q := 35) dX3_hardest_34 ki_2 rfl ?_
        refine g_ic_ne (t := 44) (q := 38) dX3_hardest_35 rfl rfl (fun c_35 => ?_) (fun c_35 => ?_)
        · refine g_iconst (q := 45) dX3_hardest_44 ki_m1 rfl ?_
          refine g_ist4 (q := 47) dX3_hardest_45 rfl rfl ?_
          refine g_iconst (q := 48) dX3_hardest_47 ki_0 rfl ?_
          refine g_ist5 (q := 50) dX3_hardest_48 rfl rfl ?_
          refine g_iconst (q := 51) dX3_hardest_50 ki_0 rfl ?_
          refine g_ist6 (q := 53) dX3_hardest_51 rfl rfl ?_
          refine g_ald0 (q := 54) dX3_hardest_53 rfl ?_
          refine g_ild2 (q := 55) dX3_hardest_54 rfl ?_
          refine m_call (q := 58) hk0 (c_layRow hk0 hH hL s (by omega)) sv_X3_333 dX3_hardest_55 rfl rfl rfl (Nat.le_of_ble_eq_true rfl) ⟨Nat.le_of_ble_eq_true rfl, Nat.le_of_ble_eq_true rfl⟩ ⟨Nat.zero_le _, Nat.zero_le _⟩ (mgV fun S2 h3 => ?_)
          obtain ⟨hK2, hR2⟩ := h3
          have hK3 := hK.then (hK2.up row_scr)
          refine g_iconst (q := 59) dX3_hardest_58 ki_0 rfl ?_
          refine g_ist7 (q := 61) dX3_hardest_59 rfl rfl ?_
          refine lp_hard (S0 := S2) hk0 (hM.kp hK3 rfl rfl) hl hL hs (fun S4 x8 x9 hK4 => ?_) 0 (Nat.zero_le _) S2 _ _ Kp.rf hR2
          refine g_ild3 (q := 143) dX3_hardest_142 rfl ?_
          refine g_if_ne (t := 151) (q := 146) dX3_hardest_143 rfl rfl (fun c_143 => ?_) (fun c_143 => ?_)
          · refine g_ild6 (q := 153) dX3_hardest_151 rfl ?_
            refine g_iret dX3_hardest_153 (Nat.zero_le _) (Nat.zero_le _) ?_
            exact ⟨_, rfl, R _ _ (hK3.then hK4) (by unfold hdA; rw [if_neg c_35, if_neg c_143])⟩
          · refine g_ild4 (q := 148) dX3_hardest_146 rfl ?_
            refine g_goto (t := 153) dX3_hardest_148 rfl ?_
            refine g_iret dX3_hardest_153 (Nat.zero_le _) (Nat.zero_le _) ?_
            exact ⟨_, rfl, R _ _ (hK3.then hK4) (by unfold hdA; rw [if_neg c_35, if_pos c_143])⟩
        · refine g_ald0 (q := 39) dX3_hardest_38 rfl ?_
          refine g_ild2 (q := 40) dX3_hardest_39 rfl ?_
          refine m_call (q := 43) hk0 (c_hole hk0 hH hL s (by omega)) sv_X3_478 dX3_hardest_40 rfl rfl rfl (Nat.le_of_ble_eq_true rfl) ⟨Nat.le_of_ble_eq_true rfl, Nat.le_of_ble_eq_true rfl⟩ ⟨Nat.zero_le _, Nat.zero_le _⟩ (gIe ?_)
          refine g_iret dX3_hardest_43 (Nat.zero_le _) (Nat.zero_le _) ?_
          exact ⟨_, rfl, R _ _ hK (by unfold hdA; rw [if_pos c_35])⟩
      · refine g_bipush (q := 32) dX3_hardest_30 kb_m2 rfl ?_
        refine g_iret dX3_hardest_32 (Nat.zero_le _) (Nat.zero_le _) ?_
        exact ⟨_, rfl, _, rfl, by unfold q_hardest; rw [nI_clamp (by omega), if_neg (fun h => c_27 ((in_n (by omega)).mpr h.2.2))], hK⟩
end MHard

