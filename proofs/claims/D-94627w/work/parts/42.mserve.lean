set_option maxRecDepth 100000
/-- the fewest steps -/
def mnF (g : Nat → Nat) : Nat → Nat
  | 0 => 1000000
  | r + 1 => if g r < mnF g r then g r else mnF g r
theorem mnF_succ (g : Nat → Nat) (r : Nat) : mnF g (r + 1) = if g r < mnF g r then g r else mnF g r := rfl
theorem mnF_le (g : Nat → Nat) : ∀ r, mnF g r ≤ 1000000
  | 0 => Nat.le_refl _
  | r + 1 => by
    have := mnF_le g r
    rw [mnF_succ]
    split <;> omega
def cstF (R : RV) : Nat → Nat → Nat
  | 0, _ => 0
  | j + 1, c => mnF (fun r => dst (spo c r) (R.2.2.2 (R.2.1 - (j + 1))) + cstF R j (mvd c r (R.2.2.2 (R.2.1 - (j + 1))))) R.1
theorem cstF_le (R : RV) (j c : Nat) : cstF R j c ≤ 1000000 := by
  cases j with
  | zero => exact Nat.zero_le _
  | succ j => exact mnF_le _ _
/-- what an ask costs by a reader -/
def cgR (R : RV) (k c r : Nat) : Nat := dst (spo c r) (R.2.2.2 k) + cstF R (R.2.1 - (k + 1)) (mvd c r (R.2.2.2 k))
theorem cst_k {R : RV} {k c : Nat} (hk : k < R.2.1) : cstF R (R.2.1 - k) c = mnF (cgR R k c) R.1 := by
  obtain ⟨j, hj⟩ : ∃ j, R.2.1 - k = j + 1 := ⟨R.2.1 - k - 1, by omega⟩
  rw [hj]
  show mnF _ _ = _
  have e1 : R.2.1 - (j + 1) = k := by omega
  have e2 : R.2.1 - (k + 1) = j := by omega
  congr 1
  funext r
  unfold cgR
  rw [e1, e2]
theorem cgR_le {R : RV} (hO : ROK R) (k c r : Nat) : cgR R k c r ≤ 1000012 := by
  have h1 := spo_lt c r
  have h2 := hO.2.2.2 k
  have h3 := dst_le (a := spo c r) (b := R.2.2.2 k) (c := 12) (by omega) (by omega)
  have h4 := cstF_le R (R.2.1 - (k + 1)) (mvd c r (R.2.2.2 k))
  unfold cgR
  omega
/-- the rows from k on stand -/
def CT (S : zS) (R : RV) (k : Nat) : Prop := ∀ k', k ≤ k' → k' ≤ R.2.1 → ∀ c, c < 1728 → (S.1 54) (1728 * k' + c) = nI (cstF R (R.2.1 - k') c)
section MServe
variable {E : zE} {M : zM} {o : Nat} {S S0 : zS} {n : Nat} {Rs : Nat → RV} {R : RV}
theorem RLaid.kp {ks : List Nat} {S' : zS} (h : RLaid S R) (hK : Kp ks S S') (h1 : ks.contains 55 = false ∧ ks.contains 56 = false ∧ ks.contains 57 = false ∧ ks.contains 58 = false) : RLaid S' R := by
  unfold RLaid at *
  rw [(hK 55 h1.1).1, (hK 56 h1.2.1).1, (hK 57 h1.2.2.1).1, (hK 58 h1.2.2.2).1]
  exact h
theorem lp_srvR (hk0 : Sk E M o) (hO : ROK R) (hQ : RLaid S R) {k c : Nat} (hk : k < R.2.1) (hc : c < 1728) (hC : CT S R (k + 1)) {Post : Option Value → zM → Prop} (kk : (GoR E yX3_serve cX3_serve 5 (some .int) 5 0 0) Post 98 [some (.ref o), some (.int (nI k)), some (.int (nI c)), some (.int (nI (mnF (cgR R k c) R.1))), some (.int (nI R.1))] [] (mv M o S) 0 0) :
    ∀ r, r ≤ R.1 → (GoR E yX3_serve cX3_serve 5 (some .int) 5 0 0) Post 58 [some (.ref o), some (.int (nI k)), some (.int (nI c)), some (.int (nI (mnF (cgR R k c) r))), some (.int (nI r))] [] (mv M o S) 0 0 := by
  have h3 := hO.1.2
  have h12 := hO.2.1
  refine up_ind _ (fun r hr ih => ?_)
  have b1 := mnF_le (cgR R k c) r
  have b2 := cgR_le hO k c r
  have hv : r < 3 → (S.1 54) (1728 * (k + 1) + mvd c r (R.2.2.2 k)) = nI (cstF R (R.2.1 - (k + 1)) (mvd c r (R.2.2.2 k))) := fun h => hC (k + 1) (Nat.le_refl _) (by omega) _ (mvd_lt hc h (hO.2.2.2 k))
  refine g_ild4 (q := 60) dX3_serve_58 rfl ?_
  refine g_ald0 (q := 61) dX3_serve_60 rfl ?_
  refine m_getI (q := 64) hk0 fs_X3_439 dX3_serve_61 rfl rfl rfl ?_
  refine g_top hQ.1 ?_
  refine g_icN_ge (t := 98) (q := 67) dX3_serve_64 rfl rfl (by omega) (by omega) (fun c_64 => ?_) (fun c_64 => ?_)
  · obtain rfl : r = R.1 := by omega
    exact kk
  · refine g_ald0 (q := 68) dX3_serve_67 rfl ?_
    refine g_ild1 (q := 69) dX3_serve_68 rfl ?_
    refine g_ild2 (q := 70) dX3_serve_69 rfl ?_
    refine g_ild4 (q := 72) dX3_serve_70 rfl ?_
    refine m_call (q := 75) hk0 (c_costBy hk0 hO hQ k c r _ hk hc (by omega) (hv (by omega))) sv_X3_459 dX3_serve_72 rfl rfl rfl (Nat.le_of_ble_eq_true rfl) ⟨Nat.le_of_ble_eq_true rfl, Nat.le_of_ble_eq_true rfl⟩ ⟨Nat.zero_le _, Nat.zero_le _⟩ (gIe ?_)
    refine g_top (show _ = nI (cgR R k c r) from rfl) ?_
    refine g_ild3 (q := 76) dX3_serve_75 rfl ?_
    refine g_icN_ge (t := 90) (q := 79) dX3_serve_76 rfl rfl (by omega) (by omega) (fun c_76 => ?_) (fun c_76 => ?_)
    · refine g_ild3 (q := 91) dX3_serve_90 rfl ?_
      refine g_ist3 (q := 92) dX3_serve_91 rfl rfl ?_
      refine g_inc4 (w := nI (r + 1)) (q := 95) dX3_serve_92 rfl (nI_1 _) rfl ?_
      refine g_goto (t := 58) dX3_serve_95 rfl ?_
      have := ih (by omega)
      rw [mnF_succ, if_neg (by omega)] at this
      exact this
    · refine g_ald0 (q := 80) dX3_serve_79 rfl ?_
      refine g_ild1 (q := 81) dX3_serve_80 rfl ?_
      refine g_ild2 (q := 82) dX3_serve_81 rfl ?_
      refine g_ild4 (q := 84) dX3_serve_82 rfl ?_
      refine m_call (q := 87) hk0 (c_costBy hk0 hO hQ k c r _ hk hc (by omega) (hv (by omega))) sv_X3_459 dX3_serve_84 rfl rfl rfl (Nat.le_of_ble_eq_true rfl) ⟨Nat.le_of_ble_eq_true rfl, Nat.le_of_ble_eq_true rfl⟩ ⟨Nat.zero_le _, Nat.zero_le _⟩ (gIe ?_)
      refine g_top (show _ = nI (cgR R k c r) from rfl) ?_
      refine g_goto (t := 91) dX3_serve_87 rfl ?_
      refine g_ist3 (q := 92) dX3_serve_91 rfl rfl ?_
      refine g_inc4 (w := nI (r + 1)) (q := 95) dX3_serve_92 rfl (nI_1 _) rfl ?_
      refine g_goto (t := 58) dX3_serve_95 rfl ?_
      have := ih (by omega)
      rw [mnF_succ, if_pos c_76] at this
      exact this
theorem lp_srvC (hk0 : Sk E M o) (hO : ROK R) (hQ : RLaid S0 R) {k : Nat} (hk : k < R.2.1) {Post : Option Value → zM → Prop} (kk : ∀ S' x3 x4, Kp [54] S0 S' → CT S' R k → (GoR E yX3_serve cX3_serve 5 (some .int) 5 0 0) Post 117 [some (.ref o), some (.int (nI k)), some (.int (nI 1728)), x3, x4] [] (mv M o S') 0 0) :
    ∀ c, c ≤ 1728 → ∀ S' x3 x4, Kp [54] S0 S' → CT S' R (k + 1) → (∀ c', c' < c → (S'.1 54) (1728 * k + c') = nI (cstF R (R.2.1 - k) c')) → (GoR E yX3_serve cX3_serve 5 (some .int) 5 0 0) Post 44 [some (.ref o), some (.int (nI k)), some (.int (nI c)), x3, x4] [] (mv M o S') 0 0 := by
  have h12 := hO.2.1
  refine up_ind _ (fun c hc ih S' x3 x4 hK hC hR => ?_)
  refine g_ild2 (q := 45) dX3_serve_44 rfl ?_
  refine g_sipush (q := 48) dX3_serve_45 ks_1728 rfl ?_
  refine g_icN_ge (t := 117) (q := 51) dX3_serve_48 rfl rfl (by omega) (by omega) (fun c_48 => ?_) (fun c_48 => ?_)
  · obtain rfl : c = 1728 := by omega
    refine kk S' _ _ hK (fun k' h1 h2 c' hc' => ?_)
    by_cases e : k' = k
    · rw [e]; exact hR c' hc'
    · exact hC k' (by omega) h2 c' hc'
  · refine g_ldcw (v := 1000000) (q := 54) q2170 dX3_serve_51 rfl ?_
    refine g_top (show (1000000 : Int32) = nI 1000000 from rfl) ?_
    refine g_ist3 (q := 55) dX3_serve_54 rfl rfl ?_
    refine g_iconst (q := 56) dX3_serve_55 ki_0 rfl ?_
    refine g_ist4 (q := 58) dX3_serve_56 rfl rfl ?_
    refine lp_srvR hk0 hO (hQ.kp hK ⟨rfl, rfl, rfl, rfl⟩) hk (by omega) hC ?_ 0 (Nat.zero_le _)
    refine g_ald0 (q := 99) dX3_serve_98 rfl ?_
    refine m_getA (j := 28) (q := 102) hk0 fs_X3_95 dX3_serve_99 rfl (fun _ _ => rfl) ⟨rfl, by decide, by decide⟩ ?_
    refine g_sipush (q := 105) dX3_serve_102 ks_1728 rfl ?_
    refine g_ild1 (q := 106) dX3_serve_105 rfl ?_
    refine g_imulN (q := 107) dX3_serve_106 rfl ?_
    refine g_ild2 (q := 108) dX3_serve_107 rfl ?_
    refine g_iaddN (q := 109) dX3_serve_108 rfl ?_
    refine g_ild3 (q := 110) dX3_serve_109 rfl ?_
    refine m_iast (n := ((1728 * k) + c)) (q := 111) hk0 dX3_serve_110 rfl ma_54 rfl (by omega) ?_
    refine g_inc2 (w := nI (c + 1)) (q := 114) dX3_serve_111 rfl (nI_1 _) rfl ?_
    refine g_goto (t := 44) dX3_serve_114 rfl ?_
    refine ih (by omega) _ _ _ (hK.s1 rfl) (fun k' h1 h2 c' hc' => ?_) (fun c' hc' => ?_)
    · rw [ms1_nj _ _ _ (by omega)]; exact hC k' h1 h2 c' hc'
    · by_cases e : c' = c
      · rw [e, ms1_at, cst_k hk]
      · rw [ms1_nj _ _ _ (by omega)]; exact hR c' (by omega)
theorem lp_srvK (hk0 : Sk E M o) (hO : ROK R) (hQ : RLaid S0 R) {Post : Option Value → zM → Prop} (kk : ∀ S' x2 x3 x4, Kp [54] S0 S' → CT S' R 0 → (GoR E yX3_serve cX3_serve 5 (some .int) 5 0 0) Post 123 [some (.ref o), some (.int (nI 0 - nI 1)), x2, x3, x4] [] (mv M o S') 0 0) :
    ∀ k, k ≤ R.2.1 → ∀ S' x2 x3 x4, Kp [54] S0 S' → CT S' R k → (GoR E yX3_serve cX3_serve 5 (some .int) 5 0 0) Post 38 [some (.ref o), some (.int (nI k - nI 1)), x2, x3, x4] [] (mv M o S') 0 0 := by
  have h12 := hO.2.1
  refine dn_ind (fun k ih hk S' x2 x3 x4 hK hC => ?_)
  cases k with
  | zero =>
    refine g_ild1 (q := 39) dX3_serve_38 rfl ?_
    refine g_if_lt (t := 123) (q := 42) dX3_serve_39 rfl rfl (fun c_39 => ?_) (fun c_39 => ?_)
    · exact kk S' _ _ _ hK hC
    · exact absurd ((hg_lt (hi := 0) (lo := 0) (by omega) (by omega)).mpr (Nat.le_refl 0)) c_39
  | succ k =>
    rw [show nI (k + 1) - nI 1 = nI k from nI_pred k]
    refine g_ild1 (q := 39) dX3_serve_38 rfl ?_
    refine g_if_lt (t := 123) (q := 42) dX3_serve_39 rfl rfl (fun c_39 => ?_) (fun c_39 => ?_)
    · exact absurd c_39 (nI_pos (by omega))
    · refine g_iconst (q := 43) dX3_serve_42 ki_0 rfl ?_
      refine g_ist2 (q := 44) dX3_serve_43 rfl rfl ?_
      refine lp_srvC (S0 := S0) hk0 hO hQ (by omega) (fun S2 x3 x4 hK2 hC2 => ?_) 0 (Nat.zero_le _) S' _ _ hK hC (fun c' h => by omega)
      refine g_inc1 (w := nI k - nI 1) (q := 120) dX3_serve_117 rfl (dec1 _) rfl ?_
      refine g_goto (t := 38) dX3_serve_120 rfl ?_
      exact ih k rfl (by omega) S2 _ _ _ hK2 hC2
end MServe

