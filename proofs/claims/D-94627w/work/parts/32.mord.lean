set_option maxRecDepth 100000
theorem dec1 (x : Int32) : x + Int32.ofInt (-1) = x - nI 1 := by rw [Int32.sub_eq_add_neg]; rfl
/-- figures of ten, from the right -/
def dg (N j : Nat) : Nat := N / 10 ^ j % 10
def isOrd (ns N : Nat) : Prop := N / 10 ^ ns = 0 ∧ ∀ b, b < ns → ∃ j, j < ns ∧ dg N j = b
/-- the order's shelves from the left -/
def og (ns N i : Nat) : Nat := dg N (ns - 1 - i)
theorem isOrd.lt {ns N : Nat} (h : isOrd ns N) {j : Nat} (hj : j < ns) : dg N j < ns := by
  have hc : ∀ b : Nat, ∃ j, b < ns → j < ns ∧ dg N j = b := fun b => by
    by_cases hb : b < ns
    · obtain ⟨j, h1⟩ := h.2 b hb
      exact ⟨j, fun _ => h1⟩
    · exact ⟨0, fun e => absurd e hb⟩
  let f : Nat → Nat := fun b => Classical.choose (hc b)
  have hf : ∀ b, b < ns → f b < ns ∧ dg N (f b) = b := fun b hb => Classical.choose_spec (hc b) hb
  obtain ⟨b, hb, e⟩ := fb_onto (f := f) (fun b hb => (hf b hb).1) (fun a b hab hb e => by
    have h1 := (hf a (by omega)).2
    have h2 := (hf b hb).2
    rw [e, h2] at h1
    omega) hj
  rw [← e, (hf b hb).2]
  exact hb
theorem isOrd.og {ns N : Nat} (h : isOrd ns N) {i : Nat} (hi : i < ns) : og ns N i < ns := h.lt (by omega)
theorem bt_full {ns : Nat} {x : Int32} {P : Nat → Prop} (hns : ns ≤ 4) (hx : ∀ b, b < 32 → (bt x b = true ↔ P b ∧ b < ns)) : x = nI 1 <<< (nI ns &&& 31) - nI 1 ↔ ∀ b, b < ns → P b := by
  have e : nI 1 <<< (nI ns &&& 31) - nI 1 = nI (2 ^ ns - 1) := by rw [shl1 _ (by omega)]; exact pk_sub (Nat.one_le_two_pow)
  rw [e]
  constructor
  · intro h b hb
    have h1 := (hx b (by omega))
    rw [h, bt_nI b (by omega), Nat.testBit_two_pow_sub_one, decide_eq_true_eq] at h1
    exact (h1.mp hb).1
  · intro h
    refine b_ext (fun b hb => ?_)
    rw [bt_nI b hb, Nat.testBit_two_pow_sub_one, Bool.eq_iff_iff, hx b hb, decide_eq_true_eq]
    exact ⟨fun h => h.2, fun hb => ⟨h b hb, hb⟩⟩
/-- twice what is felt -/
def fA (L : LV) (q : Nat → Nat) (i : Nat) : Nat := fb_sm (fun j => vP L (q j)) i
def fS (L : LV) (q : Nat → Nat) (i : Nat) : Nat := fb_sm (fun j => vT L (q j) * (2 * fA L q j + vP L (q j) + 1)) i
def fW (L : LV) : Nat := fb_sm (vT L) (vN L)
def meA (L : LV) (N : Nat) (y : Int32) : Int32 := if y = 0 then nI (fS L (og (vN L) N) (vN L) / Nat.gcd (fS L (og (vN L) N) (vN L)) (2 * fW L)) else nI (2 * fW L / Nat.gcd (fS L (og (vN L) N) (vN L)) (2 * fW L))
noncomputable def q_mean (n : Nat) (Ls : Nat → LV) (l ord y : Int32) : Int32 := if ixo l n ∧ ¬ fW (Ls l.toNatClampNeg) = 0 ∧ ¬ ord < 0 ∧ dB (isOrd (vN (Ls l.toNatClampNeg)) ord.toNatClampNeg) = true then meA (Ls l.toNatClampNeg) ord.toNatClampNeg y else -1
theorem fW_le {L : LV} (hL : LOK L) : fW L ≤ 36 := Nat.le_trans (fb_sm_bound (c := 9) (fun s _ => hL.t9 s)) (by have := hL.2.2.2.1; omega)
theorem fA_le {L : LV} (hL : LOK L) (q : Nat → Nat) {i : Nat} (hi : i ≤ 4) : fA L q i ≤ 48 := Nat.le_trans (fb_sm_bound (c := 12) (fun s _ => hL.p12 (q s))) (by omega)
theorem fS_le {L : LV} (hL : LOK L) (q : Nat → Nat) {i : Nat} (hi : i ≤ 4) : fS L q i ≤ 4000 := by
  refine Nat.le_trans (fb_sm_bound (c := 1000) (fun s hs => ?_)) (by omega)
  have h1 := hL.t9 (q s)
  have h2 := hL.p12 (q s)
  have h3 := fA_le hL q (i := s) (by omega)
  exact Nat.le_trans (Nat.mul_le_mul h1 (show 2 * fA L q s + vP L (q s) + 1 ≤ 109 by omega)) (by decide)
section MOrd
variable {E : zE} {M : zM} {o : Nat} {S S0 : zS} {n : Nat} {Ls : Nat → LV} {L : LV}
/-- of a number below zero: none -/
theorem lp_isOrdN (hk0 : Sk E M o) (hn : (S0.1 24 0) = nI (vN L)) (h4 : vN L ≤ 4) {num : Int32} (hneg : num < 0) {Post : Option Value → zM → Prop} (hpost : ∀ S', Kp [45] S0 S' → Post (some (.int (nI 0))) (mv M o S')) :
    ∀ k, k ≤ vN L → ∀ (rest seen : Int32) (S' : zS), Kp [45] S0 S' → (GoR E yX3_isOrder cX3_isOrder 5 (some .boolean) 1 0 0) Post 12 [some (.ref o), some (.int num), some (.int rest), some (.int seen), some (.int (nI k - nI 1))] [] (mv M o S') 0 0 := by
  refine dn_ind (fun k ih hk rest seen S' hK => ?_)
  cases k with
  | zero =>
    refine g_ild4 (q := 14) dX3_isOrder_12 rfl ?_
    refine g_if_lt (t := 69) (q := 17) dX3_isOrder_14 rfl rfl (fun c_14 => ?_) (fun c_14 => ?_)
    · refine g_ild1 (q := 70) dX3_isOrder_69 rfl ?_
      refine g_if_lt (t := 93) (q := 73) dX3_isOrder_70 rfl rfl (fun c_70 => ?_) (fun c_70 => ?_)
      · refine g_iconst (q := 94) dX3_isOrder_93 ki_0 rfl ?_
        refine g_zret dX3_isOrder_94 rfl (Nat.zero_le _) (Nat.zero_le _) ?_
        exact hpost S' hK
      · exact absurd hneg c_70
    · exact absurd ((hg_lt (hi := 0) (lo := 0) (by omega) (by omega)).mpr (Nat.le_refl 0)) c_14
  | succ k =>
    rw [show nI (k + 1) - nI 1 = nI k from nI_pred k]
    have hK' := fun v => (hK.s1 (k := 45) (j := k) (v := v) rfl)
    refine g_ild4 (q := 14) dX3_isOrder_12 rfl ?_
    refine g_if_lt (t := 69) (q := 17) dX3_isOrder_14 rfl rfl (fun c_14 => ?_) (fun c_14 => ?_)
    · exact absurd c_14 (nI_pos (by omega))
    · refine g_ald0 (q := 18) dX3_isOrder_17 rfl ?_
      refine m_getA (j := 25) (q := 21) hk0 fs_X3_86 dX3_isOrder_18 rfl (fun _ _ => rfl) ⟨rfl, by decide, by decide⟩ ?_
      refine g_ild4 (q := 23) dX3_isOrder_21 rfl ?_
      refine g_ild2 (q := 24) dX3_isOrder_23 rfl ?_
      refine g_bipush (q := 26) dX3_isOrder_24 kb_10 rfl ?_
      refine g_irem (q := 27) dX3_isOrder_26 (by decide) rfl ?_
      refine m_iast (n := k) (q := 28) hk0 dX3_isOrder_27 rfl ma_45 rfl (by omega) ?_
      refine g_ild2 (q := 29) dX3_isOrder_28 rfl ?_
      refine g_bipush (q := 31) dX3_isOrder_29 kb_10 rfl ?_
      refine g_idiv (q := 32) dX3_isOrder_31 (by decide) rfl ?_
      refine g_ist2 (q := 33) dX3_isOrder_32 rfl rfl ?_
      refine g_ild3 (q := 34) dX3_isOrder_33 rfl ?_
      refine g_ald0 (q := 35) dX3_isOrder_34 rfl ?_
      refine m_getA (j := 25) (q := 38) hk0 fs_X3_86 dX3_isOrder_35 rfl (fun _ _ => rfl) ⟨rfl, by decide, by decide⟩ ?_
      refine g_ild4 (q := 40) dX3_isOrder_38 rfl ?_
      refine m_iald (n := k) (q := 41) hk0 dX3_isOrder_40 rfl ma_45 rfl (by omega) ?_
      refine g_ald0 (q := 42) dX3_isOrder_41 rfl ?_
      refine m_getI (q := 45) hk0 fs_X3_243 dX3_isOrder_42 rfl rfl rfl ?_
      refine g_top (((hK' _) 24 rfl).1 ▸ hn) ?_
      refine g_ic_ge (t := 60) (q := 48) dX3_isOrder_45 rfl rfl (fun c_45 => ?_) (fun c_45 => ?_)
      · refine g_iconst (q := 61) dX3_isOrder_60 ki_0 rfl ?_
        refine g_ior (q := 62) dX3_isOrder_61 rfl ?_
        refine g_ist3 (q := 63) dX3_isOrder_62 rfl rfl ?_
        refine g_inc4 (w := nI k - nI 1) (q := 66) dX3_isOrder_63 rfl (dec1 _) rfl ?_
        refine g_goto (t := 12) dX3_isOrder_66 rfl ?_
        exact ih k rfl (by omega) _ _ _ (hK' _)
      · refine g_iconst (q := 49) dX3_isOrder_48 ki_1 rfl ?_
        refine g_ald0 (q := 50) dX3_isOrder_49 rfl ?_
        refine m_getA (j := 25) (q := 53) hk0 fs_X3_86 dX3_isOrder_50 rfl (fun _ _ => rfl) ⟨rfl, by decide, by decide⟩ ?_
        refine g_ild4 (q := 55) dX3_isOrder_53 rfl ?_
        refine m_iald (n := k) (q := 56) hk0 dX3_isOrder_55 rfl ma_45 rfl (by omega) ?_
        refine g_ishl (q := 57) dX3_isOrder_56 rfl ?_
        refine g_goto (t := 61) dX3_isOrder_57 rfl ?_
        refine g_ior (q := 62) dX3_isOrder_61 rfl ?_
        refine g_ist3 (q := 63) dX3_isOrder_62 rfl rfl ?_
        refine g_inc4 (w := nI k - nI 1) (q := 66) dX3_isOrder_63 rfl (dec1 _) rfl ?_
        refine g_goto (t := 12) dX3_isOrder_66 rfl ?_
        exact ih k rfl (by omega) _ _ _ (hK' _)
theorem lp_isOrd (hk0 : Sk E M o) (hn : (S0.1 24 0) = nI (vN L)) (h4 : vN L ≤ 4) {N : Nat} (hN : N < 2 ^ 31) {Post : Option Value → zM → Prop} (hpost : ∀ S', Kp [45] S0 S' → (∀ i, i < vN L → (S'.1 45) i = nI (og (vN L) N i)) → Post (some (.int (bz (dB (isOrd (vN L) N) = true)))) (mv M o S')) :
    ∀ k, k ≤ vN L → ∀ (seen : Int32) (S' : zS), Kp [45] S0 S' → (∀ j, j < vN L - k → (S'.1 45) (vN L - 1 - j) = nI (dg N j)) → (∀ b, b < 32 → (bt seen b = true ↔ (∃ j, j < vN L - k ∧ dg N j = b) ∧ b < vN L)) → (GoR E yX3_isOrder cX3_isOrder 5 (some .boolean) 1 0 0) Post 12 [some (.ref o), some (.int (nI N)), some (.int (nI (N / 10 ^ (vN L - k)))), some (.int seen), some (.int (nI k - nI 1))] [] (mv M o S') 0 0 := by
  refine dn_ind (fun k ih hk seen S' hK hO hB => ?_)
  have hdiv : N / 10 ^ (vN L - k) ≤ N := Nat.div_le_self _ _
  cases k with
  | zero =>
    rw [Nat.sub_zero] at *
    have hO2 : ∀ i, i < vN L → (S'.1 45) i = nI (og (vN L) N i) := fun i hi => by
      have := hO (vN L - 1 - i) (by omega)
      rw [show vN L - 1 - (vN L - 1 - i) = i by omega] at this
      exact this
    have hs : (S'.1 24 0) = nI (vN L) := by rw [(hK 24 rfl).1]; exact hn
    refine g_ild4 (q := 14) dX3_isOrder_12 rfl ?_
    refine g_if_lt (t := 69) (q := 17) dX3_isOrder_14 rfl rfl (fun c_14 => ?_) (fun c_14 => ?_)
    · refine g_ild1 (q := 70) dX3_isOrder_69 rfl ?_
      refine g_if_lt (t := 93) (q := 73) dX3_isOrder_70 rfl rfl (fun c_70 => ?_) (fun c_70 => ?_)
      · exact absurd c_70 (nI_pos hN)
      · refine g_ild2 (q := 74) dX3_isOrder_73 rfl ?_
        refine g_if_ne (t := 93) (q := 77) dX3_isOrder_74 rfl rfl (fun c_74 => ?_) (fun c_74 => ?_)
        · refine g_iconst (q := 94) dX3_isOrder_93 ki_0 rfl ?_
          refine g_zret dX3_isOrder_94 rfl (Nat.zero_le _) (Nat.zero_le _) ?_
          rw [show nI 0 = bz (dB (isOrd (vN L) N) = true) from bz_z (fun h => c_74 (by rw [(dB_iff.mp h).1]; rfl))]
          exact hpost S' hK hO2
        · refine g_ild3 (q := 78) dX3_isOrder_77 rfl ?_
          refine g_iconst (q := 79) dX3_isOrder_78 ki_1 rfl ?_
          refine g_ald0 (q := 80) dX3_isOrder_79 rfl ?_
          refine m_getI (q := 83) hk0 fs_X3_243 dX3_isOrder_80 rfl rfl rfl ?_
          refine g_top hs ?_
          refine g_ishl (q := 84) dX3_isOrder_83 rfl ?_
          refine g_iconst (q := 85) dX3_isOrder_84 ki_1 rfl ?_
          refine g_isub (q := 86) dX3_isOrder_85 rfl ?_
          refine g_ic_ne (t := 93) (q := 89) dX3_isOrder_86 rfl rfl (fun c_86 => ?_) (fun c_86 => ?_)
          · refine g_iconst (q := 94) dX3_isOrder_93 ki_0 rfl ?_
            refine g_zret dX3_isOrder_94 rfl (Nat.zero_le _) (Nat.zero_le _) ?_
            rw [show nI 0 = bz (dB (isOrd (vN L) N) = true) from bz_z (fun h => c_86 ((bt_full h4 hB).mpr (dB_iff.mp h).2))]
            exact hpost S' hK hO2
          · refine g_iconst (q := 90) dX3_isOrder_89 ki_1 rfl ?_
            refine g_goto (t := 94) dX3_isOrder_90 rfl ?_
            refine g_zret dX3_isOrder_94 rfl (Nat.zero_le _) (Nat.zero_le _) ?_
            rw [show nI 1 = bz (dB (isOrd (vN L) N) = true) from bz_1 (dB_t ⟨(nI_eq (by omega) (by omega)).mp c_74, (bt_full h4 hB).mp c_86⟩)]
            exact hpost S' hK hO2
    · exact absurd ((hg_lt (hi := 0) (lo := 0) (by omega) (by omega)).mpr (Nat.le_refl 0)) c_14
  | succ k =>
    rw [show nI (k + 1) - nI 1 = nI k from nI_pred k]
    have hK' := fun v => (hK.s1 (k := 45) (j := k) (v := v) rfl)
    have e1 : vN L - k = vN L - (k + 1) + 1 := by omega
    have e2 : N / 10 ^ (vN L - k) = N / 10 ^ (vN L - (k + 1)) / 10 := by rw [e1, Nat.pow_succ, Nat.div_div_eq_div_mul]
    have hd : dg N (vN L - (k + 1)) < 10 := Nat.mod_lt _ (by decide)
    have hO3 : ∀ j, j < vN L - k → (ms1 S' 45 k (nI (dg N (vN L - (k + 1))))).1 45 (vN L - 1 - j) = nI (dg N j) := fun j hj => by
      by_cases e : j = vN L - (k + 1)
      · rw [e, show vN L - 1 - (vN L - (k + 1)) = k by omega, ms1_at]
      · rw [ms1_nj _ _ _ (by omega)]; exact hO j (by omega)
    refine g_ild4 (q := 14) dX3_isOrder_12 rfl ?_
    refine g_if_lt (t := 69) (q := 17) dX3_isOrder_14 rfl rfl (fun c_14 => ?_) (fun c_14 => ?_)
    · exact absurd c_14 (nI_pos (by omega))
    · refine g_ald0 (q := 18) dX3_isOrder_17 rfl ?_
      refine m_getA (j := 25) (q := 21) hk0 fs_X3_86 dX3_isOrder_18 rfl (fun _ _ => rfl) ⟨rfl, by decide, by decide⟩ ?_
      refine g_ild4 (q := 23) dX3_isOrder_21 rfl ?_
      refine g_ild2 (q := 24) dX3_isOrder_23 rfl ?_
      refine g_bipush (q := 26) dX3_isOrder_24 kb_10 rfl ?_
      refine g_iremN (q := 27) dX3_isOrder_26 (by first | omega | decide) (by first | omega | decide) (by first | omega | decide) rfl ?_
      refine m_iast (n := k) (q := 28) hk0 dX3_isOrder_27 rfl ma_45 rfl (by omega) ?_
      refine g_ild2 (q := 29) dX3_isOrder_28 rfl ?_
      refine g_bipush (q := 31) dX3_isOrder_29 kb_10 rfl ?_
      refine g_idivN (q := 32) dX3_isOrder_31 (by first | omega | decide) (by first | omega | decide) (by first | omega | decide) rfl ?_
      refine g_ist2 (q := 33) dX3_isOrder_32 rfl rfl ?_
      refine g_ild3 (q := 34) dX3_isOrder_33 rfl ?_
      refine g_ald0 (q := 35) dX3_isOrder_34 rfl ?_
      refine m_getA (j := 25) (q := 38) hk0 fs_X3_86 dX3_isOrder_35 rfl (fun _ _ => rfl) ⟨rfl, by decide, by decide⟩ ?_
      refine g_ild4 (q := 40) dX3_isOrder_38 rfl ?_
      refine m_iald (n := k) (q := 41) hk0 dX3_isOrder_40 rfl ma_45 rfl (by omega) ?_
      refine g_top (ms1_at S' 45 k _) ?_
      refine g_ald0 (q := 42) dX3_isOrder_41 rfl ?_
      refine m_getI (q := 45) hk0 fs_X3_243 dX3_isOrder_42 rfl rfl rfl ?_
      refine g_top (((hK' _) 24 rfl).1 ▸ hn) ?_
      refine g_icN_ge (t := 60) (q := 48) dX3_isOrder_45 rfl rfl (by omega) (by omega) (fun c_45 => ?_) (fun c_45 => ?_)
      · refine g_iconst (q := 61) dX3_isOrder_60 ki_0 rfl ?_
        refine g_ior (q := 62) dX3_isOrder_61 rfl ?_
        refine g_ist3 (q := 63) dX3_isOrder_62 rfl rfl ?_
        refine g_inc4 (w := nI k - nI 1) (q := 66) dX3_isOrder_63 rfl (dec1 _) rfl ?_
        refine g_goto (t := 12) dX3_isOrder_66 rfl ?_
        rw [← e2]
        refine ih k rfl (by omega) _ _ (hK' _) hO3 (fun b hb => ?_)
        rw [b_or, Bool.or_eq_true, hB b hb, show nI 0 = (0 : Int32) from rfl, b_0]
        constructor
        · rintro (⟨⟨j, h1, h2⟩, h3⟩ | h)
          · exact ⟨⟨j, by omega, h2⟩, h3⟩
          · cases h
        · rintro ⟨⟨j, h1, h2⟩, h3⟩
          by_cases e : j = vN L - (k + 1)
          · rw [e] at h2; unfold dg at h2; omega
          · exact Or.inl ⟨⟨j, by omega, h2⟩, h3⟩
      · refine g_iconst (q := 49) dX3_isOrder_48 ki_1 rfl ?_
        refine g_ald0 (q := 50) dX3_isOrder_49 rfl ?_
        refine m_getA (j := 25) (q := 53) hk0 fs_X3_86 dX3_isOrder_50 rfl (fun _ _ => rfl) ⟨rfl, by decide, by decide⟩ ?_
        refine g_ild4 (q := 55) dX3_isOrder_53 rfl ?_
        refine m_iald (n := k) (q := 56) hk0 dX3_isOrder_55 rfl ma_45 rfl (by omega) ?_
        refine g_top (ms1_at S' 45 k _) ?_
        refine g_ishl (q := 57) dX3_isOrder_56 rfl ?_
        refine g_goto (t := 61) dX3_isOrder_57 rfl ?_
        refine g_ior (q := 62) dX3_isOrder_61 rfl ?_
        refine g_ist3 (q := 63) dX3_isOrder_62 rfl rfl ?_
        refine g_inc4 (w := nI k - nI 1) (q := 66) dX3_isOrder_63 rfl (dec1 _) rfl ?_
        refine g_goto (t := 12) dX3_isOrder_66 rfl ?_
        rw [← e2]
        refine ih k rfl (by omega) _ _ (hK' _) hO3 (fun b hb => ?_)
        rw [b_or, Bool.or_eq_true, hB b hb, show nI 1 = (1 : Int32) from rfl, bt_one _ (by omega) hb, decide_eq_true_eq]
        constructor
        · rintro (⟨⟨j, h1, h2⟩, h3⟩ | rfl)
          · exact ⟨⟨j, by omega, h2⟩, h3⟩
          · exact ⟨⟨_, by omega, rfl⟩, c_45⟩
        · rintro ⟨⟨j, h1, h2⟩, h3⟩
          by_cases e : j = vN L - (k + 1)
          · exact Or.inr (by rw [← h2, e]; rfl)
          · exact Or.inl ⟨⟨j, by omega, h2⟩, h3⟩
theorem c_isOrder (hk0 : Sk E M o) (hn : (S.1 24 0) = nI (vN L)) (h4 : vN L ≤ 4) (N : Nat) (hN : N < 2 ^ 31) : (Con E yX3_isOrder cX3_isOrder 5 (some .boolean) 1 0 0) [.ref o, .int (nI N)] (mv M o S) (pI (fun x => mP M o (fun S' => x = bz (dB (isOrd (vN L) N) = true) ∧ Kp [45] S S' ∧ ∀ i, i < vN L → (S'.1 45) i = nI (og (vN L) N i)))) := by
  refine Go.enter [some (.ref o), some (.int (nI N)), none, none, none] rfl (Nat.le_of_ble_eq_true rfl) rfl (Nat.le_of_ble_eq_true rfl) ?_
  refine g_ild1 (q := 1) dX3_isOrder_0 rfl ?_
  refine g_ist2 (q := 2) dX3_isOrder_1 rfl rfl ?_
  refine g_iconst (q := 3) dX3_isOrder_2 ki_0 rfl ?_
  refine g_ist3 (q := 4) dX3_isOrder_3 rfl rfl ?_
  refine g_ald0 (q := 5) dX3_isOrder_4 rfl ?_
  refine m_getI (q := 8) hk0 fs_X3_243 dX3_isOrder_5 rfl rfl rfl ?_
  refine g_top hn ?_
  refine g_iconst (q := 9) dX3_isOrder_8 ki_1 rfl ?_
  refine g_isub (q := 10) dX3_isOrder_9 rfl ?_
  refine g_ist4 (q := 12) dX3_isOrder_10 rfl rfl ?_
  have := lp_isOrd (L := L) (S0 := S) hk0 hn h4 hN (Post := pI (fun x => mP M o (fun S' => x = bz (dB (isOrd (vN L) N) = true) ∧ Kp [45] S S' ∧ ∀ i, i < vN L → (S'.1 45) i = nI (og (vN L) N i)))) (fun S' h1 h2 => ⟨_, rfl, S', rfl, rfl, h1, h2⟩) (vN L) (Nat.le_refl _) (nI 0) S Kp.rf (fun j h => by omega) (fun b hb => ?_)
  · rw [Nat.sub_self, Nat.pow_zero, Nat.div_one] at this
    exact this
  · rw [show nI 0 = (0 : Int32) from rfl, b_0]
    exact ⟨(fun h => by cases h), (fun ⟨⟨j, h, _⟩, _⟩ => by omega)⟩
theorem c_isOrderN (hk0 : Sk E M o) (hn : (S.1 24 0) = nI (vN L)) (h4 : vN L ≤ 4) (num : Int32) (hneg : num < 0) : (Con E yX3_isOrder cX3_isOrder 5 (some .boolean) 1 0 0) [.ref o, .int num] (mv M o S) (pI (fun x => mP M o (fun S' => x = nI 0 ∧ Kp [45] S S'))) := by
  refine Go.enter [some (.ref o), some (.int num), none, none, none] rfl (Nat.le_of_ble_eq_true rfl) rfl (Nat.le_of_ble_eq_true rfl) ?_
  refine g_ild1 (q := 1) dX3_isOrder_0 rfl ?_
  refine g_ist2 (q := 2) dX3_isOrder_1 rfl rfl ?_
  refine g_iconst (q := 3) dX3_isOrder_2 ki_0 rfl ?_
  refine g_ist3 (q := 4) dX3_isOrder_3 rfl rfl ?_
  refine g_ald0 (q := 5) dX3_isOrder_4 rfl ?_
  refine m_getI (q := 8) hk0 fs_X3_243 dX3_isOrder_5 rfl rfl rfl ?_
  refine g_top hn ?_
  refine g_iconst (q := 9) dX3_isOrder_8 ki_1 rfl ?_
  refine g_isub (q := 10) dX3_isOrder_9 rfl ?_
  refine g_ist4 (q := 12) dX3_isOrder_10 rfl rfl ?_
  exact lp_isOrdN (L := L) (S0 := S) hk0 hn h4 hneg (fun S' h1 => ⟨_, rfl, S', rfl, rfl, h1⟩) (vN L) (Nat.le_refl _) _ _ S Kp.rf
theorem lp_felt (hk0 : Sk E M o) (hH : Hand S L) (hL : LOK L) {q : Nat → Nat} (hq : ∀ i, i < vN L → q i < vN L) (hO : ∀ i, i < vN L → (S.1 45) i = nI (q i)) {Post : Option Value → zM → Prop} (hpost : Post (some (.int (nI (fS L q (vN L))))) (mv M o S)) :
    ∀ i, i ≤ vN L → ∀ x4, (GoR E yX3_feltBy cX3_feltBy 5 (some .int) 1 0 0) Post 6 [some (.ref o), some (.int (nI (fS L q i))), some (.int (nI (fA L q i))), some (.int (nI i)), x4] [] (mv M o S) 0 0 := by
  have h4 := hL.2.2.2.1
  refine up_ind _ (fun i hi ih x4 => ?_)
  have hqi := hq i
  refine g_ild3 (q := 7) dX3_feltBy_6 rfl ?_
  refine g_ald0 (q := 8) dX3_feltBy_7 rfl ?_
  refine m_getI (q := 11) hk0 fs_X3_243 dX3_feltBy_8 rfl rfl rfl ?_
  refine g_top hH.2.2.2.1 ?_
  refine g_icN_ge (t := 62) (q := 14) dX3_feltBy_11 rfl rfl (by omega) (by omega) (fun c_11 => ?_) (fun c_11 => ?_)
  · obtain rfl : i = vN L := by omega
    refine g_ild1 (q := 63) dX3_feltBy_62 rfl ?_
    exact g_iret dX3_feltBy_63 (Nat.zero_le _) (Nat.zero_le _) hpost
  · refine g_ald0 (q := 15) dX3_feltBy_14 rfl ?_
    refine m_getA (j := 25) (q := 18) hk0 fs_X3_86 dX3_feltBy_15 rfl (fun _ _ => rfl) ⟨rfl, by decide, by decide⟩ ?_
    refine g_ild3 (q := 19) dX3_feltBy_18 rfl ?_
    refine m_iald (n := i) (q := 20) hk0 dX3_feltBy_19 rfl ma_45 rfl (by omega) ?_
    refine g_top (hO i (by omega)) ?_
    refine g_ist4 (q := 22) dX3_feltBy_20 rfl rfl ?_
    refine g_ild1 (q := 23) dX3_feltBy_22 rfl ?_
    refine g_ald0 (q := 24) dX3_feltBy_23 rfl ?_
    refine m_getA (j := 12) (q := 27) hk0 fs_X3_44 dX3_feltBy_24 rfl (fun _ _ => rfl) ⟨rfl, by decide, by decide⟩ ?_
    refine g_ild4 (q := 29) dX3_feltBy_27 rfl ?_
    refine m_iald (n := (q i)) (q := 30) hk0 dX3_feltBy_29 rfl ma_26 rfl (by omega) ?_
    refine g_top (hH.2.2.2.2.2.1 (q i) (by omega)) ?_
    refine g_iconst (q := 31) dX3_feltBy_30 ki_2 rfl ?_
    refine g_ild2 (q := 32) dX3_feltBy_31 rfl ?_
    refine g_imulN (q := 33) dX3_feltBy_32 rfl ?_
    refine g_ald0 (q := 34) dX3_feltBy_33 rfl ?_
    refine m_getA (j := 11) (q := 37) hk0 fs_X3_41 dX3_feltBy_34 rfl (fun _ _ => rfl) ⟨rfl, by decide, by decide⟩ ?_
    refine g_ild4 (q := 39) dX3_feltBy_37 rfl ?_
    refine m_iald (n := (q i)) (q := 40) hk0 dX3_feltBy_39 rfl ma_25 rfl (by omega) ?_
    refine g_top (hH.2.2.2.2.1 (q i) (by omega)) ?_
    refine g_iaddN (q := 41) dX3_feltBy_40 rfl ?_
    refine g_iconst (q := 42) dX3_feltBy_41 ki_1 rfl ?_
    refine g_iaddN (q := 43) dX3_feltBy_42 rfl ?_
    refine g_imulN (q := 44) dX3_feltBy_43 rfl ?_
    refine g_iaddN (q := 45) dX3_feltBy_44 rfl ?_
    refine g_ist1 (q := 46) dX3_feltBy_45 rfl rfl ?_
    refine g_ild2 (q := 47) dX3_feltBy_46 rfl ?_
    refine g_ald0 (q := 48) dX3_feltBy_47 rfl ?_
    refine m_getA (j := 11) (q := 51) hk0 fs_X3_41 dX3_feltBy_48 rfl (fun _ _ => rfl) ⟨rfl, by decide, by decide⟩ ?_
    refine g_ild4 (q := 53) dX3_feltBy_51 rfl ?_
    refine m_iald (n := (q i)) (q := 54) hk0 dX3_feltBy_53 rfl ma_25 rfl (by omega) ?_
    refine g_top (hH.2.2.2.2.1 (q i) (by omega)) ?_
    refine g_iaddN (q := 55) dX3_feltBy_54 rfl ?_
    refine g_ist2 (q := 56) dX3_feltBy_55 rfl rfl ?_
    refine g_inc3 (w := nI (i + 1)) (q := 59) dX3_feltBy_56 rfl (nI_1 _) rfl ?_
    refine g_goto (t := 6) dX3_feltBy_59 rfl ?_
    exact ih (by omega) _
theorem c_feltBy (hk0 : Sk E M o) (hH : Hand S L) (hL : LOK L) {q : Nat → Nat} (hq : ∀ i, i < vN L → q i < vN L) (hO : ∀ i, i < vN L → (S.1 45) i = nI (q i)) : (Con E yX3_feltBy cX3_feltBy 5 (some .int) 1 0 0) [.ref o] (mv M o S) (pI (fun x M' => x = nI (fS L q (vN L)) ∧ M' = mv M o S)) := by
  refine Go.enter [some (.ref o), none, none, none, none] rfl (Nat.le_of_ble_eq_true rfl) rfl (Nat.le_of_ble_eq_true rfl) ?_
  refine g_iconst (q := 1) dX3_feltBy_0 ki_0 rfl ?_
  refine g_ist1 (q := 2) dX3_feltBy_1 rfl rfl ?_
  refine g_iconst (q := 3) dX3_feltBy_2 ki_0 rfl ?_
  refine g_ist2 (q := 4) dX3_feltBy_3 rfl rfl ?_
  refine g_iconst (q := 5) dX3_feltBy_4 ki_0 rfl ?_
  refine g_ist3 (q := 6) dX3_feltBy_5 rfl rfl ?_
  exact lp_felt hk0 hH hL hq hO ⟨_, rfl, rfl, rfl⟩ 0 (Nat.zero_le _) _
theorem lp_common {a0 b0 : Int32} {Post : Option Value → zM → Prop} : ∀ y x : Nat, x < 2 ^ 31 → y < 2 ^ 31 → Post (some (.int (nI (Nat.gcd x y)))) M → ∀ x4, (GoR E yX3_common cX3_common 5 (some .int) 1 0 0) Post 4 [some (.int a0), some (.int b0), some (.int (nI x)), some (.int (nI y)), x4] [] M 0 0 := by
  refine ms_ind (fun y => y) (fun y ih x hx hy hpost x4 => ?_)
  have hmod : 0 < y → x % y < y := fun h => Nat.mod_lt _ h
  refine g_ild3 (q := 5) dX3_common_4 rfl ?_
  refine g_if_eq (t := 21) (q := 8) dX3_common_5 rfl rfl (fun c_5 => ?_) (fun c_5 => ?_)
  · have hy0 : y = 0 := (nI_eq (by omega) (by omega)).mp c_5
    subst hy0
    refine g_ild2 (q := 22) dX3_common_21 rfl ?_
    rw [Nat.gcd_zero_right] at hpost
    exact g_iret dX3_common_22 (Nat.zero_le _) (Nat.zero_le _) hpost
  · have hy0 : 0 < y := Nat.pos_of_ne_zero (fun e => c_5 (by rw [e]; rfl))
    have hm := hmod hy0
    refine g_ild2 (q := 9) dX3_common_8 rfl ?_
    refine g_ild3 (q := 10) dX3_common_9 rfl ?_
    refine g_iremN (q := 11) dX3_common_10 (by omega) (by omega) (by omega) rfl ?_
    refine g_ist4 (q := 13) dX3_common_11 rfl rfl ?_
    refine g_ild3 (q := 14) dX3_common_13 rfl ?_
    refine g_ist2 (q := 15) dX3_common_14 rfl rfl ?_
    refine g_ild4 (q := 17) dX3_common_15 rfl ?_
    refine g_ist3 (q := 18) dX3_common_17 rfl rfl ?_
    refine g_goto (t := 4) dX3_common_18 rfl ?_
    refine ih (x % y) hm y hy (by omega) ?_ _
    rw [Nat.gcd_comm, ← Nat.gcd_rec, Nat.gcd_comm]
    exact hpost
theorem c_common (E : zE) (M : zM) (a b : Nat) (ha : a < 2 ^ 31) (hb : b < 2 ^ 31) : (Con E yX3_common cX3_common 5 (some .int) 1 0 0) [.int (nI a), .int (nI b)] M (pI (fun x M' => x = nI (Nat.gcd a b) ∧ M' = M)) := by
  refine Go.enter [some (.int (nI a)), some (.int (nI b)), none, none, none] rfl (Nat.le_of_ble_eq_true rfl) rfl (Nat.le_of_ble_eq_true rfl) ?_
  refine g_ild0 (q := 1) dX3_common_0 rfl ?_
  refine g_ist2 (q := 2) dX3_common_1 rfl rfl ?_
  refine g_ild1 (q := 3) dX3_common_2 rfl ?_
  refine g_ist3 (q := 4) dX3_common_3 rfl rfl ?_
  exact lp_common b a ha hb ⟨_, rfl, rfl, rfl⟩ _
theorem Hand.ord {S' : zS} (h : Hand S L) (hK : Kp [45] S S') : Hand S' L := by
  unfold Hand at *
  rw [(hK 21 rfl).1, (hK 22 rfl).1, (hK 23 rfl).1, (hK 24 rfl).1, (hK 25 rfl).1, (hK 26 rfl).1, (hK 27 rfl).1]
  exact h
theorem ord_scr : ∀ k, ([45] : List Nat).contains k = true → scr.contains k = true := by
  intro k h
  simp only [List.contains_cons, List.contains_nil, Bool.or_false, Bool.or_eq_true, beq_iff_eq] at h ⊢
  omega
end MOrd

