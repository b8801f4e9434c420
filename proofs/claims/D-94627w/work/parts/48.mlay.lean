set_option maxRecDepth 100000
abbrev lks : List Nat := [21, 22, 23, 24, 25, 26, 27, 28, 46, 47, 48, 49, 50, 51, 52, 53]
theorem lks_of (ks : List Nat) (h : ks.all (fun k => lks.contains k) = true) : ∀ k, ks.contains k = true → lks.contains k = true := fun k hk => List.all_eq_true.mp h k (List.contains_iff_mem.mp hk)
/-- the course after so many deeds of the book -/
noncomputable def stC (n : Nat) (Ls : Nat → LV) (nb : Nat) (Bs : Nat → BV) (l d k : Int32) : Option CV :=
  if ixo l n then (if d = -1 then (if k = 0 then some (cst0 (Ls l.toNatClampNeg)) else none)
    else if ixo d nb ∧ (nI 0 ≤ k ∧ k ≤ nI (Bs d.toNatClampNeg).1) ∧ (runC (Bs d.toNatClampNeg) (cst0 (Ls l.toNatClampNeg)) k.toNatClampNeg).1 = k.toNatClampNeg then some (runC (Bs d.toNatClampNeg) (cst0 (Ls l.toNatClampNeg)) k.toNatClampNeg).2 else none)
  else none
theorem runC_le (B : BV) (C : CV) : ∀ k, (runC B C k).1 ≤ k
  | 0 => Nat.le_refl _
  | k + 1 => by
    have ih := runC_le B C k
    rw [runC_succ]
    split
    · split
      · omega
      · exact Nat.le_refl _
    · omega
def Lays (L : LV) (S' : zS) (C : CV) : Prop := Crs S' C ∧ COK C 40 ∧ ∀ s p, s < 4 → p < 12 → (S'.1 28) (12 * s + p) = vM L s p
section MLay
variable {E : zE} {M : zM} {o : Nat} {S S0 : zS} {C : CV} {B : BV} {n nb : Nat} {Ls : Nat → LV} {Bs : Nat → BV}
theorem begun_crs {L : LV} (hH : Hand S L) (hK : Kp bks S S0) (hB : Begun S0 (vB L)) : Crs S0 (cst0 L) :=
  ⟨hH.kp hK ⟨rfl, rfl, rfl, rfl, rfl, rfl, rfl⟩, fun s p hs hp => hB.1 _ (by omega), fun m hm => hB.2.1 m hm, hB.2.2.1, hB.2.2.2.1, hB.2.2.2.2.1, hB.2.2.2.2.2.1, hB.2.2.2.2.2.2⟩
theorem Crs.kp {ks : List Nat} {S' : zS} (h : Crs S C) (hK : Kp ks S S') (h1 : ks.all (fun k => k ≤ 20 || (28 ≤ k && k ≤ 46) || 54 ≤ k) = true) : Crs S' C := by
  have hn : ∀ k, (21 ≤ k ∧ k ≤ 27) ∨ (47 ≤ k ∧ k ≤ 53) → ks.contains k = false := fun k hk => by
    cases e : ks.contains k with
    | false => rfl
    | true =>
      have := List.all_eq_true.mp h1 k (List.contains_iff_mem.mp e)
      simp at this
      omega
  unfold Crs Hand at *
  rw [(hK 21 (hn _ (by omega))).1, (hK 22 (hn _ (by omega))).1, (hK 23 (hn _ (by omega))).1, (hK 24 (hn _ (by omega))).1, (hK 25 (hn _ (by omega))).1, (hK 26 (hn _ (by omega))).1, (hK 27 (hn _ (by omega))).1, (hK 47 (hn _ (by omega))).2, (hK 48 (hn _ (by omega))).1, (hK 49 (hn _ (by omega))).1, (hK 50 (hn _ (by omega))).1, (hK 51 (hn _ (by omega))).1, (hK 52 (hn _ (by omega))).1, (hK 53 (hn _ (by omega))).1]
  exact h
theorem c_layState (hk0 : Sk E M o) (hM : MLs S n Ls) (hN : MBs S nb Bs) (l d k : Int32) : (Con E yX3_layState cX3_layState 4 (some .boolean) 7 0 0) [.ref o, .int l, .int d, .int k] (mv M o S) (pI (fun x => mP M o (fun S' => x = bz ((stC n Ls nb Bs l d k).isSome = true) ∧ Kp lks S S' ∧ ∀ C, stC n Ls nb Bs l d k = some C → Lays (Ls l.toNatClampNeg) S' C))) := by
  have h2 := hM.1
  have hn2 := hN.1
  have no : ∀ {S'}, Kp lks S S' → stC n Ls nb Bs l d k = none → mP M o (fun S' => (0 : Int32) = bz ((stC n Ls nb Bs l d k).isSome = true) ∧ Kp lks S S' ∧ ∀ C, stC n Ls nb Bs l d k = some C → Lays (Ls l.toNatClampNeg) S' C) (mv M o S') := fun {S'} hK e => ⟨S', rfl, by rw [e]; rfl, hK, fun C h => by rw [e] at h; cases h⟩
  have yes : ∀ {S' C}, Kp lks S S' → stC n Ls nb Bs l d k = some C → Lays (Ls l.toNatClampNeg) S' C → mP M o (fun S' => (1 : Int32) = bz ((stC n Ls nb Bs l d k).isSome = true) ∧ Kp lks S S' ∧ ∀ C, stC n Ls nb Bs l d k = some C → Lays (Ls l.toNatClampNeg) S' C) (mv M o S') := fun {S' C} hK e h => ⟨S', rfl, by rw [e]; rfl, hK, fun C' h' => by rw [e] at h'; cases h'; exact h⟩
  refine Go.enter [some (.ref o), some (.int l), some (.int d), some (.int k)] rfl (Nat.le_of_ble_eq_true rfl) rfl (Nat.le_of_ble_eq_true rfl) ?_
  refine g_ald0 (q := 1) dX3_layState_0 rfl ?_
  refine g_ild1 (q := 2) dX3_layState_1 rfl ?_
  refine m_call (q := 5) hk0 (c_hand hk0 hM _) sv_X3_270 dX3_layState_2 rfl rfl rfl (Nat.le_of_ble_eq_true rfl) ⟨Nat.le_of_ble_eq_true rfl, Nat.le_of_ble_eq_true rfl⟩ ⟨Nat.zero_le _, Nat.zero_le _⟩ (mgI (fun x S1 h => ?_))
  obtain ⟨rfl, K1, hJ⟩ := h
  have KL1 := K1.up (lks_of _ rfl)
  refine g_ifb_eq (t := 22) (q := 8) dX3_layState_5 rfl rfl (fun c_5 => ?_) (fun c_5 => ?_)
  · refine g_iconst (q := 23) dX3_layState_22 ki_0 rfl ?_
    refine g_zret dX3_layState_23 rfl (Nat.zero_le _) (Nat.zero_le _) ?_
    refine ⟨_, rfl, no KL1 ?_⟩
    unfold stC
    rw [if_neg c_5]
  · refine g_ild2 (q := 9) dX3_layState_8 rfl ?_
    refine g_iconst (q := 10) dX3_layState_9 ki_m1 rfl ?_
    refine g_ic_eq (t := 24) (q := 13) dX3_layState_10 rfl rfl (fun c_10 => ?_) (fun c_10 => ?_)
    · obtain ⟨hH, hBg⟩ := hJ c_5
      obtain ⟨j, hj, rfl⟩ := ixo_of c_5 (by omega)
      have hL := (hM.2.2 j hj).2
      have ej : (nI j).toNatClampNeg = j := nI_clamp (by omega)
      rw [ej] at hH
      refine g_ald0 (q := 25) dX3_layState_24 rfl ?_
      refine m_call (q := 28) hk0 (c_begin hk0 hL.1.2 hH.1) sv_X3_416 dX3_layState_25 rfl rfl rfl (Nat.le_of_ble_eq_true rfl) ⟨Nat.le_of_ble_eq_true rfl, Nat.le_of_ble_eq_true rfl⟩ ⟨Nat.zero_le _, Nat.zero_le _⟩ (mgV (fun S2 h => ?_))
      obtain ⟨K2, hB2⟩ := h
      have hC2 := begun_crs hH K2 hB2
      have KL2 := KL1.then (K2.up (lks_of _ rfl))
      have hb2 : ∀ s p, s < 4 → p < 12 → (S2.1 28) (12 * s + p) = vM (Ls j) s p := fun s p hs hp => by rw [(K2 28 rfl).1, hBg _ (by omega)]; exact hH.2.2.2.2.2.2 s p hs hp
      refine g_ild2 (q := 29) dX3_layState_28 rfl ?_
      refine g_iconst (q := 30) dX3_layState_29 ki_m1 rfl ?_
      refine g_ic_ne (t := 43) (q := 33) dX3_layState_30 rfl rfl (fun c_30 => ?_) (fun c_30 => ?_)
      · exact absurd c_10 c_30
      · refine g_ild3 (q := 34) dX3_layState_33 rfl ?_
        refine g_if_ne (t := 41) (q := 37) dX3_layState_34 rfl rfl (fun c_34 => ?_) (fun c_34 => ?_)
        · refine g_iconst (q := 42) dX3_layState_41 ki_0 rfl ?_
          refine g_zret dX3_layState_42 rfl (Nat.zero_le _) (Nat.zero_le _) ?_
          refine ⟨_, rfl, no KL2 ?_⟩
          unfold stC
          rw [if_pos c_5, if_pos c_30, if_neg c_34]
        · refine g_iconst (q := 38) dX3_layState_37 ki_1 rfl ?_
          refine g_goto (t := 42) dX3_layState_38 rfl ?_
          refine g_zret dX3_layState_42 rfl (Nat.zero_le _) (Nat.zero_le _) ?_
          refine ⟨_, rfl, yes KL2 (C := cst0 (Ls j)) ?_ (by rw [ej]; exact ⟨hC2, (cst0_ok hL).le (by omega), hb2⟩)⟩
          unfold stC
          rw [if_pos c_5, if_pos c_30, if_pos c_34, ej]
    · refine g_ald0 (q := 14) dX3_layState_13 rfl ?_
      refine g_iconst (q := 15) dX3_layState_14 ki_1 rfl ?_
      refine g_ild2 (q := 16) dX3_layState_15 rfl ?_
      refine m_call (q := 19) hk0 (c_is E M o S1 hk0 1 nb (by omega) (by omega) (by rw [(K1 5 rfl).1]; exact hN.2.1) d) sv_X3_223 dX3_layState_16 rfl rfl rfl (Nat.le_of_ble_eq_true rfl) ⟨Nat.le_of_ble_eq_true rfl, Nat.le_of_ble_eq_true rfl⟩ ⟨Nat.zero_le _, Nat.zero_le _⟩ (gIe ?_)
      refine g_ifb_ne (t := 24) (q := 22) dX3_layState_19 rfl rfl (fun c_19 => ?_) (fun c_19 => ?_)
      · obtain ⟨hH, hBg⟩ := hJ c_5
        obtain ⟨j, hj, rfl⟩ := ixo_of c_5 (by omega)
        have hL := (hM.2.2 j hj).2
        have ej : (nI j).toNatClampNeg = j := nI_clamp (by omega)
        rw [ej] at hH
        refine g_ald0 (q := 25) dX3_layState_24 rfl ?_
        refine m_call (q := 28) hk0 (c_begin hk0 hL.1.2 hH.1) sv_X3_416 dX3_layState_25 rfl rfl rfl (Nat.le_of_ble_eq_true rfl) ⟨Nat.le_of_ble_eq_true rfl, Nat.le_of_ble_eq_true rfl⟩ ⟨Nat.zero_le _, Nat.zero_le _⟩ (mgV (fun S2 h => ?_))
        obtain ⟨K2, hB2⟩ := h
        have hC2 := begun_crs hH K2 hB2
        have KL2 := KL1.then (K2.up (lks_of _ rfl))
        have hb2 : ∀ s p, s < 4 → p < 12 → (S2.1 28) (12 * s + p) = vM (Ls j) s p := fun s p hs hp => by rw [(K2 28 rfl).1, hBg _ (by omega)]; exact hH.2.2.2.2.2.2 s p hs hp
        refine g_ild2 (q := 29) dX3_layState_28 rfl ?_
        refine g_iconst (q := 30) dX3_layState_29 ki_m1 rfl ?_
        refine g_ic_ne (t := 43) (q := 33) dX3_layState_30 rfl rfl (fun c_30 => ?_) (fun c_30 => ?_)
        · obtain ⟨b, hb, rfl⟩ := ixo_of c_19 (by omega)
          obtain ⟨hR, hBo⟩ := hN.2.2 b hb
          have h40 := hBo.1
          have eb : (nI b).toNatClampNeg = b := nI_clamp (by omega)
          refine g_ald0 (q := 44) dX3_layState_43 rfl ?_
          refine g_ild2 (q := 45) dX3_layState_44 rfl ?_
          refine m_putI (q := 48) hk0 fs_X3_383 dX3_layState_45 rfl rfl rfl ?_
          refine g_ild3 (q := 49) dX3_layState_48 rfl ?_
          refine g_iconst (q := 50) dX3_layState_49 ki_0 rfl ?_
          refine g_ald0 (q := 51) dX3_layState_50 rfl ?_
          refine m_call (q := 54) hk0 (c_deeds hk0 (b := b) (B := Bs b) (by omega) (ms1_at _ _ _ _) (by show BR ((S2.1 7)) _ _; rw [(KL2 7 rfl).1]; exact hR)) sv_X3_386 dX3_layState_51 rfl rfl rfl (Nat.le_of_ble_eq_true rfl) ⟨Nat.le_of_ble_eq_true rfl, Nat.le_of_ble_eq_true rfl⟩ ⟨Nat.zero_le _, Nat.zero_le _⟩ (gIe ?_)
          refine m_calls (q := 57) (c_in _ _ _ _ _) ss_X3_123 dX3_layState_54 rfl rfl rfl (Nat.le_of_ble_eq_true rfl) ⟨Nat.le_of_ble_eq_true rfl, Nat.le_of_ble_eq_true rfl⟩ ⟨Nat.zero_le _, Nat.zero_le _⟩ (gIe ?_)
          refine g_ifb_eq (t := 73) (q := 60) dX3_layState_57 rfl rfl (fun c_57 => ?_) (fun c_57 => ?_)
          · refine g_iconst (q := 74) dX3_layState_73 ki_0 rfl ?_
            refine g_zret dX3_layState_74 rfl (Nat.zero_le _) (Nat.zero_le _) ?_
            refine ⟨_, rfl, no (KL2.s1 rfl) ?_⟩
            unfold stC
            rw [if_pos c_5, if_neg c_30, eb, if_neg (fun h => c_57 h.2.1)]
          · obtain ⟨x, x1, x2, rfl⟩ := in_of (by omega) (by omega) c_57
            have ex : (nI x).toNatClampNeg = x := nI_clamp (by omega)
            refine g_ald0 (q := 61) dX3_layState_60 rfl ?_
            refine g_ild3 (q := 62) dX3_layState_61 rfl ?_
            refine m_call (q := 65) hk0 (c_doAll (S := ms1 S2 46 0 (nI b)) (B := Bs b) (C := cst0 (Ls j)) hk0 (d := b) (by omega) (ms1_at _ _ _ _) (by show BR ((S2.1 7)) _ _; rw [(KL2 7 rfl).1]; exact hR) hBo (by omega) (hC2.kp (ks := [46]) (Kp.rf.s1 rfl) rfl) (cst0_ok hL)) sv_X3_419 dX3_layState_62 rfl rfl rfl (Nat.le_of_ble_eq_true rfl) ⟨Nat.le_of_ble_eq_true rfl, Nat.le_of_ble_eq_true rfl⟩ ⟨Nat.zero_le _, Nat.zero_le _⟩ (mgI (fun x3 S3 h => ?_))
            obtain ⟨rfl, K3, hC3, hO3⟩ := h
            have KL3 := (KL2.s1 (k := 46) (j := 0) (v := nI b) rfl).then (K3.up (lks_of _ rfl))
            refine g_ild3 (q := 66) dX3_layState_65 rfl ?_
            refine g_ic_ne (t := 73) (q := 69) dX3_layState_66 rfl rfl (fun c_66 => ?_) (fun c_66 => ?_)
            · refine g_iconst (q := 74) dX3_layState_73 ki_0 rfl ?_
              refine g_zret dX3_layState_74 rfl (Nat.zero_le _) (Nat.zero_le _) ⟨_, rfl, no KL3 ?_⟩
              unfold stC
              rw [if_pos c_5, if_neg c_30, eb, ej, ex, if_neg (fun h => c_66 (by rw [h.2.2]))]
            · refine g_iconst (q := 70) dX3_layState_69 ki_1 rfl ?_
              refine g_goto (t := 74) dX3_layState_70 rfl ?_
              refine g_zret dX3_layState_74 rfl (Nat.zero_le _) (Nat.zero_le _) ?_
              refine ⟨_, rfl, yes KL3 (C := (runC (Bs b) (cst0 (Ls j)) x).2) ?_ (by rw [ej]; exact ⟨hC3, hO3.le (by omega), fun s p hs hp => by rw [(K3 28 rfl).1]; exact hb2 s p hs hp⟩)⟩
              unfold stC
              rw [if_pos c_5, if_neg c_30, eb, ej, ex, if_pos ⟨c_19, c_57, (nI_eq (by have := runC_le (Bs b) (cst0 (Ls j)) x; omega) (by omega)).mp c_66⟩]
        · refine g_ild3 (q := 34) dX3_layState_33 rfl ?_
          refine g_if_ne (t := 41) (q := 37) dX3_layState_34 rfl rfl (fun c_34 => ?_) (fun c_34 => ?_)
          · refine g_iconst (q := 42) dX3_layState_41 ki_0 rfl ?_
            refine g_zret dX3_layState_42 rfl (Nat.zero_le _) (Nat.zero_le _) ?_
            refine ⟨_, rfl, no KL2 ?_⟩
            unfold stC
            rw [if_pos c_5, if_pos c_30, if_neg c_34]
          · refine g_iconst (q := 38) dX3_layState_37 ki_1 rfl ?_
            refine g_goto (t := 42) dX3_layState_38 rfl ?_
            refine g_zret dX3_layState_42 rfl (Nat.zero_le _) (Nat.zero_le _) ?_
            refine ⟨_, rfl, yes KL2 (C := cst0 (Ls j)) ?_ (by rw [ej]; exact ⟨hC2, (cst0_ok hL).le (by omega), hb2⟩)⟩
            unfold stC
            rw [if_pos c_5, if_pos c_30, if_pos c_34, ej]
      · refine g_iconst (q := 23) dX3_layState_22 ki_0 rfl ?_
        refine g_zret dX3_layState_23 rfl (Nat.zero_le _) (Nat.zero_le _) ?_
        refine ⟨_, rfl, no KL1 ?_⟩
        unfold stC
        rw [if_pos c_5, if_neg c_10, if_neg (fun h => c_19 h.1)]
end MLay

