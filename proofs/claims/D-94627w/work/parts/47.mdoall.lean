set_option maxRecDepth 100000
noncomputable def stpB (B : BV) (k : Nat) (C : CV) : Option CV := stp k (B.2 k 0).toNatClampNeg (B.2 k 1).toNatClampNeg (B.2 k 2).toNatClampNeg (B.2 k 3).toNatClampNeg C
/-- the deeds one by one: how many are done, and the course then -/
noncomputable def runC (B : BV) (C : CV) : Nat → Nat × CV
  | 0 => (0, C)
  | k + 1 => if (runC B C k).1 = k then (match stpB B k (runC B C k).2 with | none => runC B C k | some C' => (k + 1, C')) else runC B C k
theorem runC_succ (B : BV) (C : CV) (k : Nat) : runC B C (k + 1) = if (runC B C k).1 = k then (match stpB B k (runC B C k).2 with | none => runC B C k | some C' => (k + 1, C')) else runC B C k := rfl
theorem runC_stop (B : BV) (C : CV) {k : Nat} (h : (runC B C k).1 < k) : ∀ m, k ≤ m → runC B C m = runC B C k := by
  intro m hm
  induction m with
  | zero => rw [show k = 0 by omega]
  | succ m ih =>
    by_cases e : k = m + 1
    · rw [e]
    · have := ih (by omega)
      rw [runC_succ, this, if_neg (by omega)]
def cst0 (L : LV) : CV := (L, (fun _ _ => fulL (vB L)), (fun _ => 0), (0, -1), (0, 0, 0))
theorem cst0_ok {L : LV} (h : LOK L) : COK (cst0 L) 0 := ⟨h, (by show 0 < 4; omega), (by show 0 < 12; omega), fun _ => Nat.le_refl _, Nat.le_refl _, Nat.le_refl _⟩
theorem COK.le {C : CV} {k m : Nat} (h : COK C k) (hk : k ≤ m) : COK C m := ⟨h.1, h.2.1, h.2.2.1, fun i => Nat.le_trans (h.2.2.2.1 i) hk, Nat.le_trans h.2.2.2.2.1 hk, Nat.le_trans h.2.2.2.2.2 (Nat.mul_le_mul_left _ hk)⟩
section MDoAll
variable {E : zE} {M : zM} {o : Nat} {S S0 : zS} {C : CV} {B : BV}
theorem c_does (hk0 : Sk E M o) {d : Nat} (hd : d < 2) (hbk : (S.1 46 0) = nI d) (hR : BR ((S.1 7)) (161 * d) B) (hB : BOK B) (hC : Crs S C) {k : Nat} (hk : k < B.1) (hO : COK C k) : (Con E yX3_does cX3_does 10 (some .boolean) 5 0 0) [.ref o, .int (nI k)] (mv M o S) (pI (fun x => mP M o (DoesR k (stpB B k C) x S))) := by
  obtain ⟨w, s, p, hw, hs, hp, e0, e1, e2, e3⟩ := hB.2 k hk
  have h40 := hB.1
  unfold stpB
  rcases (show w = 0 ∨ w = 1 ∨ w = 2 ∨ w = 3 by omega) with rfl | rfl | rfl | rfl
  · obtain ⟨b, hb, _, e3⟩ := (e3.resolve_left (fun h => by omega)).2
    rw [e0, e1, e2, e3, nI_clamp (by omega), nI_clamp (by omega), nI_clamp (by omega), nI_clamp (by omega)]
    exact c_does0 hk0 hd hbk hR h40 hC hk hO hs hp e0 e1 e2 e3 hb
  · have e3 := (e3.resolve_right (fun h => h.1 rfl)).2
    rw [e0, e1, e2, e3, nI_clamp (by omega), nI_clamp (by omega), nI_clamp (by omega)]
    exact c_does1 hk0 hd hbk hR h40 hC hk hO hs hp e0 e1 e2 e3
  · obtain ⟨b, _, hb, e3⟩ := (e3.resolve_left (fun h => by omega)).2
    have hb := hb rfl
    rw [e0, e1, e2, e3, nI_clamp (by omega), nI_clamp (by omega), nI_clamp (by omega), nI_clamp (by omega)]
    exact c_does2 hk0 hd hbk hR h40 hC hk hO hs hp e0 e1 e2 e3 hb
  · obtain ⟨b, hb, _, e3⟩ := (e3.resolve_left (fun h => by omega)).2
    rw [e0, e1, e2, e3, nI_clamp (by omega), nI_clamp (by omega), nI_clamp (by omega), nI_clamp (by omega)]
    exact c_does3 hk0 hd hbk hR h40 hC hk hO hs hp e0 e1 e2 e3 hb
theorem lp_doAll (hk0 : Sk E M o) {d : Nat} (hd : d < 2) (hbk : (S0.1 46 0) = nI d) (hR : BR ((S0.1 7)) (161 * d) B) (hB : BOK B) {n : Nat} (hn : n ≤ B.1) {Post : Option Value → zM → Prop} (hpost : ∀ S', Kp cks S0 S' → Crs S' (runC B C n).2 → COK (runC B C n).2 n → Post (some (.int (nI (runC B C n).1))) (mv M o S')) :
    ∀ k, k ≤ n → (runC B C k).1 = k → ∀ S', Kp cks S0 S' → Crs S' (runC B C k).2 → COK (runC B C k).2 k → (GoR E yX3_doAll cX3_doAll 3 (some .int) 6 0 0) Post 2 [some (.ref o), some (.int (nI n)), some (.int (nI k))] [] (mv M o S') 0 0 := by
  have h40 := hB.1
  refine up_ind _ (fun k hk ih he S' hK hC hO => ?_)
  have hbk' : (S'.1 46 0) = nI d := by rw [(hK 46 rfl).1]; exact hbk
  have hR' : BR ((S'.1 7)) (161 * d) B := by rw [(hK 7 rfl).1]; exact hR
  refine g_ild2 (q := 3) dX3_doAll_2 rfl ?_
  refine g_ild1 (q := 4) dX3_doAll_3 rfl ?_
  refine g_icN_ge (t := 23) (q := 7) dX3_doAll_4 rfl rfl (by omega) (by omega) (fun c_4 => ?_) (fun c_4 => ?_)
  · obtain rfl : k = n := by omega
    refine g_ild1 (q := 24) dX3_doAll_23 rfl ?_
    refine g_iret dX3_doAll_24 (Nat.zero_le _) (Nat.zero_le _) ?_
    have := hpost S' hK hC hO
    rw [he] at this
    exact this
  · refine g_ald0 (q := 8) dX3_doAll_7 rfl ?_
    refine g_ild2 (q := 9) dX3_doAll_8 rfl ?_
    refine m_call (q := 12) hk0 (c_does hk0 hd hbk' hR' hB hC (by omega) hO) sv_X3_413 dX3_doAll_9 rfl rfl rfl (Nat.le_of_ble_eq_true rfl) ⟨Nat.le_of_ble_eq_true rfl, Nat.le_of_ble_eq_true rfl⟩ ⟨Nat.zero_le _, Nat.zero_le _⟩ (mgI (fun x S2 h => ?_))
    obtain ⟨K2, ⟨e1, rfl, rfl⟩ | ⟨C', e1, rfl, hC', hO'⟩⟩ := h
    · have es : runC B C (k + 1) = runC B C k := by rw [runC_succ, if_pos he, e1]
      have en := runC_stop B C (k := k + 1) (by rw [es, he]; omega) n (by omega)
      rw [en, es] at hpost
      refine g_if_ne (t := 17) (q := 15) dX3_doAll_12 rfl rfl (fun c_ => absurd c_ (by decide)) (fun _ => ?_)
      refine g_ild2 (q := 16) dX3_doAll_15 rfl ?_
      refine g_iret dX3_doAll_16 (Nat.zero_le _) (Nat.zero_le _) ?_
      have := hpost S2 hK hC (hO.le (by omega))
      rw [he] at this
      exact this
    · have es : runC B C (k + 1) = (k + 1, C') := by rw [runC_succ, if_pos he, e1]
      refine g_if_ne (t := 17) (q := 15) dX3_doAll_12 rfl rfl (fun _ => ?_) (fun c_ => absurd c_ (by decide))
      refine g_inc2 (w := nI (k + 1)) (q := 20) dX3_doAll_17 rfl (nI_1 _) rfl ?_
      refine g_goto (t := 2) dX3_doAll_20 rfl ?_
      refine ih (by omega) (by rw [es]) S2 (hK.then K2) (by rw [es]; exact hC') (by rw [es]; exact hO')
theorem c_doAll (hk0 : Sk E M o) {d : Nat} (hd : d < 2) (hbk : (S.1 46 0) = nI d) (hR : BR ((S.1 7)) (161 * d) B) (hB : BOK B) {n : Nat} (hn : n ≤ B.1) (hC : Crs S C) (hO : COK C 0) : (Con E yX3_doAll cX3_doAll 3 (some .int) 6 0 0) [.ref o, .int (nI n)] (mv M o S) (pI (fun x => mP M o (fun S' => x = nI (runC B C n).1 ∧ Kp cks S S' ∧ Crs S' (runC B C n).2 ∧ COK (runC B C n).2 n))) := by
  refine Go.enter [some (.ref o), some (.int (nI n)), none] rfl (Nat.le_of_ble_eq_true rfl) rfl (Nat.le_of_ble_eq_true rfl) ?_
  refine g_iconst (q := 1) dX3_doAll_0 ki_0 rfl ?_
  refine g_ist2 (q := 2) dX3_doAll_1 rfl rfl ?_
  exact lp_doAll (S0 := S) (C := C) hk0 hd hbk hR hB hn (fun S' h1 h2 h3 => ⟨_, rfl, S', rfl, rfl, h1, h2, h3⟩) 0 (Nat.zero_le _) rfl S Kp.rf hC hO
end MDoAll

