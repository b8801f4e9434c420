set_option maxRecDepth 100000
/-! A COURSE's VALUE: the library as it is now, what may lie where, what is lent, (how many felt wrong, the first), (steps, the hand) -/
abbrev CV : Type := LV × (Nat → Nat → Int64) × (Nat → Nat) × (Nat × Int32) × (Nat × Nat × Nat)
def cf (C : CV) : Nat → Nat → Int64 := C.2.1
def cn (C : CV) : Nat → Nat := C.2.2.1
def cw (C : CV) : Nat := C.2.2.2.1.1
def cx (C : CV) : Int32 := C.2.2.2.1.2
def ch (C : CV) : Nat := C.2.2.2.2.1
def cs (C : CV) : Nat := C.2.2.2.2.2.1
def cp (C : CV) : Nat := C.2.2.2.2.2.2
def up2 {α : Type} (f : Nat → Nat → α) (s p : Nat) (v : α) : Nat → Nat → α := fun s' p' => if s' = s ∧ p' = p then v else f s' p'
def smk (L : LV) (s p : Nat) (v : Int32) : LV := (L.1, L.2.1, L.2.2.1, L.2.2.2.1, L.2.2.2.2.1, L.2.2.2.2.2.1, up2 (vM L) s p v)
def cHand (C : CV) (s p : Nat) : CV := (C.1, C.2.1, C.2.2.1, C.2.2.2.1, (ch C + (10 * dst s (cs C) + dst p (cp C)), s, p))
def cChg (C : CV) (s p : Nat) (v : Int32) : CV := (smk C.1 s p v, up2 (cf C) s p (fulL (vB C.1)), C.2.2)
def cLent (C : CV) (m x : Nat) : CV := (C.1, C.2.1, (fun m' => if m' = m then x else cn C m'), C.2.2.2)
def cFelt (C : CV) (s p : Nat) (x : Int64) : CV := (C.1, up2 (cf C) s p x, C.2.2)
def cWrg (C : CV) (w : Nat) (x : Int32) : CV := (C.1, C.2.1, C.2.2.1, (w, x), C.2.2.2.2)
noncomputable def rdL (L : LV) (z : Nat) : Int64 := mkL (rB L z) (2 ^ vB L)
/-- a reading that is wrong there -/
abbrev bad (C : CV) (s p b : Nat) : Prop := vM C.1 s p = -1 ∨ ¬ (dif b (vM C.1 s p).toNatClampNeg = 0 ∧ dif (vM C.1 s p).toNatClampNeg b ≤ vW C.1)
/-- one deed is done -/
noncomputable def stp (k w s p b : Nat) (C : CV) : Option CV :=
  if s < vN C.1 ∧ p < vP C.1 s then
    (if w = 0 then (if vM C.1 s p = -1 ∧ b < 2 ^ vB C.1 then some (cChg (cLent (cHand C s p) b (cn C b - 1)) s p (nI b)) else none)
    else if w = 1 then (if vM C.1 s p = -1 then none else some (cChg (cLent (cHand C s p) (vM C.1 s p).toNatClampNeg (cn C (vM C.1 s p).toNatClampNeg + 1)) s p (-1)))
    else if w = 2 then (if vM C.1 s p = -1 then none else if b < vP C.1 s ∧ vM C.1 s b = -1 then some (cChg (cChg (cHand (cHand C s p) s b) s b (vM C.1 s p)) s p (-1)) else none)
    else (if b < 2 ^ vB C.1 then some (cWrg (cFelt (cHand C s p) s p (cf C s p &&& rdL C.1 b)) (cw C + if bad C s p b then 1 else 0) (if bad C s p b ∧ cw C = 0 then nI k else cx C)) else none))
  else none
def COK (C : CV) (k : Nat) : Prop := LOK C.1 ∧ cs C < 4 ∧ cp C < 12 ∧ (∀ m, cn C m ≤ k) ∧ cw C ≤ k ∧ ch C ≤ 100 * k
def Crs (S : zS) (C : CV) : Prop := Hand S C.1 ∧ (∀ s p, s < 4 → p < 12 → (S.2 47) (12 * s + p) = cf C s p) ∧ (∀ m, m < 32 → (S.1 48) m = nI (cn C m)) ∧ (S.1 49 0) = nI (cw C) ∧ (S.1 50 0) = cx C ∧ (S.1 51 0) = nI (ch C) ∧ (S.1 52 0) = nI (cs C) ∧ (S.1 53 0) = nI (cp C)
theorem adI_nI {a b : Nat} (ha : a < 2 ^ 31) (hb : b < 2 ^ 31) : adI (nI a) (nI b) = nI (dst a b) := by
  have e : (nI a - nI b).toInt = (a : Int) - b := by
    rw [fb_subI (by rw [nI_toInt ha, nI_toInt hb]; omega) (by rw [nI_toInt ha, nI_toInt hb]; omega), nI_toInt ha, nI_toInt hb]
  unfold adI dst
  by_cases h : a < b
  · rw [if_pos h, if_neg (fun h1 => by have := Int32.le_iff_toInt_le.mp h1; rw [e] at this; have h0 : (0 : Int32).toInt = 0 := rfl; omega), ← pk_sub (Nat.le_of_lt h)]
    grind
  · rw [if_neg h, if_pos (Int32.le_iff_toInt_le.mpr (by rw [e]; have h0 : (0 : Int32).toInt = 0 := rfl; omega)), pk_sub (by omega)]
theorem LOK.smk {L : LV} (h : LOK L) {s p : Nat} {v : Int32} (hp : p < vP L s) (hv : v = -1 ∨ ∃ m, m < 2 ^ vB L ∧ v = nI m) : LOK (smk L s p v) := by
  obtain ⟨h1, h2, h3, h4, h5, h6, h7, h8⟩ := h
  refine ⟨h1, h2, h3, h4, h5, h6, fun s' p' hp' => ?_, fun s' p' => ?_⟩
  · show (if s' = s ∧ p' = p then v else vM L s' p') = -1
    rw [if_neg]
    · exact h7 s' p' hp'
    · rintro ⟨rfl, rfl⟩
      have : vP L s' ≤ p' := hp'
      omega
  · show (if s' = s ∧ p' = p then v else vM L s' p') = -1 ∨ ∃ m, m < 2 ^ vB L ∧ (if s' = s ∧ p' = p then v else vM L s' p') = nI m
    split
    · exact hv
    · exact h8 s' p'
theorem ix48 {s p s' p' : Nat} (hp : p < 12) (hp' : p' < 12) : 12 * s' + p' = 12 * s + p ↔ s' = s ∧ p' = p := by omega
section MCourse
variable {E : zE} {M : zM} {o : Nat} {S S0 : zS} {C : CV}
theorem Crs.hand (h : Crs S C) {k : Nat} (hC : COK C k) {s p : Nat} (hs : s < 4) (hp : p < 12) : Crs (ms1 (ms1 (ms1 S 51 0 ((S.1 51 0) + (nI 10 * adI (nI s) ((S.1 52 0)) + adI (nI p) ((S.1 53 0))))) 52 0 (nI s)) 53 0 (nI p)) (cHand C s p) := by
  obtain ⟨h1, h2, h3, h4, h5, h6, h7, h8⟩ := h
  refine ⟨h1, h2, h3, h4, h5, ?_, rfl, rfl⟩
  show (S.1 51 0) + (nI 10 * adI (nI s) ((S.1 52 0)) + adI (nI p) ((S.1 53 0))) = _
  rw [h6, h7, h8, adI_nI (by omega) (by have := hC.2.1; omega), adI_nI (by omega) (by have := hC.2.2.1; omega), pk_mul, nI_add, nI_add]
  rfl
theorem Crs.chg (h : Crs S C) {s p : Nat} (hp : p < 12) (v : Int32) : Crs (ms2 (ms1 S 27 (12 * s + p) v) 47 (12 * s + p) (fulL (vB C.1))) (cChg C s p v) := by
  obtain ⟨⟨a1, a2, a3, a4, a5, a6, a7⟩, h2, h3, h4, h5, h6, h7, h8⟩ := h
  refine ⟨⟨a1, a2, a3, a4, a5, a6, fun s' p' hs' hp' => ?_⟩, fun s' p' hs' hp' => ?_, h3, h4, h5, h6, h7, h8⟩
  · show (ms1 S 27 (12 * s + p) v).1 27 (12 * s' + p') = (if s' = s ∧ p' = p then v else vM C.1 s' p')
    by_cases e : s' = s ∧ p' = p
    · rw [if_pos e, e.1, e.2, ms1_at]
    · rw [if_neg e, ms1_nj _ _ _ (fun h => e ((ix48 hp hp').mp h))]; exact a7 s' p' hs' hp'
  · show (ms2 (ms1 S 27 (12 * s + p) v) 47 (12 * s + p) (fulL (vB C.1))).2 47 (12 * s' + p') = (if s' = s ∧ p' = p then fulL (vB C.1) else cf C s' p')
    by_cases e : s' = s ∧ p' = p
    · rw [if_pos e, e.1, e.2, ms2_at]
    · rw [if_neg e, ms2_nj _ _ _ (fun h => e ((ix48 hp hp').mp h))]; exact h2 s' p' hs' hp'
theorem Crs.felt (h : Crs S C) {s p : Nat} (hp : p < 12) {x y : Int64} (e : x = y) : Crs (ms2 S 47 (12 * s + p) x) (cFelt C s p y) := by
  subst e
  obtain ⟨h1, h2, h3⟩ := h
  refine ⟨h1, fun s' p' hs' hp' => ?_, h3⟩
  show (ms2 S 47 (12 * s + p) x).2 47 (12 * s' + p') = (if s' = s ∧ p' = p then x else cf C s' p')
  by_cases e : s' = s ∧ p' = p
  · rw [if_pos e, e.1, e.2, ms2_at]
  · rw [if_neg e, ms2_nj _ _ _ (fun h => e ((ix48 hp hp').mp h))]; exact h2 s' p' hs' hp'
theorem Crs.lent (h : Crs S C) {m x : Nat} {v : Int32} (hv : v = nI x) : Crs (ms1 S 48 m v) (cLent C m x) := by
  subst hv
  obtain ⟨h1, h2, h3, h4⟩ := h
  refine ⟨h1, h2, fun m' hm' => ?_, h4⟩
  show (ms1 S 48 m (nI x)).1 48 m' = nI (if m' = m then x else cn C m')
  by_cases e : m' = m
  · rw [if_pos e, e, ms1_at]
  · rw [if_neg e, ms1_nj _ _ _ e]; exact h3 m' hm'
theorem Crs.wrg (h : Crs S C) {w : Nat} {x v u : Int32} (hv : v = nI w) (hu : u = x) : Crs (ms1 (ms1 S 50 0 u) 49 0 v) (cWrg C w x) := by
  subst hv hu
  obtain ⟨h1, h2, h3, _, _, h4⟩ := h
  exact ⟨h1, h2, h3, rfl, rfl, h4⟩
theorem COK.hand {k s p : Nat} (h : COK C k) (hs : s < 4) (hp : p < 12) : LOK (cHand C s p).1 ∧ cs (cHand C s p) < 4 ∧ cp (cHand C s p) < 12 ∧ ch (cHand C s p) ≤ ch C + 42 := by
  refine ⟨h.1, hs, hp, ?_⟩
  show ch C + (10 * dst s (cs C) + dst p (cp C)) ≤ _
  have h1 := dst_le (a := s) (b := cs C) (c := 3) (by omega) (by have := h.2.1; omega)
  have h2 := dst_le (a := p) (b := cp C) (c := 12) (by omega) (by have := h.2.2.1; omega)
  omega
end MCourse

