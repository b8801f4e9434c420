set_option maxRecDepth 100000
/-- a boolean as the machine has it -/
def bz (p : Prop) [Decidable p] : Int32 := if p then 1 else 0
theorem bz_t {p : Prop} [Decidable p] (h : p) : bz p = 1 := if_pos h
theorem bz_f {p : Prop} [Decidable p] (h : ¬ p) : bz p = 0 := if_neg h
theorem bz_0 {p : Prop} [Decidable p] : bz p = 0 ↔ ¬ p := by
  unfold bz
  split
  · exact ⟨fun h => absurd h (by decide), fun h => absurd ‹p› h⟩
  · exact ⟨fun _ => ‹¬ p›, fun _ => rfl⟩
theorem bz_nar {p : Prop} [Decidable p] : narrow .boolean (.int (bz p)) = .int (bz p) := by
  unfold bz
  split <;> rfl
theorem bz_iff {p q : Prop} [Decidable p] [Decidable q] (h : p ↔ q) : bz p = bz q := by
  unfold bz
  by_cases hp : p
  · rw [if_pos hp, if_pos (h.mp hp)]
  · rw [if_neg hp, if_neg (fun hq => hp (h.mpr hq))]
theorem bz_1 {p : Prop} [Decidable p] (h : p) : nI 1 = bz p := (bz_t h).symm
theorem bz_z {p : Prop} [Decidable p] (h : ¬ p) : nI 0 = bz p := (bz_f h).symm
section BoolRows
variable {E : zE} {cc : ByteArray} {F : zF} {pc q : Nat} {lv : List (Option Value)} {r : List Value} {M : zM} {c s : Nat}
theorem g_ifb_eq {p : Prop} [Decidable p] {off : Int} {t : Nat} (hd : decode cc pc = .ok (.ifCond .eq off, 3)) (ht : (pc : Int) + off = (t : Int)) (hq : pc + 3 = q) (kt : ¬ p → Go E cc F t lv r M c s) (kf : p → Go E cc F q lv r M c s) : Go E cc F pc lv (.int (bz p) :: r) M c s := by
  refine g_if_eq hd ht hq (fun h => kt (bz_0.mp h)) (fun h => kf ?_)
  exact Classical.byContradiction (fun hp => h (bz_0.mpr hp))
theorem g_ifb_ne {p : Prop} [Decidable p] {off : Int} {t : Nat} (hd : decode cc pc = .ok (.ifCond .ne off, 3)) (ht : (pc : Int) + off = (t : Int)) (hq : pc + 3 = q) (kt : p → Go E cc F t lv r M c s) (kf : ¬ p → Go E cc F q lv r M c s) : Go E cc F pc lv (.int (bz p) :: r) M c s := by
  refine g_if_ne hd ht hq (fun h => kt ?_) (fun h => kf (bz_0.mp h))
  exact Classical.byContradiction (fun hp => h (bz_0.mpr hp))
/-- lcmp and a branch: equal or not -/
theorem g_lce {x y : Int64} {off : Int} {t : Nat} (hd : decode cc pc = .ok (.ifCond .eq off, 3)) (ht : (pc : Int) + off = (t : Int)) (hq : pc + 3 = q) (kt : x = y → Go E cc F t lv r M c s) (kf : ¬ x = y → Go E cc F q lv r M c s) : Go E cc F pc lv (.int (lg_cmp x y) :: r) M c s :=
  g_if_eq hd ht hq (fun h => kt (lg_cmp_0.mp h)) (fun h => kf (fun e => h (lg_cmp_0.mpr e)))
theorem g_lcn {x y : Int64} {off : Int} {t : Nat} (hd : decode cc pc = .ok (.ifCond .ne off, 3)) (ht : (pc : Int) + off = (t : Int)) (hq : pc + 3 = q) (kt : ¬ x = y → Go E cc F t lv r M c s) (kf : x = y → Go E cc F q lv r M c s) : Go E cc F pc lv (.int (lg_cmp x y) :: r) M c s :=
  g_if_ne hd ht hq (fun h => kt (fun e => h (lg_cmp_0.mpr e))) (fun h => kf (lg_cmp_0.mp h))
end BoolRows
/-- a loop that counts up -/
theorem up_ind {P : Nat → Prop} (n : Nat) (h : ∀ p, p ≤ n → (p < n → P (p + 1)) → P p) : ∀ p, p ≤ n → P p := by
  have key : ∀ k p, p + k = n → P p := by
    intro k
    induction k with
    | zero => intro p hp; exact h p (by omega) (fun h => by omega)
    | succ k ih => intro p hp; exact h p (by omega) (fun _ => ih (p + 1) (by omega))
  exact fun p hp => key (n - p) p (by omega)
/-- a loop that counts down -/
theorem dn_ind {P : Nat → Prop} (h : ∀ p, (∀ p', p' + 1 = p → P p') → P p) : ∀ p, P p
  | 0 => h 0 (fun p' e => by omega)
  | p + 1 => h (p + 1) (fun p' e => by
      obtain rfl : p' = p := by omega
      exact dn_ind h p')
/-- by a measure -/
theorem ms_ind {α : Type} (μ : α → Nat) {P : α → Prop} (h : ∀ x, (∀ y, μ y < μ x → P y) → P x) : ∀ x, P x := by
  have key : ∀ n x, μ x < n → P x := by
    intro n
    induction n with
    | zero => intro x hx; omega
    | succ n ih => intro x hx; exact h x (fun y hy => ih y (by omega))
  exact fun x => key (μ x + 1) x (by omega)
