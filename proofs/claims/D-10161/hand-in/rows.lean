section
/-! the expectation over worlds, scaled by ten a row -/
def zq_up (w : Nat → Bool) (k : Nat) (b : Bool) : Nat → Bool := fun i => if i = k then b else w i
theorem zq_up_s (w : Nat → Bool) (k : Nat) (b : Bool) : zq_up w k b k = b := if_pos rfl
theorem zq_up_n (w : Nat → Bool) {k i : Nat} (b : Bool) (h : i ≠ k) : zq_up w k b i = w i := if_neg h
theorem zq_up_up (w : Nat → Bool) (k : Nat) (b c : Bool) : zq_up (zq_up w k c) k b = zq_up w k b := by
  funext i
  by_cases h : i = k
  · subst h
    rw [zq_up_s, zq_up_s]
  · rw [zq_up_n _ _ h, zq_up_n _ _ h, zq_up_n _ _ h]
theorem zq_up_comm (w : Nat → Bool) {j k : Nat} (b c : Bool) (h : j ≠ k) : zq_up (zq_up w j b) k c = zq_up (zq_up w k c) j b := by
  funext i
  by_cases h1 : i = k
  · subst h1
    rw [zq_up_s, zq_up_n _ _ (fun e => h e.symm), zq_up_s]
  · rw [zq_up_n _ _ h1]
    by_cases h2 : i = j
    · subst h2
      rw [zq_up_s, zq_up_s]
    · rw [zq_up_n _ _ h2, zq_up_n _ _ h2, zq_up_n _ _ h1]
def zq_E (R : Nat → Bool) (p q : Nat → Nat) (f : (Nat → Bool) → Nat) : Nat → (Nat → Bool) → Nat
  | 0, w => f w
  | k + 1, w => if R k = true then p k * zq_E R p q f k (zq_up w k true) + q k * zq_E R p q f k (zq_up w k false) else zq_E R p q f k w
def zq_c (R : Nat → Bool) : Nat → Nat
  | 0 => 0
  | k + 1 => if R k = true then zq_c R k + 1 else zq_c R k
section
variable {R R1 R2 : Nat → Bool} {p q p1 q1 p2 q2 : Nat → Nat} {f g : (Nat → Bool) → Nat}
theorem zq_E_t {k : Nat} {w : Nat → Bool} (h : R k = true) : zq_E R p q f (k + 1) w = p k * zq_E R p q f k (zq_up w k true) + q k * zq_E R p q f k (zq_up w k false) := if_pos h
theorem zq_E_f {k : Nat} {w : Nat → Bool} (h : R k = false) : zq_E R p q f (k + 1) w = zq_E R p q f k w := if_neg (by rw [h]; exact Bool.false_ne_true)
theorem zq_c_t {k : Nat} (h : R k = true) : zq_c R (k + 1) = zq_c R k + 1 := if_pos h
theorem zq_c_f {k : Nat} (h : R k = false) : zq_c R (k + 1) = zq_c R k := if_neg (by rw [h]; exact Bool.false_ne_true)
/-- what doesn't look at row j has an expectation that doesn't either -/
theorem zq_E_ind {j : Nat} (hf : ∀ w b, f (zq_up w j b) = f w) (k : Nat) (w : Nat → Bool) (b : Bool) : zq_E R p q f k (zq_up w j b) = zq_E R p q f k w := by
  induction k generalizing w with
  | zero => exact hf w b
  | succ k ih =>
    cases h : R k
    · rw [zq_E_f h, zq_E_f h, ih]
    · rw [zq_E_t h, zq_E_t h]
      by_cases e : j = k
      · subst e
        rw [zq_up_up, zq_up_up]
      · rw [zq_up_comm w b true e, zq_up_comm w b false e, ih, ih]
theorem zq_m1 (p q A B C : Nat) : p * (A * B) + q * (A * C) = A * (p * B + q * C) := by
  rw [Nat.mul_add, Nat.mul_left_comm p, Nat.mul_left_comm q]
theorem zq_m2 (p q A B C : Nat) : p * (B * A) + q * (C * A) = (p * B + q * C) * A := by
  rw [Nat.add_mul, Nat.mul_assoc, Nat.mul_assoc]
/-- independent things: expectations are multiplied -/
theorem zq_E_mul (hR : ∀ k, R k = (R1 k || R2 k)) (hd : ∀ k, R1 k = true → R2 k = true → False) (hf : ∀ k, R2 k = true → ∀ w b, f (zq_up w k b) = f w) (hg : ∀ k, R1 k = true → ∀ w b, g (zq_up w k b) = g w) (k : Nat) (w : Nat → Bool) :
    zq_E R p q (fun w => f w * g w) k w = zq_E R1 p q f k w * zq_E R2 p q g k w := by
  induction k generalizing w with
  | zero => rfl
  | succ k ih =>
    cases h1 : R1 k
    · cases h2 : R2 k
      · have hk : R k = false := by rw [hR, h1, h2]; rfl
        rw [zq_E_f hk, zq_E_f h1, zq_E_f h2, ih]
      · have hk : R k = true := by rw [hR, h1, h2]; rfl
        rw [zq_E_t hk, zq_E_f h1, zq_E_t h2, ih, ih, zq_E_ind (hf k h2), zq_E_ind (hf k h2), zq_m1]
    · cases h2 : R2 k
      · have hk : R k = true := by rw [hR, h1, h2]; rfl
        rw [zq_E_t hk, zq_E_t h1, zq_E_f h2, ih, ih, zq_E_ind (hg k h1), zq_E_ind (hg k h1), zq_m2]
      · exact (hd k h1 h2).elim
theorem zq_c_add (hR : ∀ k, R k = (R1 k || R2 k)) (hd : ∀ k, R1 k = true → R2 k = true → False) (k : Nat) : zq_c R k = zq_c R1 k + zq_c R2 k := by
  induction k with
  | zero => rfl
  | succ k ih =>
    cases h1 : R1 k
    · cases h2 : R2 k
      · have hk : R k = false := by rw [hR, h1, h2]; rfl
        rw [zq_c_f hk, zq_c_f h1, zq_c_f h2, ih]
      · have hk : R k = true := by rw [hR, h1, h2]; rfl
        rw [zq_c_t hk, zq_c_f h1, zq_c_t h2, ih]
        omega
    · cases h2 : R2 k
      · have hk : R k = true := by rw [hR, h1, h2]; rfl
        rw [zq_c_t hk, zq_c_t h1, zq_c_f h2, ih]
        omega
      · exact (hd k h1 h2).elim
theorem zq_c_mono (h : ∀ i, R1 i = true → R2 i = true) (k : Nat) : zq_c R1 k ≤ zq_c R2 k := by
  induction k with
  | zero => exact Nat.le_refl _
  | succ k ih =>
    cases h1 : R1 k
    · rw [zq_c_f h1]
      cases h2 : R2 k
      · rw [zq_c_f h2]
        exact ih
      · rw [zq_c_t h2]
        omega
    · rw [zq_c_t h1, zq_c_t (h k h1)]
      omega
theorem zq_c_congr {k : Nat} (h : ∀ i, i < k → R1 i = R2 i) : zq_c R1 k = zq_c R2 k := by
  induction k with
  | zero => rfl
  | succ k ih =>
    have e := ih (fun i hi => h i (by omega))
    have ek := h k (by omega)
    cases h1 : R1 k
    · rw [zq_c_f h1, zq_c_f (by rw [← ek]; exact h1), e]
    · rw [zq_c_t h1, zq_c_t (by rw [← ek]; exact h1), e]
theorem zq_E_add (k : Nat) (w : Nat → Bool) : zq_E R p q (fun w => f w + g w) k w = zq_E R p q f k w + zq_E R p q g k w := by
  induction k generalizing w with
  | zero => rfl
  | succ k ih =>
    cases h : R k
    · rw [zq_E_f h, zq_E_f h, zq_E_f h, ih]
    · rw [zq_E_t h, zq_E_t h, zq_E_t h, ih, ih, Nat.mul_add, Nat.mul_add]
      omega
theorem zq_E_one (h : ∀ i, R i = true → p i + q i = 10) (k : Nat) (w : Nat → Bool) : zq_E R p q (fun _ => 1) k w = 10 ^ zq_c R k := by
  induction k generalizing w with
  | zero => rfl
  | succ k ih =>
    cases hk : R k
    · rw [zq_E_f hk, zq_c_f hk, ih]
    · rw [zq_E_t hk, zq_c_t hk, ih, ih, ← Nat.add_mul, h k hk, Nat.pow_succ, Nat.mul_comm]
theorem zq_E_fun (h : ∀ w, f w = g w) (k : Nat) (w : Nat → Bool) : zq_E R p q f k w = zq_E R p q g k w := by
  rw [show f = g from funext h]
theorem zq_E_not (h : ∀ i, R i = true → p i + q i = 10) (hfg : ∀ w, f w + g w = 1) (k : Nat) (w : Nat → Bool) : zq_E R p q f k w + zq_E R p q g k w = 10 ^ zq_c R k := by
  rw [← zq_E_add, ← zq_E_one h k w]
  exact zq_E_fun hfg k w
theorem zq_E_congr {k : Nat} (h : ∀ i, i < k → R i = true → p1 i = p2 i ∧ q1 i = q2 i) (w : Nat → Bool) : zq_E R p1 q1 f k w = zq_E R p2 q2 f k w := by
  induction k generalizing w with
  | zero => rfl
  | succ k ih =>
    have e := ih (fun i hi => h i (by omega))
    cases hk : R k
    · rw [zq_E_f hk, zq_E_f hk, e]
    · rw [zq_E_t hk, zq_E_t hk, e, e, (h k (by omega) hk).1, (h k (by omega) hk).2]
theorem zq_E_rcongr {k : Nat} (h : ∀ i, i < k → R1 i = R2 i) (w : Nat → Bool) : zq_E R1 p q f k w = zq_E R2 p q f k w := by
  induction k generalizing w with
  | zero => rfl
  | succ k ih =>
    have e := ih (fun i hi => h i (by omega))
    have ek := h k (by omega)
    cases h1 : R1 k
    · rw [zq_E_f h1, zq_E_f (by rw [← ek]; exact h1), e]
    · rw [zq_E_t h1, zq_E_t (by rw [← ek]; exact h1), e, e]
theorem zq_m3 (a b c d A1 A2 B1 B2 A B : Nat) (hA : 10 * A = c * A1 + d * A2) (hB : 10 * B = c * B1 + d * B2) : 10 * (a * A + b * B) = c * (a * A1 + b * B1) + d * (a * A2 + b * B2) := by
  have e1 : 10 * (a * A + b * B) = a * (10 * A) + b * (10 * B) := by
    rw [Nat.mul_add, Nat.mul_left_comm, Nat.mul_left_comm 10 b]
  rw [e1, hA, hB]
  grind
/-- the expectation is affine in each row's weight -/
theorem zq_E_aff {j k : Nat} (hj : j < k) (hR : R j = true) (a1 : p1 j = 10) (b1 : q1 j = 0) (a2 : p2 j = 0) (b2 : q2 j = 10)
    (h1 : ∀ i, i ≠ j → p1 i = p i ∧ q1 i = q i) (h2 : ∀ i, i ≠ j → p2 i = p i ∧ q2 i = q i) (w : Nat → Bool) :
    10 * zq_E R p q f k w = p j * zq_E R p1 q1 f k w + q j * zq_E R p2 q2 f k w := by
  induction k generalizing w with
  | zero => omega
  | succ k ih =>
    by_cases e : j = k
    · subst e
      rw [zq_E_t hR, zq_E_t hR, zq_E_t hR, a1, b1, a2, b2]
      have e1 : ∀ w, zq_E R p1 q1 f j w = zq_E R p q f j w := zq_E_congr (fun i hi _ => h1 i (by omega))
      have e2 : ∀ w, zq_E R p2 q2 f j w = zq_E R p q f j w := zq_E_congr (fun i hi _ => h2 i (by omega))
      rw [e1, e1, e2, e2]
      grind
    · have hk : j < k := by omega
      cases h : R k
      · rw [zq_E_f h, zq_E_f h, zq_E_f h]
        exact ih hk w
      · rw [zq_E_t h, zq_E_t h, zq_E_t h, (h1 k (by omega)).1, (h1 k (by omega)).2, (h2 k (by omega)).1, (h2 k (by omega)).2]
        exact zq_m3 _ _ _ _ _ _ _ _ _ _ (ih hk _) (ih hk _)
theorem zq_E_ten {j k : Nat} (hj : j < k) (hR : R j = true) (h : (p j = 10 ∧ q j = 0) ∨ (p j = 0 ∧ q j = 10)) (w : Nat → Bool) : ∃ X, zq_E R p q f k w = 10 * X := by
  induction k generalizing w with
  | zero => omega
  | succ k ih =>
    by_cases e : j = k
    · subst e
      rw [zq_E_t hR]
      rcases h with ⟨a, b⟩ | ⟨a, b⟩
      · rw [a, b]
        exact ⟨zq_E R p q f j (zq_up w j true), by omega⟩
      · rw [a, b]
        exact ⟨zq_E R p q f j (zq_up w j false), by omega⟩
    · have hk : j < k := by omega
      cases h' : R k
      · rw [zq_E_f h']
        exact ih hk w
      · rw [zq_E_t h']
        obtain ⟨X, hX⟩ := ih hk (zq_up w k true)
        obtain ⟨Y, hY⟩ := ih hk (zq_up w k false)
        refine ⟨p k * X + q k * Y, ?_⟩
        rw [hX, hY, Nat.mul_add, Nat.mul_left_comm, Nat.mul_left_comm (q k)]
/-- all rows decided: the one world that is left -/
theorem zq_E_vert {k : Nat} (h : ∀ i, i < k → R i = true → (p i = 10 ∧ q i = 0) ∨ (p i = 0 ∧ q i = 10)) (w : Nat → Bool) :
    zq_E R p q f k w = 10 ^ zq_c R k * f (fun i => if i < k ∧ R i = true then decide (p i = 10) else w i) := by
  induction k generalizing w with
  | zero =>
    show f w = 10 ^ 0 * f _
    rw [Nat.pow_zero, Nat.one_mul]
    congr 1
  | succ k ih =>
    have e := ih (fun i hi => h i (by omega))
    cases hk : R k
    · rw [zq_E_f hk, zq_c_f hk, e]
      congr 2
      funext i
      by_cases c : i < k ∧ R i = true
      · rw [if_pos c, if_pos ⟨by omega, c.2⟩]
      · rw [if_neg c, if_neg]
        intro c'
        by_cases ei : i = k
        · subst ei
          rw [hk] at c'
          exact Bool.false_ne_true c'.2
        · exact c ⟨by omega, c'.2⟩
    · rw [zq_E_t hk, zq_c_t hk, e, e]
      have ew : ∀ b : Bool, decide (p k = 10) = b → (fun i => if i < k ∧ R i = true then decide (p i = 10) else zq_up w k b i) = (fun i => if i < k + 1 ∧ R i = true then decide (p i = 10) else w i) := by
        intro b hb
        funext i
        by_cases ei : i = k
        · subst ei
          rw [if_neg (fun c => absurd c.1 (by omega)), if_pos ⟨by omega, hk⟩, zq_up_s, hb]
        · rw [zq_up_n _ _ ei]
          by_cases c : i < k ∧ R i = true
          · rw [if_pos c, if_pos ⟨by omega, c.2⟩]
          · rw [if_neg c, if_neg (fun c' => c ⟨by omega, c'.2⟩)]
      rcases h k (by omega) hk with ⟨a, b⟩ | ⟨a, b⟩
      · rw [ew true (by rw [a]; rfl), a, b, Nat.zero_mul, Nat.add_zero, Nat.pow_succ, ← Nat.mul_assoc, Nat.mul_comm 10]
      · rw [ew false (by rw [a]; rfl), a, b, Nat.zero_mul, Nat.zero_add, Nat.pow_succ, ← Nat.mul_assoc, Nat.mul_comm 10]
theorem zq_E_none {k : Nat} (h : ∀ i, i < k → R i = false) (w : Nat → Bool) : zq_E R p q f k w = f w ∧ zq_c R k = 0 := by
  induction k generalizing w with
  | zero => exact ⟨rfl, rfl⟩
  | succ k ih =>
    rw [zq_E_f (h k (by omega)), zq_c_f (h k (by omega))]
    exact ih (fun i hi => h i (by omega)) w
theorem zq_E_single {j k : Nat} (hj : j < k) (h : ∀ i, R i = true ↔ i = j) (w : Nat → Bool) : zq_E R p q f k w = p j * f (zq_up w j true) + q j * f (zq_up w j false) ∧ zq_c R k = 1 := by
  induction k generalizing w with
  | zero => omega
  | succ k ih =>
    have hn : ∀ i, i ≠ j → R i = false := fun i hi => by
      cases e : R i
      · rfl
      · exact absurd ((h i).mp e) hi
    by_cases e : j = k
    · subst e
      have ht := (h j).mpr rfl
      have z := fun w => zq_E_none (p := p) (q := q) (f := f) (R := R) (k := j) (fun i hi => hn i (by omega)) w
      rw [zq_E_t ht, zq_c_t ht, (z _).1, (z _).1, (z w).2]
      exact ⟨rfl, rfl⟩
    · rw [zq_E_f (hn k (by omega)), zq_c_f (hn k (by omega))]
      exact ih (by omega) w
theorem zq_E_five {k : Nat} (h : ∀ i, i < k → R i = true → p i = 5 ∧ q i = 5) (w : Nat → Bool) (hf : 1 ≤ f (fun i => if i < k ∧ R i = true then true else w i)) : 5 ^ zq_c R k ≤ zq_E R p q f k w := by
  induction k generalizing w with
  | zero =>
    have e : (fun i => if i < 0 ∧ R i = true then true else w i) = w := funext (fun i => if_neg (fun c => absurd c.1 (by omega)))
    rw [e] at hf
    exact hf
  | succ k ih =>
    cases hk : R k
    · rw [zq_E_f hk, zq_c_f hk]
      refine ih (fun i hi => h i (by omega)) w ?_
      have ew : (fun i => if i < k ∧ R i = true then true else w i) = (fun i => if i < k + 1 ∧ R i = true then true else w i) := by
        funext i
        by_cases c : i < k ∧ R i = true
        · rw [if_pos c, if_pos ⟨by omega, c.2⟩]
        · rw [if_neg c, if_neg]
          intro c'
          by_cases ei : i = k
          · subst ei
            rw [hk] at c'
            exact Bool.false_ne_true c'.2
          · exact c ⟨by omega, c'.2⟩
      rw [ew]
      exact hf
    · rw [zq_E_t hk, zq_c_t hk, (h k (by omega) hk).1, (h k (by omega) hk).2]
      have ew : (fun i => if i < k ∧ R i = true then true else zq_up w k true i) = (fun i => if i < k + 1 ∧ R i = true then true else w i) := by
        funext i
        by_cases ei : i = k
        · subst ei
          rw [if_neg (fun c => absurd c.1 (by omega)), if_pos ⟨by omega, hk⟩, zq_up_s]
        · rw [zq_up_n _ _ ei]
          by_cases c : i < k ∧ R i = true
          · rw [if_pos c, if_pos ⟨by omega, c.2⟩]
          · rw [if_neg c, if_neg (fun c' => c ⟨by omega, c'.2⟩)]
      have t := ih (fun i hi => h i (by omega)) (zq_up w k true) (by rw [ew]; exact hf)
      rw [Nat.pow_succ]
      omega
theorem zq_E_zero {k : Nat} (w : Nat → Bool) (hf : ∀ v : Nat → Bool, (∀ i, v i = true → w i = true ∨ R i = true) → f v = 0) : zq_E R p q f k w = 0 := by
  induction k generalizing w with
  | zero => exact hf w (fun i hi => Or.inl hi)
  | succ k ih =>
    cases hk : R k
    · rw [zq_E_f hk]
      exact ih w hf
    · have z : ∀ b, zq_E R p q f k (zq_up w k b) = 0 := fun b => ih _ (fun v hv => hf v (fun i hi => by
        by_cases ei : i = k
        · subst ei
          exact Or.inr hk
        · have t := hv i hi
          rw [zq_up_n _ _ ei] at t
          exact t))
      rw [zq_E_t hk, z, z]
      rfl
end
end
section
/-! the query in a world; its parts -/
def zq_Q (F G : Nat → Nat) (S : Nat → Bool) (V : Nat → Nat) (w : Nat → Bool) : Prop :=
  ∃ t : Nat → Nat, (∀ x, t x < 3) ∧ (∀ x, x < 3 → V x ≠ 3 → t x = V x) ∧ ∀ r, S r = true → w (9 * r + 3 * t (F r) + t (G r)) = true
noncomputable def zq_i (P : Prop) : Nat := @ite Nat P (Classical.propDecidable P) 1 0
theorem zq_i_t {P : Prop} (h : P) : zq_i P = 1 := @if_pos P (Classical.propDecidable P) h Nat 1 0
theorem zq_i_f {P : Prop} (h : ¬ P) : zq_i P = 0 := @if_neg P (Classical.propDecidable P) h Nat 1 0
theorem zq_i_c {P Q : Prop} (h : P ↔ Q) : zq_i P = zq_i Q := by rw [propext h]
theorem zq_i_and {P Q T : Prop} (h : T ↔ P ∧ Q) : zq_i T = zq_i P * zq_i Q := by
  by_cases hp : P
  · by_cases hq : Q
    · rw [zq_i_t hp, zq_i_t hq, zq_i_t (h.mpr ⟨hp, hq⟩)]
    · rw [zq_i_t hp, zq_i_f hq, zq_i_f (fun t => hq (h.mp t).2)]
  · rw [zq_i_f hp, zq_i_f (fun t => hp (h.mp t).1), Nat.zero_mul]
theorem zq_i_not (P : Prop) : zq_i P + zq_i (¬ P) = 1 := by
  by_cases hp : P
  · rw [zq_i_t hp, zq_i_f (fun t => t hp)]
  · rw [zq_i_f hp, zq_i_t hp]
theorem zq_i_le (P : Prop) : zq_i P ≤ 1 := by
  have := zq_i_not P
  omega
/-- the rows that a set of atoms may look at under values -/
def zq_R (L : Nat → Bool) (F G : Nat → Nat) (S : Nat → Bool) (V : Nat → Nat) (i : Nat) : Bool :=
  L i && (S (i / 9) && decide ((V (F (i / 9)) = 3 ∨ V (F (i / 9)) = i / 3 % 3) ∧ (V (G (i / 9)) = 3 ∨ V (G (i / 9)) = i % 3) ∧ (F (i / 9) = G (i / 9) → i / 3 % 3 = i % 3)))
theorem zq_R_iff {L : Nat → Bool} {F G : Nat → Nat} {S : Nat → Bool} {V : Nat → Nat} {i : Nat} : zq_R L F G S V i = true ↔
    L i = true ∧ S (i / 9) = true ∧ (V (F (i / 9)) = 3 ∨ V (F (i / 9)) = i / 3 % 3) ∧ (V (G (i / 9)) = 3 ∨ V (G (i / 9)) = i % 3) ∧ (F (i / 9) = G (i / 9) → i / 3 % 3 = i % 3) := by
  unfold zq_R
  rw [Bool.and_eq_true, Bool.and_eq_true, decide_eq_true_iff]
theorem zq_b_iff {a b : Bool} (h : a = true ↔ b = true) : a = b := Bool.eq_iff_iff.mpr h
theorem zq_gr {r a b : Nat} (ha : a < 3) (hb : b < 3) : (9 * r + 3 * a + b) / 9 = r ∧ (9 * r + 3 * a + b) / 3 % 3 = a ∧ (9 * r + 3 * a + b) % 3 = b := by
  refine ⟨?_, ?_, ?_⟩ <;> omega
theorem zq_Q_ind {F G : Nat → Nat} {S : Nat → Bool} {V : Nat → Nat} {k : Nat}
    (h : ∀ t : Nat → Nat, (∀ x, t x < 3) → (∀ x, x < 3 → V x ≠ 3 → t x = V x) → ∀ r, S r = true → 9 * r + 3 * t (F r) + t (G r) ≠ k) (w : Nat → Bool) (b : Bool) :
    zq_Q F G S V (zq_up w k b) ↔ zq_Q F G S V w := by
  constructor
  · rintro ⟨t, h1, h2, h3⟩
    refine ⟨t, h1, h2, fun r hr => ?_⟩
    have z := h3 r hr
    rw [zq_up_n _ _ (h t h1 h2 r hr)] at z
    exact z
  · rintro ⟨t, h1, h2, h3⟩
    refine ⟨t, h1, h2, fun r hr => ?_⟩
    rw [zq_up_n _ _ (h t h1 h2 r hr)]
    exact h3 r hr
noncomputable def zq_s (L : Nat → Bool) (P : Nat → Nat) (F G : Nat → Nat) (S : Nat → Bool) (V : Nat → Nat) : Nat :=
  zq_E (zq_R L F G S V) P (fun i => 10 - P i) (fun w => zq_i (zq_Q F G S V w)) 36 (fun _ => false)
def zq_e (L : Nat → Bool) (F G : Nat → Nat) (S : Nat → Bool) (V : Nat → Nat) : Nat := zq_c (zq_R L F G S V) 36
section
variable {L : Nat → Bool} {P F G : Nat → Nat} {S S1 S2 : Nat → Bool} {V : Nat → Nat}
theorem zq_pq (hP : ∀ i, L i = true → P i ≤ 10) : ∀ i, zq_R L F G S V i = true → P i + (10 - P i) = 10 := by
  intro i hi
  have := hP i (zq_R_iff.mp hi).1
  omega
theorem zq_s_le (hP : ∀ i, L i = true → P i ≤ 10) : zq_s L P F G S V ≤ 10 ^ zq_e L F G S V := by
  have := zq_E_not (zq_pq (F := F) (G := G) (S := S) (V := V) hP) (fun w => zq_i_not (zq_Q F G S V w)) 36 (fun _ => false)
  unfold zq_s zq_e
  omega
/-- the query splits where no open variable is shared -/
theorem zq_Q_and (hF : ∀ r, S r = true → F r < 3 ∧ G r < 3) (hu : ∀ r, S r = (S1 r || S2 r))
    (hx : ∀ x r1 r2, x < 3 → V x = 3 → S1 r1 = true → S2 r2 = true → (F r1 = x ∨ G r1 = x) → (F r2 = x ∨ G r2 = x) → False) (w : Nat → Bool) :
    zq_Q F G S V w ↔ zq_Q F G S1 V w ∧ zq_Q F G S2 V w := by
  have i1 : ∀ r, S1 r = true → S r = true := fun r h => by rw [hu, h]; rfl
  have i2 : ∀ r, S2 r = true → S r = true := fun r h => by rw [hu, h]; exact Bool.or_true _
  constructor
  · rintro ⟨t, h1, h2, h3⟩
    exact ⟨⟨t, h1, h2, fun r hr => h3 r (i1 r hr)⟩, ⟨t, h1, h2, fun r hr => h3 r (i2 r hr)⟩⟩
  · rintro ⟨⟨t, h1, h2, h3⟩, ⟨u, k1, k2, k3⟩⟩
    let c : Nat → Prop := fun x => ∃ r, S1 r = true ∧ (F r = x ∨ G r = x)
    let m : Nat → Nat := fun x => @ite Nat (c x) (Classical.propDecidable _) (t x) (u x)
    have mt : ∀ x, c x → m x = t x := fun x h => @if_pos (c x) (Classical.propDecidable _) h Nat _ _
    have mu : ∀ x, ¬ c x → m x = u x := fun x h => @if_neg (c x) (Classical.propDecidable _) h Nat _ _
    have m2 : ∀ x r, S2 r = true → x < 3 → (F r = x ∨ G r = x) → m x = u x := by
      intro x r hr hx3 hv
      by_cases h : c x
      · obtain ⟨r1, a, b⟩ := h
        have hv3 : V x ≠ 3 := fun e => hx x r1 r hx3 e a hr b hv
        rw [mt x ⟨r1, a, b⟩, h2 x hx3 hv3, k2 x hx3 hv3]
      · exact mu x h
    refine ⟨m, fun x => ?_, fun x hx3 hv => ?_, fun r hr => ?_⟩
    · by_cases h : c x
      · rw [mt x h]
        exact h1 x
      · rw [mu x h]
        exact k1 x
    · by_cases h : c x
      · rw [mt x h]
        exact h2 x hx3 hv
      · rw [mu x h]
        exact k2 x hx3 hv
    · cases e : S1 r
      · have e2 : S2 r = true := by
          have t := hu r
          rw [hr, e] at t
          exact t.symm
        rw [m2 (F r) r e2 (hF r hr).1 (Or.inl rfl), m2 (G r) r e2 (hF r hr).2 (Or.inr rfl)]
        exact k3 r e2
      · rw [mt (F r) ⟨r, e, Or.inl rfl⟩, mt (G r) ⟨r, e, Or.inr rfl⟩]
        exact h3 r e
theorem zq_R_or (hu : ∀ r, S r = (S1 r || S2 r)) (i : Nat) : zq_R L F G S V i = (zq_R L F G S1 V i || zq_R L F G S2 V i) := by
  unfold zq_R
  rw [hu]
  cases L i <;> cases S1 (i / 9) <;> cases S2 (i / 9) <;> simp
theorem zq_R_dis (hd : ∀ r, S1 r = true → S2 r = true → False) (i : Nat) : zq_R L F G S1 V i = true → zq_R L F G S2 V i = true → False :=
  fun a b => hd _ (zq_R_iff.mp a).2.1 (zq_R_iff.mp b).2.1
theorem zq_Q_dis (hd : ∀ r, S1 r = true → S2 r = true → False) (k : Nat) (hk : zq_R L F G S2 V k = true) (w : Nat → Bool) (b : Bool) : zq_i (zq_Q F G S1 V (zq_up w k b)) = zq_i (zq_Q F G S1 V w) := by
  refine zq_i_c (zq_Q_ind (fun t h1 _ r hr e => ?_) w b)
  have z := zq_gr (r := r) (h1 (F r)) (h1 (G r))
  rw [e] at z
  exact hd r hr (by rw [← z.1]; exact (zq_R_iff.mp hk).2.1)
theorem zq_s_mul (hF : ∀ r, S r = true → F r < 3 ∧ G r < 3) (hu : ∀ r, S r = (S1 r || S2 r)) (hd : ∀ r, S1 r = true → S2 r = true → False)
    (hx : ∀ x r1 r2, x < 3 → V x = 3 → S1 r1 = true → S2 r2 = true → (F r1 = x ∨ G r1 = x) → (F r2 = x ∨ G r2 = x) → False) :
    zq_s L P F G S V = zq_s L P F G S1 V * zq_s L P F G S2 V := by
  unfold zq_s
  rw [← zq_E_mul (zq_R_or hu) (zq_R_dis hd) (fun k hk w b => zq_Q_dis hd k hk w b) (fun k hk w b => zq_Q_dis (fun r a c => hd r c a) k hk w b)]
  exact zq_E_fun (fun w => zq_i_and (zq_Q_and hF hu hx w)) _ _
theorem zq_e_add (hu : ∀ r, S r = (S1 r || S2 r)) (hd : ∀ r, S1 r = true → S2 r = true → False) : zq_e L F G S V = zq_e L F G S1 V + zq_e L F G S2 V :=
  zq_c_add (zq_R_or hu) (zq_R_dis hd) 36
/-- the empty set of atoms -/
theorem zq_s_nil (hV : ∀ x, V x ≤ 3) (h : ∀ r, S r = false) : zq_s L P F G S V = 1 ∧ zq_e L F G S V = 0 := by
  have hn : ∀ i, i < 36 → zq_R L F G S V i = false := fun i _ => by
    unfold zq_R
    rw [h]
    cases L i <;> rfl
  have z := zq_E_none (p := P) (q := fun i => 10 - P i) (f := fun w => zq_i (zq_Q F G S V w)) hn (fun _ => false)
  refine ⟨z.1.trans (zq_i_t ?_), z.2⟩
  refine ⟨fun x => if V x < 3 then V x else 0, fun x => ?_, fun x hx hv => ?_, fun r hr => ?_⟩
  · dsimp only
    split <;> omega
  · have := hV x
    show (if V x < 3 then V x else 0) = V x
    rw [if_pos (by omega)]
  · rw [h] at hr
    exact absurd hr Bool.false_ne_true
end
end
section
/-! cases of a variable, one ground atom, decided rows, the whole -/
def zq_vs (V : Nat → Nat) (x c : Nat) : Nat → Nat := fun y => if y = x then c else V y
theorem zq_vs_s (V : Nat → Nat) (x c : Nat) : zq_vs V x c x = c := if_pos rfl
theorem zq_vs_n (V : Nat → Nat) {x y : Nat} (c : Nat) (h : y ≠ x) : zq_vs V x c y = V y := if_neg h
section
variable {L : Nat → Bool} {P F G : Nat → Nat} {S : Nat → Bool} {V : Nat → Nat} {x : Nat}
theorem zq_Q_case (hx : V x = 3) (w : Nat → Bool) : zq_Q F G S V w ↔ ∃ c, c < 3 ∧ zq_Q F G S (zq_vs V x c) w := by
  constructor
  · rintro ⟨t, h1, h2, h3⟩
    refine ⟨t x, h1 x, t, h1, fun y hy hv => ?_, h3⟩
    by_cases e : y = x
    · rw [e, zq_vs_s]
    · rw [zq_vs_n _ _ e] at hv ⊢
      exact h2 y hy hv
  · rintro ⟨c, hc, t, h1, h2, h3⟩
    refine ⟨t, h1, fun y hy hv => ?_, h3⟩
    have e : y ≠ x := fun e => hv (by rw [e, hx])
    rw [← zq_vs_n V c e]
    exact h2 y hy (by rw [zq_vs_n _ _ e]; exact hv)
theorem zq_R_sub (hx : V x = 3) {c i : Nat} (h : zq_R L F G S (zq_vs V x c) i = true) : zq_R L F G S V i = true := by
  have z := zq_R_iff.mp h
  refine zq_R_iff.mpr ⟨z.1, z.2.1, ?_, ?_, z.2.2.2.2⟩
  · by_cases e : F (i / 9) = x
    · rw [e, hx]
      exact Or.inl rfl
    · have t := z.2.2.1
      rw [zq_vs_n _ _ e] at t
      exact t
  · by_cases e : G (i / 9) = x
    · rw [e, hx]
      exact Or.inl rfl
    · have t := z.2.2.2.1
      rw [zq_vs_n _ _ e] at t
      exact t
/-- a row's own case -/
theorem zq_R_case (hx : V x = 3) (ha : ∀ r, S r = true → F r = x ∨ G r = x) {i : Nat} (h : zq_R L F G S V i = true) : ∃ c, c < 3 ∧ zq_R L F G S (zq_vs V x c) i = true := by
  have z := zq_R_iff.mp h
  by_cases e : F (i / 9) = x
  · refine ⟨i / 3 % 3, by omega, zq_R_iff.mpr ⟨z.1, z.2.1, ?_, ?_, z.2.2.2.2⟩⟩
    · rw [e, zq_vs_s]
      exact Or.inr rfl
    · by_cases e2 : G (i / 9) = x
      · rw [e2, zq_vs_s]
        exact Or.inr (z.2.2.2.2 (e.trans e2.symm))
      · rw [zq_vs_n _ _ e2]
        exact z.2.2.2.1
  · have e2 : G (i / 9) = x := by
      rcases ha _ z.2.1 with a | a
      · exact absurd a e
      · exact a
    refine ⟨i % 3, by omega, zq_R_iff.mpr ⟨z.1, z.2.1, ?_, ?_, z.2.2.2.2⟩⟩
    · rw [zq_vs_n _ _ e]
      exact z.2.2.1
    · rw [e2, zq_vs_s]
      exact Or.inr rfl
theorem zq_R_own (ha : ∀ r, S r = true → F r = x ∨ G r = x) {c i : Nat} (hc : c < 3) (h : zq_R L F G S (zq_vs V x c) i = true) : (F (i / 9) = x → i / 3 % 3 = c) ∧ (G (i / 9) = x → i % 3 = c) := by
  have z := zq_R_iff.mp h
  constructor
  · intro e
    have t := z.2.2.1
    rw [e, zq_vs_s] at t
    omega
  · intro e
    have t := z.2.2.2.1
    rw [e, zq_vs_s] at t
    omega
theorem zq_R_cdis (ha : ∀ r, S r = true → F r = x ∨ G r = x) {c d i : Nat} (hc : c < 3) (hd : d < 3) (hcd : c ≠ d) (h : zq_R L F G S (zq_vs V x c) i = true) (h' : zq_R L F G S (zq_vs V x d) i = true) : False := by
  have z := zq_R_own ha hc h
  have z' := zq_R_own ha hd h'
  rcases ha _ (zq_R_iff.mp h).2.1 with a | a
  · exact hcd ((z.1 a).symm.trans (z'.1 a))
  · exact hcd ((z.2 a).symm.trans (z'.2 a))
theorem zq_Q_cind (hx3 : x < 3) (ha : ∀ r, S r = true → F r = x ∨ G r = x) {c d k : Nat} (hc : c < 3) (hd : d < 3) (hcd : c ≠ d) (hk : zq_R L F G S (zq_vs V x d) k = true) (w : Nat → Bool) (b : Bool) :
    zq_Q F G S (zq_vs V x c) (zq_up w k b) ↔ zq_Q F G S (zq_vs V x c) w := by
  refine zq_Q_ind (fun t h1 h2 r hr e => ?_) w b
  have g := zq_gr (r := r) (h1 (F r)) (h1 (G r))
  rw [e] at g
  have tx : t x = c := by
    rw [h2 x hx3 (by rw [zq_vs_s]; omega), zq_vs_s]
  have z := zq_R_own ha hd hk
  rw [g.1, g.2.1, g.2.2] at z
  rcases ha r hr with a | a
  · have := z.1 a
    rw [a, tx] at this
    exact hcd this
  · have := z.2 a
    rw [a, tx] at this
    exact hcd this
theorem zq_R_cor (hx : V x = 3) (ha : ∀ r, S r = true → F r = x ∨ G r = x) (i : Nat) :
    zq_R L F G S V i = (zq_R L F G S (zq_vs V x 0) i || (fun i => zq_R L F G S (zq_vs V x 1) i || zq_R L F G S (zq_vs V x 2) i) i) := by
  refine zq_b_iff ⟨fun h => ?_, fun h => ?_⟩
  · obtain ⟨c, hc, z⟩ := zq_R_case hx ha h
    (try dsimp only)
    rw [Bool.or_eq_true, Bool.or_eq_true]
    have e : c = 0 ∨ c = 1 ∨ c = 2 := by omega
    rcases e with rfl | rfl | rfl
    · exact Or.inl z
    · exact Or.inr (Or.inl z)
    · exact Or.inr (Or.inr z)
  · (try dsimp only at h)
    rw [Bool.or_eq_true, Bool.or_eq_true] at h
    rcases h with z | z | z <;> exact zq_R_sub hx z
/-- the cases of a common variable: the shares of failing are multiplied -/
theorem zq_s_case (hP : ∀ i, L i = true → P i ≤ 10) (hx3 : x < 3) (hx : V x = 3) (ha : ∀ r, S r = true → F r = x ∨ G r = x) :
    zq_e L F G S V = zq_e L F G S (zq_vs V x 0) + zq_e L F G S (zq_vs V x 1) + zq_e L F G S (zq_vs V x 2) ∧
    zq_s L P F G S V = 10 ^ (zq_e L F G S (zq_vs V x 0) + zq_e L F G S (zq_vs V x 1) + zq_e L F G S (zq_vs V x 2))
      - (10 ^ zq_e L F G S (zq_vs V x 0) - zq_s L P F G S (zq_vs V x 0)) * (10 ^ zq_e L F G S (zq_vs V x 1) - zq_s L P F G S (zq_vs V x 1)) * (10 ^ zq_e L F G S (zq_vs V x 2) - zq_s L P F G S (zq_vs V x 2)) := by
  have d12 : ∀ k, zq_R L F G S (zq_vs V x 1) k = true → zq_R L F G S (zq_vs V x 2) k = true → False := fun k a b => zq_R_cdis ha (by omega) (by omega) (by omega) a b
  have d0 : ∀ k, zq_R L F G S (zq_vs V x 0) k = true → (fun i => zq_R L F G S (zq_vs V x 1) i || zq_R L F G S (zq_vs V x 2) i) k = true → False := by
    intro k a b
    (try dsimp only at b)
    rw [Bool.or_eq_true] at b
    rcases b with b | b
    · exact zq_R_cdis ha (by omega) (by omega) (by omega) a b
    · exact zq_R_cdis ha (by omega) (by omega) (by omega) a b
  have ee : zq_e L F G S V = zq_e L F G S (zq_vs V x 0) + zq_e L F G S (zq_vs V x 1) + zq_e L F G S (zq_vs V x 2) := by
    unfold zq_e
    rw [zq_c_add (zq_R_cor hx ha) d0, zq_c_add (R := fun i => zq_R L F G S (zq_vs V x 1) i || zq_R L F G S (zq_vs V x 2) i) (fun _ => rfl) d12]
    omega
  refine ⟨ee, ?_⟩
  have n := zq_E_not (zq_pq (F := F) (G := G) (S := S) (V := V) hP) (fun w => zq_i_not (zq_Q F G S V w)) 36 (fun _ => false)
  have nc : ∀ c, zq_E (zq_R L F G S (zq_vs V x c)) P (fun i => 10 - P i) (fun w => zq_i (¬ zq_Q F G S (zq_vs V x c) w)) 36 (fun _ => false) = 10 ^ zq_e L F G S (zq_vs V x c) - zq_s L P F G S (zq_vs V x c) := by
    intro c
    have := zq_E_not (zq_pq (F := F) (G := G) (S := S) (V := zq_vs V x c) hP) (fun w => zq_i_not (zq_Q F G S (zq_vs V x c) w)) 36 (fun _ => false)
    unfold zq_s zq_e
    omega
  have m : zq_E (zq_R L F G S V) P (fun i => 10 - P i) (fun w => zq_i (¬ zq_Q F G S V w)) 36 (fun _ => false) =
      (10 ^ zq_e L F G S (zq_vs V x 0) - zq_s L P F G S (zq_vs V x 0)) * ((10 ^ zq_e L F G S (zq_vs V x 1) - zq_s L P F G S (zq_vs V x 1)) * (10 ^ zq_e L F G S (zq_vs V x 2) - zq_s L P F G S (zq_vs V x 2))) := by
    rw [← nc, ← nc, ← nc]
    rw [← zq_E_mul (R := fun i => zq_R L F G S (zq_vs V x 1) i || zq_R L F G S (zq_vs V x 2) i) (fun _ => rfl) d12
      (fun k hk w b => zq_i_c (not_congr (zq_Q_cind hx3 ha (by omega) (by omega) (by omega) hk w b)))
      (fun k hk w b => zq_i_c (not_congr (zq_Q_cind hx3 ha (by omega) (by omega) (by omega) hk w b)))]
    rw [← zq_E_mul (zq_R_cor hx ha) d0]
    · refine zq_E_fun (fun w => ?_) _ _
      rw [← zq_i_and (T := ¬ zq_Q F G S (zq_vs V x 1) w ∧ ¬ zq_Q F G S (zq_vs V x 2) w) Iff.rfl]
      refine zq_i_and ⟨fun h => ⟨fun a => h ((zq_Q_case hx w).mpr ⟨0, by omega, a⟩), fun a => h ((zq_Q_case hx w).mpr ⟨1, by omega, a⟩), fun a => h ((zq_Q_case hx w).mpr ⟨2, by omega, a⟩)⟩, fun h a => ?_⟩
      obtain ⟨c, hc, z⟩ := (zq_Q_case hx w).mp a
      have e : c = 0 ∨ c = 1 ∨ c = 2 := by omega
      rcases e with rfl | rfl | rfl
      · exact h.1 z
      · exact h.2.1 z
      · exact h.2.2 z
    · intro k hk w b
      (try dsimp only at hk)
      rw [Bool.or_eq_true] at hk
      rcases hk with hk | hk
      · exact zq_i_c (not_congr (zq_Q_cind hx3 ha (by omega) (by omega) (by omega) hk w b))
      · exact zq_i_c (not_congr (zq_Q_cind hx3 ha (by omega) (by omega) (by omega) hk w b))
    · intro k hk w b
      (try dsimp only)
      rw [zq_i_c (not_congr (zq_Q_cind (c := 1) hx3 ha (by omega) (by omega) (by omega) hk w b)), zq_i_c (not_congr (zq_Q_cind (c := 2) hx3 ha (by omega) (by omega) (by omega) hk w b))]
  rw [← ee, Nat.mul_assoc, ← m]
  unfold zq_s zq_e
  omega
/-- one ground atom -/
theorem zq_s_ground (hV : ∀ y, V y ≤ 3) {r0 : Nat} (hS : ∀ r, S r = true ↔ r = r0) (hr : r0 < 4) (hF : F r0 < 3 ∧ G r0 < 3) (hf : V (F r0) ≠ 3) (hg : V (G r0) ≠ 3) :
    (L (9 * r0 + 3 * V (F r0) + V (G r0)) = true → zq_s L P F G S V = P (9 * r0 + 3 * V (F r0) + V (G r0)) ∧ zq_e L F G S V = 1) ∧
    (L (9 * r0 + 3 * V (F r0) + V (G r0)) = false → zq_s L P F G S V = 0 ∧ zq_e L F G S V = 0) := by
  have vf := hV (F r0)
  have vg := hV (G r0)
  have id3 := zq_gr (r := r0) (show V (F r0) < 3 by omega) (show V (G r0) < 3 by omega)
  have hR : ∀ i, zq_R L F G S V i = true ↔ L i = true ∧ i = 9 * r0 + 3 * V (F r0) + V (G r0) := by
    intro i
    rw [zq_R_iff]
    constructor
    · rintro ⟨a, b, c, d, e⟩
      have b' := (hS _).mp b
      rw [b'] at c d
      refine ⟨a, ?_⟩
      rcases c with c | c
      · exact absurd c hf
      · rcases d with d | d
        · exact absurd d hg
        · rw [c, d, ← b']
          omega
    · rintro ⟨a, rfl⟩
      rw [id3.1, id3.2.1, id3.2.2]
      exact ⟨a, (hS r0).mpr rfl, Or.inr rfl, Or.inr rfl, fun e => by rw [e]⟩
  have tV : ∀ t : Nat → Nat, (∀ y, y < 3 → V y ≠ 3 → t y = V y) → 9 * r0 + 3 * t (F r0) + t (G r0) = 9 * r0 + 3 * V (F r0) + V (G r0) := by
    intro t h
    rw [h _ hF.1 hf, h _ hF.2 hg]
  have qf : ∀ w : Nat → Bool, w (9 * r0 + 3 * V (F r0) + V (G r0)) = false → zq_i (zq_Q F G S V w) = 0 := by
    intro w hw
    refine zq_i_f ?_
    rintro ⟨t, h1, h2, h3⟩
    have z := h3 r0 ((hS r0).mpr rfl)
    rw [tV t h2, hw] at z
    exact absurd z Bool.false_ne_true
  have qt : ∀ w : Nat → Bool, w (9 * r0 + 3 * V (F r0) + V (G r0)) = true → zq_i (zq_Q F G S V w) = 1 := by
    intro w hw
    refine zq_i_t ?_
    have t2 : ∀ y, y < 3 → V y ≠ 3 → (if V y < 3 then V y else 0) = V y := fun y _ hv => by
      have := hV y
      rw [if_pos (by omega)]
    refine ⟨fun y => if V y < 3 then V y else 0, fun y => ?_, t2, fun r hr => ?_⟩
    · (try dsimp only)
      split <;> omega
    · rw [(hS r).mp hr, tV _ t2]
      exact hw
  constructor
  · intro hL
    have z := zq_E_single (R := zq_R L F G S V) (p := P) (q := fun i => 10 - P i) (f := fun w => zq_i (zq_Q F G S V w)) (j := 9 * r0 + 3 * V (F r0) + V (G r0)) (k := 36) (by omega)
      (fun i => (hR i).trans ⟨fun h => h.2, fun h => ⟨by rw [h]; exact hL, h⟩⟩) (fun _ => false)
    refine ⟨z.1.trans ?_, z.2⟩
    (try dsimp only)
    rw [qt _ (zq_up_s _ _ _), qf _ (zq_up_s _ _ _)]
    omega
  · intro hL
    have z := zq_E_none (R := zq_R L F G S V) (p := P) (q := fun i => 10 - P i) (f := fun w => zq_i (zq_Q F G S V w)) (k := 36) (fun i _ => by
      cases e : zq_R L F G S V i
      · rfl
      · have t := (hR i).mp e
        rw [t.2, hL] at t
        exact absurd t.1 Bool.false_ne_true) (fun _ => false)
    exact ⟨z.1.trans (qf _ rfl), z.2⟩
/-- all the rows looked at are decided -/
theorem zq_s_vert (hF : ∀ r, S r = true → r < 4 ∧ F r < 3 ∧ G r < 3) (h : ∀ i, zq_R L F G S V i = true → P i = 10 ∨ P i = 0) :
    zq_s L P F G S V = 10 ^ zq_e L F G S V * zq_i (zq_Q F G S V (fun i => L i && decide (P i = 10))) := by
  have z := zq_E_vert (R := zq_R L F G S V) (p := P) (q := fun i => 10 - P i) (f := fun w => zq_i (zq_Q F G S V w)) (k := 36)
    (fun i _ hi => by
      rcases h i hi with e | e
      · exact Or.inl ⟨e, by (try dsimp only); omega⟩
      · exact Or.inr ⟨e, by (try dsimp only); omega⟩) (fun _ => false)
  refine z.trans ?_
  show 10 ^ zq_e L F G S V * _ = _
  congr 1
  have key : ∀ t : Nat → Nat, (∀ y, t y < 3) → (∀ y, y < 3 → V y ≠ 3 → t y = V y) → ∀ r, S r = true →
      (if 9 * r + 3 * t (F r) + t (G r) < 36 ∧ zq_R L F G S V (9 * r + 3 * t (F r) + t (G r)) = true then decide (P (9 * r + 3 * t (F r) + t (G r)) = 10) else false) = (L (9 * r + 3 * t (F r) + t (G r)) && decide (P (9 * r + 3 * t (F r) + t (G r)) = 10)) := by
    intro t h1 h2 r hr
    have g := zq_gr (r := r) (h1 (F r)) (h1 (G r))
    have b1 := h1 (F r)
    have b2 := h1 (G r)
    have hf := hF r hr
    cases e : L (9 * r + 3 * t (F r) + t (G r))
    · rw [if_neg]
      · rfl
      · intro c
        have := (zq_R_iff.mp c.2).1
        rw [e] at this
        exact Bool.false_ne_true this
    · rw [if_pos]
      · rfl
      · refine ⟨by omega, zq_R_iff.mpr ⟨e, ?_⟩⟩
        rw [g.1, g.2.1, g.2.2]
        refine ⟨hr, ?_, ?_, fun c => by rw [c]⟩
        · by_cases c : V (F r) = 3
          · exact Or.inl c
          · exact Or.inr (h2 _ hf.2.1 c).symm
        · by_cases c : V (G r) = 3
          · exact Or.inl c
          · exact Or.inr (h2 _ hf.2.2 c).symm
  refine zq_i_c ⟨?_, ?_⟩
  · rintro ⟨t, h1, h2, h3⟩
    refine ⟨t, h1, h2, fun r hr => ?_⟩
    have a := h3 r hr
    (try dsimp only at a ⊢)
    rw [key t h1 h2 r hr] at a
    exact a
  · rintro ⟨t, h1, h2, h3⟩
    refine ⟨t, h1, h2, fun r hr => ?_⟩
    have a := h3 r hr
    (try dsimp only at a ⊢)
    rw [key t h1 h2 r hr]
    exact a
/-- a row is decided -/
theorem zq_s_aff {j : Nat} (hj : j < 36) (hR : zq_R L F G S V j = true) (hP : P j ≤ 10) :
    10 * zq_s L P F G S V = zq_s L (zq_vs P j 10) F G S V * P j + zq_s L (zq_vs P j 0) F G S V * (10 - P j) := by
  have z := zq_E_aff (R := zq_R L F G S V) (p := P) (q := fun i => 10 - P i) (f := fun w => zq_i (zq_Q F G S V w)) (p1 := zq_vs P j 10) (q1 := fun i => 10 - zq_vs P j 10 i) (p2 := zq_vs P j 0) (q2 := fun i => 10 - zq_vs P j 0 i) hj hR
    (zq_vs_s _ _ _) (by (try dsimp only); rw [zq_vs_s]) (zq_vs_s _ _ _) (by (try dsimp only); rw [zq_vs_s])
    (fun i hi => ⟨zq_vs_n _ _ hi, by (try dsimp only); rw [zq_vs_n _ _ hi]⟩) (fun i hi => ⟨zq_vs_n _ _ hi, by (try dsimp only); rw [zq_vs_n _ _ hi]⟩) (fun _ => false)
  unfold zq_s
  rw [z, Nat.mul_comm (P j), Nat.mul_comm (10 - P j)]
/-- the whole: over all listed rows -/
noncomputable def zq_W (L : Nat → Bool) (P F G : Nat → Nat) (S : Nat → Bool) (V : Nat → Nat) : Nat := zq_E L P (fun i => 10 - P i) (fun w => zq_i (zq_Q F G S V w)) 36 (fun _ => false)
theorem zq_W_s (hF : ∀ r, S r = true → F r < 3 ∧ G r < 3) (hP : ∀ i, L i = true → P i ≤ 10) : zq_e L F G S V ≤ zq_c L 36 ∧ zq_W L P F G S V = zq_s L P F G S V * 10 ^ (zq_c L 36 - zq_e L F G S V) := by
  have hR : ∀ k, L k = (zq_R L F G S V k || (fun k => L k && !zq_R L F G S V k) k) := by
    intro k
    (try dsimp only)
    cases e : L k
    · have : zq_R L F G S V k = false := by
        unfold zq_R
        rw [e]
        rfl
      rw [this]
      rfl
    · cases zq_R L F G S V k <;> rfl
  have hd : ∀ k, zq_R L F G S V k = true → (fun k => L k && !zq_R L F G S V k) k = true → False := by
    intro k a b
    (try dsimp only at b)
    rw [a, Bool.and_eq_true] at b
    exact absurd b.2 Bool.false_ne_true
  have c := zq_c_add hR hd 36
  have ec : zq_c (fun k => L k && !zq_R L F G S V k) 36 = zq_c L 36 - zq_e L F G S V := by
    unfold zq_e
    omega
  refine ⟨by unfold zq_e; omega, ?_⟩
  have o : zq_E (fun k => L k && !zq_R L F G S V k) P (fun i => 10 - P i) (fun _ => 1) 36 (fun _ => false) = 10 ^ (zq_c L 36 - zq_e L F G S V) := by
    rw [zq_E_one _ 36 _, ec]
    intro i hi
    rw [Bool.and_eq_true] at hi
    have := hP i hi.1
    (try dsimp only)
    omega
  unfold zq_W zq_s
  rw [← o, ← zq_E_mul hR hd]
  · exact zq_E_fun (fun w => (Nat.mul_one _).symm) _ _
  · intro k hk w b
    (try dsimp only at hk ⊢)
    rw [Bool.and_eq_true] at hk
    refine zq_i_c (zq_Q_ind (fun t h1 h2 r hr e => ?_) w b)
    have g := zq_gr (r := r) (h1 (F r)) (h1 (G r))
    have hf := hF r hr
    have : zq_R L F G S V k = true := by
      refine zq_R_iff.mpr ⟨hk.1, ?_⟩
      rw [← e, g.1, g.2.1, g.2.2]
      refine ⟨hr, ?_, ?_, fun c => by rw [c]⟩
      · by_cases c : V (F r) = 3
        · exact Or.inl c
        · exact Or.inr (h2 _ hf.1 c).symm
      · by_cases c : V (G r) = 3
        · exact Or.inl c
        · exact Or.inr (h2 _ hf.2 c).symm
    rw [this] at hk
    exact absurd hk.2 Bool.false_ne_true
  · intro k _ w b
    rfl
theorem zq_W_le (hP : ∀ i, L i = true → P i ≤ 10) : zq_W L P F G S V ≤ 10 ^ zq_c L 36 := by
  have := zq_E_not (R := L) (p := P) (q := fun i => 10 - P i) (fun i hi => by have := hP i hi; (try dsimp only); omega) (fun w => zq_i_not (zq_Q F G S V w)) 36 (fun _ => false)
  unfold zq_W
  omega
theorem zq_W_nil (hV : ∀ x, V x ≤ 3) (hP : ∀ i, L i = true → P i ≤ 10) (h : ∀ r, S r = false) : zq_W L P F G S V = 10 ^ zq_c L 36 := by
  have z := zq_W_s (V := V) (F := F) (G := G) (S := S) (fun r hr => by rw [h] at hr; exact absurd hr Bool.false_ne_true) hP
  have n := zq_s_nil (L := L) (P := P) (F := F) (G := G) (S := S) hV h
  rw [z.2, n.1, n.2, Nat.one_mul, Nat.sub_zero]
theorem zq_W_aff {j : Nat} (hj : j < 36) (hR : L j = true) (hP : P j ≤ 10) :
    zq_W L P F G S V = zq_W L (zq_vs P j 10) F G S V / 10 * P j + zq_W L (zq_vs P j 0) F G S V / 10 * (10 - P j) := by
  have z := zq_E_aff (R := L) (p := P) (q := fun i => 10 - P i) (f := fun w => zq_i (zq_Q F G S V w)) (p1 := zq_vs P j 10) (q1 := fun i => 10 - zq_vs P j 10 i) (p2 := zq_vs P j 0) (q2 := fun i => 10 - zq_vs P j 0 i) hj hR
    (zq_vs_s _ _ _) (by (try dsimp only); rw [zq_vs_s]) (zq_vs_s _ _ _) (by (try dsimp only); rw [zq_vs_s])
    (fun i hi => ⟨zq_vs_n _ _ hi, by (try dsimp only); rw [zq_vs_n _ _ hi]⟩) (fun i hi => ⟨zq_vs_n _ _ hi, by (try dsimp only); rw [zq_vs_n _ _ hi]⟩) (fun _ => false)
  obtain ⟨X, hX⟩ := zq_E_ten (R := L) (p := zq_vs P j 10) (q := fun i => 10 - zq_vs P j 10 i) (f := fun w => zq_i (zq_Q F G S V w)) hj hR (Or.inl ⟨zq_vs_s _ _ _, by (try dsimp only); rw [zq_vs_s]⟩) (fun _ => false)
  obtain ⟨Y, hY⟩ := zq_E_ten (R := L) (p := zq_vs P j 0) (q := fun i => 10 - zq_vs P j 0 i) (f := fun w => zq_i (zq_Q F G S V w)) hj hR (Or.inr ⟨zq_vs_s _ _ _, by (try dsimp only); rw [zq_vs_s]⟩) (fun _ => false)
  unfold zq_W
  rw [hX, hY] at z ⊢
  rw [Nat.mul_div_cancel_left _ (by omega), Nat.mul_div_cancel_left _ (by omega)]
  (try dsimp only at z)
  rw [Nat.mul_left_comm, Nat.mul_left_comm (10 - P j), ← Nat.mul_add] at z
  have := Nat.eq_of_mul_eq_mul_left (by omega) z
  rw [this, Nat.mul_comm X, Nat.mul_comm Y]
/-- the rows asked for under values t are all listed -/
def zq_ask (L : Nat → Bool) (F G : Nat → Nat) (S : Nat → Bool) : Prop := ∃ t : Nat → Nat, (∀ x, t x < 3) ∧ ∀ r, S r = true → L (9 * r + 3 * t (F r) + t (G r)) = true
theorem zq_W_five (hV : ∀ x, x < 3 → V x = 3) (hF : ∀ r, S r = true → r < 4) (hP : ∀ i, L i = true → P i = 5) : (zq_ask L F G S → 5 ^ zq_c L 36 ≤ zq_W L P F G S V) ∧ (¬ zq_ask L F G S → zq_W L P F G S V = 0) := by
  constructor
  · rintro ⟨t, h1, h2⟩
    refine zq_E_five (fun i _ hi => ⟨hP i hi, by (try dsimp only); rw [hP i hi]⟩) _ ?_
    (try dsimp only)
    rw [zq_i_t]
    · exact Nat.le_refl _
    · refine ⟨t, h1, fun x hx hv => absurd (hV x hx) hv, fun r hr => ?_⟩
      have b1 := h1 (F r)
      have b2 := h1 (G r)
      have := hF r hr
      (try dsimp only)
      rw [if_pos ⟨by omega, h2 r hr⟩]
  · intro hn
    refine zq_E_zero _ (fun v hv => zq_i_f ?_)
    rintro ⟨t, h1, _, h3⟩
    refine hn ⟨t, h1, fun r hr => ?_⟩
    rcases hv _ (h3 r hr) with a | a
    · exact absurd a Bool.false_ne_true
    · exact a
end
end
section
/-! small ints: sets below 16, values below 64 (zq_nand, zq_ncnt, zq_nush, zq_nbit began as rows of the kit's BITS) -/
theorem zq_nand (a b : Nat) : nI a &&& nI b = nI (a &&& b) := by
  apply Int32.toBitVec_inj.1
  show BitVec.ofNat 32 a &&& BitVec.ofNat 32 b = BitVec.ofNat 32 (a &&& b)
  apply BitVec.eq_of_getLsbD_eq
  intro i hi
  simp [hi]
theorem zq_nor (a b : Nat) : nI a ||| nI b = nI (a ||| b) := by
  apply Int32.toBitVec_inj.1
  show BitVec.ofNat 32 a ||| BitVec.ofNat 32 b = BitVec.ofNat 32 (a ||| b)
  apply BitVec.eq_of_getLsbD_eq
  intro i hi
  simp [hi]
theorem zq_ncnt : ∀ j : Fin 32, (UInt32.ofNat j.val &&& Int32.toUInt32 31).toNat % 32 = j.val := by decide +kernel
theorem zq_nush {k j : Nat} (hk : k < 65536) (hj : j < 32) : ((nI k).toUInt32 >>> ((nI j).toUInt32 &&& Int32.toUInt32 31)).toInt32 = nI (k >>> j) := by
  have hs : k >>> j ≤ k := by
    rw [Nat.shiftRight_eq_div_pow]
    exact Nat.div_le_self _ _
  have e2 : UInt32.ofNat k >>> (UInt32.ofNat j &&& Int32.toUInt32 31) = UInt32.ofNat (k >>> j) := by
    apply UInt32.toNat_inj.1
    have h1 : (UInt32.ofNat k).toNat = k := Nat.mod_eq_of_lt (by omega)
    have h2 : (UInt32.ofNat (k >>> j)).toNat = k >>> j := Nat.mod_eq_of_lt (by omega)
    rw [UInt32.toNat_shiftRight, zq_ncnt ⟨j, hj⟩, h1, h2]
  show (UInt32.ofNat k >>> (UInt32.ofNat j &&& Int32.toUInt32 31)).toInt32 = _
  rw [e2]
  rfl
theorem zq_nbit {k j : Nat} (hk : k < 65536) (hj : j < 16) : (((nI k).toUInt32 >>> ((nI j).toUInt32 &&& Int32.toUInt32 31)).toInt32 &&& 1) = 0 ↔ k.testBit j = false := by
  rw [zq_nush hk (by omega)]
  show nI (k >>> j) &&& nI 1 = 0 ↔ _
  rw [zq_nand, Nat.and_one_is_mod, ← nI_0, nI_eq (by omega) (by omega), Nat.testBit_eq_decide_div_mod_eq, Nat.shiftRight_eq_div_pow, decide_eq_false_iff_not]
  generalize k / 2 ^ j = z
  omega
theorem zq_sh1 : ∀ r, r < 31 → (1 : Int32) <<< (nI r &&& 31) = nI (2 ^ r) := by decide +kernel
theorem zq_orb (m : Nat) {r : Nat} (h : r < 31) : nI m ||| ((1 : Int32) <<< (nI r &&& 31)) = nI (m ||| 2 ^ r) := by rw [zq_sh1 r h, zq_nor]
theorem zq_neg : ∀ x, x < 64 → ¬ (-1 : Int32) = nI x := by decide +kernel
theorem zq_neg0 : (-1 : Int32) < 0 := by decide
theorem zq_and_le (a b : Nat) : a &&& b ≤ a := Nat.and_le_left
/-- a set of relations -/
def zq_S (s r : Nat) : Bool := s.testBit r
theorem zq_S_lt {s r : Nat} (hs : s < 16) (h : zq_S s r = true) : r < 4 := by
  rcases Nat.lt_or_ge r 4 with z | z
  · exact z
  · have : s < 2 ^ r := Nat.lt_of_lt_of_le hs (Nat.pow_le_pow_right (n := 2) (by omega) z)
    have t : s.testBit r = false := Nat.testBit_lt_two_pow this
    unfold zq_S at h
    rw [t] at h
    exact absurd h Bool.false_ne_true
/-- a variable's value: two bits each, 3 for none -/
def zq_va (v x : Nat) : Nat := v / 4 ^ x % 4
theorem zq_va_le (v x : Nat) : zq_va v x ≤ 3 := by
  have : zq_va v x < 4 := Nat.mod_lt _ (by omega)
  omega
theorem zq_tval : ∀ v, v < 64 → ∀ x, x < 3 → (((nI v).toUInt32 >>> ((2 * nI x).toUInt32 &&& Int32.toUInt32 31)).toInt32) &&& 3 = nI (zq_va v x) := by decide +kernel
def zq_set (v x c : Nat) : Nat := v - zq_va v x * 4 ^ x + c * 4 ^ x
theorem zq_set_lt : ∀ v, v < 64 → ∀ x, x < 3 → ∀ c, c < 3 → zq_set v x c < 64 := by decide +kernel
theorem zq_tset : ∀ v, v < 64 → ∀ x, x < 3 → ∀ c, c < 3 → (nI v &&& (((3 : Int32) <<< ((2 * nI x) &&& 31)) ^^^ (-1))) ||| (nI c <<< ((2 * nI x) &&& 31)) = nI (zq_set v x c) := by decide +kernel
theorem zq_tset0 : ∀ v, v < 64 → ∀ x, x < 3 → nI v &&& (((3 : Int32) <<< ((2 * nI x) &&& 31)) ^^^ (-1)) = nI (zq_set v x 0) := by decide +kernel
theorem zq_set_va3 : ∀ v, v < 64 → ∀ x, x < 3 → ∀ c, c < 3 → ∀ y, y < 3 → zq_va (zq_set v x c) y = if y = x then c else zq_va v y := by decide +kernel
theorem zq_va_big {v y : Nat} (hv : v < 64) (hy : ¬ y < 3) : zq_va v y = 0 := by
  have : v < 4 ^ y := Nat.lt_of_lt_of_le hv (show 4 ^ 3 ≤ 4 ^ y from Nat.pow_le_pow_right (by omega) (by omega))
  unfold zq_va
  rw [Nat.div_eq_of_lt this]
theorem zq_set_va {v x c : Nat} (hv : v < 64) (hx : x < 3) (hc : c < 3) : zq_va (zq_set v x c) = zq_vs (zq_va v) x c := by
  funext y
  by_cases hy : y < 3
  · exact zq_set_va3 v hv x hx c hc y hy
  · rw [zq_va_big (zq_set_lt v hv x hx c hc) hy, zq_vs_n _ _ (by omega), zq_va_big hv hy]
/-- how many variables are open -/
def zq_fr (v : Nat) : Nat := (if zq_va v 0 = 3 then 1 else 0) + (if zq_va v 1 = 3 then 1 else 0) + (if zq_va v 2 = 3 then 1 else 0)
theorem zq_fr_set : ∀ v, v < 64 → ∀ x, x < 3 → ∀ c, c < 3 → zq_va v x = 3 → zq_fr (zq_set v x c) + 1 = zq_fr v := by decide +kernel
theorem zq_fr_63 : zq_fr 63 = 3 := by decide +kernel
theorem zq_va_63 : ∀ x, x < 3 → zq_va 63 x = 3 := by decide +kernel
/-- the codes of full values -/
def zq_fu (k : Nat) : Nat := k % 3 + 4 * (k / 3 % 3) + 16 * (k / 9)
theorem zq_tfu : ∀ k, k < 27 → ((nI k - nI k / 3 * 3) ||| (((nI k / 3) - (nI k / 3) / 3 * 3) <<< ((2 : Int32) &&& 31))) ||| ((nI k / 9) <<< ((4 : Int32) &&& 31)) = nI (zq_fu k) := by decide +kernel
theorem zq_fu_lt : ∀ k, k < 27 → zq_fu k < 64 := by decide +kernel
theorem zq_fu_va : ∀ k, k < 27 → ∀ x, x < 3 → zq_va (zq_fu k) x = k / 3 ^ x % 3 := by decide +kernel
theorem zq_fu_va3 {k x : Nat} (hk : k < 27) (hx : x < 3) : zq_va (zq_fu k) x < 3 := by
  rw [zq_fu_va k hk x hx]
  exact Nat.mod_lt _ (by omega)
theorem zq_fu_of (t : Nat → Nat) (ht : ∀ x, t x < 3) : ∃ k, k < 27 ∧ ∀ x, x < 3 → zq_va (zq_fu k) x = t x := by
  have h0 := ht 0
  have h1 := ht 1
  have h2 := ht 2
  refine ⟨t 0 + 3 * t 1 + 9 * t 2, by omega, fun x hx => ?_⟩
  rw [zq_fu_va _ (by omega) x hx]
  have e : x = 0 ∨ x = 1 ∨ x = 2 := by omega
  rcases e with rfl | rfl | rfl
  · show (t 0 + 3 * t 1 + 9 * t 2) / 1 % 3 = t 0
    omega
  · show (t 0 + 3 * t 1 + 9 * t 2) / 3 % 3 = t 1
    omega
  · show (t 0 + 3 * t 1 + 9 * t 2) / 9 % 3 = t 2
    omega
/-! components -/
def zq_lo (s : Nat) : Nat := if s % 2 = 1 then 1 else if s / 2 % 2 = 1 then 2 else if s / 4 % 2 = 1 then 4 else if s / 8 % 2 = 1 then 8 else 0
theorem zq_tlo : ∀ s, s < 16 → nI s &&& (-(nI s)) = nI (zq_lo s) := by decide +kernel
theorem zq_lo_lt : ∀ s, s < 16 → zq_lo s < 16 := by decide +kernel
def zq_st (e p : Nat) : Nat := bif Nat.beq (e &&& p) 0 then p else p ||| e
def zq_it (e : Nat → Nat) (p : Nat) : Nat → Nat
  | 0 => p
  | i + 1 => zq_st (e i) (zq_it e p i)
def zq_rd (e0 e1 e2 p : Nat) : Nat := zq_st e2 (zq_st e1 (zq_st e0 p))
def zq_cmp (s e0 e1 e2 : Nat) : Nat := zq_rd e0 e1 e2 (zq_rd e0 e1 e2 (zq_rd e0 e1 e2 (zq_rd e0 e1 e2 (zq_lo s))))
def zq_cl (e c : Nat) : Bool := Nat.beq (e &&& c) 0 || Nat.beq (e &&& c) e
def zq_chk (s e0 e1 e2 : Nat) : Bool :=
  match zq_cmp s e0 e1 e2 with
  | c => Nat.beq (c &&& s) c && (!Nat.beq c 0 && (zq_cl e0 c && (zq_cl e1 c && (zq_cl e2 c && (Nat.beq (zq_cmp c (e0 &&& c) (e1 &&& c) (e2 &&& c)) c && (!(Nat.beq e0 0 && (Nat.beq e1 0 && Nat.beq e2 0)) || (Nat.beq c 1 || (Nat.beq c 2 || (Nat.beq c 4 || Nat.beq c 8)))))))))
def zq_sub (s : Nat) : List Nat := (List.range 16).filter (fun e => Nat.beq (e &&& s) e)
theorem zq_chkA : (List.range 16).all (fun s => Nat.beq s 0 || (zq_sub s).all (fun e0 => (zq_sub s).all (fun e1 => (zq_sub s).all (fun e2 => zq_chk s e0 e1 e2)))) = true := by decide +kernel
theorem zq_chkE {s e0 e1 e2 : Nat} (hs : s < 16) (h0 : s ≠ 0) (a0 : e0 &&& s = e0) (a1 : e1 &&& s = e1) (a2 : e2 &&& s = e2) : zq_chk s e0 e1 e2 = true := by
  have m : ∀ e, e &&& s = e → e ∈ zq_sub s := fun e he => by
    refine List.mem_filter.mpr ⟨List.mem_range.mpr ?_, by rw [he]; exact Nat.beq_refl e⟩
    rw [← he]
    exact Nat.lt_of_le_of_lt Nat.and_le_right hs
  have z := List.all_eq_true.mp zq_chkA s (List.mem_range.mpr hs)
  rw [Bool.or_eq_true] at z
  rcases z with z | z
  · exact absurd (Nat.eq_of_beq_eq_true z) h0
  · exact List.all_eq_true.mp (List.all_eq_true.mp (List.all_eq_true.mp z e0 (m e0 a0)) e1 (m e1 a1)) e2 (m e2 a2)
theorem zq_cl_iff {e c : Nat} (h : zq_cl e c = true) : e &&& c = 0 ∨ e &&& c = e := by
  unfold zq_cl at h
  rw [Bool.or_eq_true] at h
  rcases h with h | h
  · exact Or.inl (Nat.eq_of_beq_eq_true h)
  · exact Or.inr (Nat.eq_of_beq_eq_true h)
theorem zq_cmp_ok {s e0 e1 e2 : Nat} (hs : s < 16) (h0 : s ≠ 0) (a0 : e0 &&& s = e0) (a1 : e1 &&& s = e1) (a2 : e2 &&& s = e2) :
    zq_cmp s e0 e1 e2 &&& s = zq_cmp s e0 e1 e2 ∧ zq_cmp s e0 e1 e2 ≠ 0 ∧ (e0 &&& zq_cmp s e0 e1 e2 = 0 ∨ e0 &&& zq_cmp s e0 e1 e2 = e0) ∧ (e1 &&& zq_cmp s e0 e1 e2 = 0 ∨ e1 &&& zq_cmp s e0 e1 e2 = e1) ∧ (e2 &&& zq_cmp s e0 e1 e2 = 0 ∨ e2 &&& zq_cmp s e0 e1 e2 = e2)
      ∧ zq_cmp (zq_cmp s e0 e1 e2) (e0 &&& zq_cmp s e0 e1 e2) (e1 &&& zq_cmp s e0 e1 e2) (e2 &&& zq_cmp s e0 e1 e2) = zq_cmp s e0 e1 e2
      ∧ (e0 = 0 → e1 = 0 → e2 = 0 → ∃ r, r < 4 ∧ zq_cmp s e0 e1 e2 = 2 ^ r) := by
  have z := zq_chkE hs h0 a0 a1 a2
  unfold zq_chk at z
  dsimp only at z
  generalize zq_cmp s e0 e1 e2 = c at z ⊢
  rw [Bool.and_eq_true, Bool.and_eq_true, Bool.and_eq_true, Bool.and_eq_true, Bool.and_eq_true, Bool.and_eq_true] at z
  obtain ⟨z1, z2, z3, z4, z5, z6, z7⟩ := z
  refine ⟨Nat.eq_of_beq_eq_true z1, ?_, zq_cl_iff z3, zq_cl_iff z4, zq_cl_iff z5, Nat.eq_of_beq_eq_true z6, ?_⟩
  · intro e
    rw [e] at z2
    exact absurd z2 Bool.false_ne_true
  · intro b0 b1 b2
    rw [b0, b1, b2] at z7
    have z8 : (Nat.beq c 1 || (Nat.beq c 2 || (Nat.beq c 4 || Nat.beq c 8))) = true := z7
    rw [Bool.or_eq_true, Bool.or_eq_true, Bool.or_eq_true] at z8
    rcases z8 with t | t | t | t
    · exact ⟨0, by omega, Nat.eq_of_beq_eq_true t⟩
    · exact ⟨1, by omega, Nat.eq_of_beq_eq_true t⟩
    · exact ⟨2, by omega, Nat.eq_of_beq_eq_true t⟩
    · exact ⟨3, by omega, Nat.eq_of_beq_eq_true t⟩
theorem zq_tdiff : ∀ s, s < 16 → ∀ c, c < 16 → c &&& s = c → nI s &&& (nI c ^^^ (-1)) = nI (s - c) := by decide +kernel
theorem zq_tdb : ∀ s, s < 16 → ∀ c, c < 16 → c &&& s = c → ∀ r, r < 4 → (s - c).testBit r = (s.testBit r && !c.testBit r) := by decide +kernel
def zq_pop (s : Nat) : Nat := s % 2 + s / 2 % 2 + s / 4 % 2 + s / 8 % 2
theorem zq_tpop : ∀ s, s < 16 → ∀ c, c < 16 → c &&& s = c → zq_pop (s - c) + zq_pop c = zq_pop s := by decide +kernel
theorem zq_pop_pos : ∀ c, c < 16 → c ≠ 0 → 1 ≤ zq_pop c ∧ zq_pop c ≤ 4 := by decide +kernel
theorem zq_two : ∀ r, r < 4 → ∀ k, k < 4 → (2 ^ r).testBit k = decide (k = r) := by decide +kernel
/-! the atoms with a variable -/
def zq_has (F G : Nat → Nat) (A : Nat → Bool) (x r : Nat) : Bool := A r && (decide (F r = x) || decide (G r = x))
theorem zq_has_iff {F G : Nat → Nat} {A : Nat → Bool} {x r : Nat} : zq_has F G A x r = true ↔ A r = true ∧ (F r = x ∨ G r = x) := by
  unfold zq_has
  rw [Bool.and_eq_true, Bool.or_eq_true, decide_eq_true_iff, decide_eq_true_iff]
def zq_aw (F G : Nat → Nat) (A : Nat → Bool) (x : Nat) : Nat → Nat
  | 0 => 0
  | r + 1 => bif zq_has F G A x r then zq_aw F G A x r ||| 2 ^ r else zq_aw F G A x r
section
variable {F G : Nat → Nat} {A : Nat → Bool} {x : Nat}
theorem zq_aw_t {r : Nat} (h : zq_has F G A x r = true) : zq_aw F G A x (r + 1) = zq_aw F G A x r ||| 2 ^ r := by
  show (bif zq_has F G A x r then _ else _) = _
  rw [h]
  rfl
theorem zq_aw_f {r : Nat} (h : zq_has F G A x r = false) : zq_aw F G A x (r + 1) = zq_aw F G A x r := by
  show (bif zq_has F G A x r then _ else _) = _
  rw [h]
  rfl
theorem zq_aw_lt (n : Nat) : zq_aw F G A x n < 2 ^ n := by
  induction n with
  | zero => show 0 < 1; omega
  | succ n ih =>
    have e : 2 ^ n < 2 ^ (n + 1) := Nat.pow_lt_pow_right (by omega) (by omega)
    cases h : zq_has F G A x n
    · rw [zq_aw_f h]
      omega
    · rw [zq_aw_t h]
      exact Nat.or_lt_two_pow (by omega) e
theorem zq_aw_bit (n r : Nat) : (zq_aw F G A x n).testBit r = (decide (r < n) && zq_has F G A x r) := by
  induction n with
  | zero =>
    show (0 : Nat).testBit r = _
    rw [Nat.zero_testBit]
    rfl
  | succ n ih =>
    cases h : zq_has F G A x n
    · rw [zq_aw_f h, ih]
      by_cases e : r = n
      · subst e
        rw [h, Bool.and_false, Bool.and_false]
      · congr 1
        exact decide_eq_decide.mpr (by omega)
    · rw [zq_aw_t h, Nat.testBit_or, ih, Nat.testBit_two_pow]
      by_cases e : r = n
      · subst e
        rw [h]
        simp
      · have e1 : decide (n = r) = false := decide_eq_false (fun c => e c.symm)
        rw [e1, Bool.or_false]
        congr 1
        exact decide_eq_decide.mpr (by omega)
end
end
section
/-! walks of the methods that only look -/
def zq_ok (a3 a4 : Nat → Int32) (F G : Nat → Nat) (A : Nat → Bool) : Prop :=
  ∀ r, r < 4 → (A r = true → a3 r = nI (F r) ∧ a4 r = nI (G r) ∧ F r < 3 ∧ G r < 3) ∧ (A r = false → a3 r = -1 ∧ a4 r = -1)
def zq_wk (a2 : Nat → Int32) (L : Nat → Bool) (P : Nat → Nat) : Prop :=
  ∀ i, i < 36 → (L i = true → a2 i = nI (P i) ∧ P i ≤ 10) ∧ (L i = false → a2 i = -1)
theorem zq_gri (r a b : Nat) : ((9 * nI r) + (3 * nI a)) + nI b = nI (9 * r + 3 * a + b) := by
  show nI 9 * nI r + nI 3 * nI a + nI b = _
  rw [pk_mul, pk_mul, nI_add, nI_add]
section
variable {fr fa fd : Int32} {fs : Int64} {fe : Int32} {a1 a2 a3 a4 a5 a6 a7 a8 a9 a10 a11 a12 : Nat → Int32} {a13 : Nat → Int64} {a14 : Nat → Int32} {F G : Nat → Nat} {A : Nat → Bool} {L : Nat → Bool} {P : Nat → Nat}
theorem zq_w_aw {post : Int32 → Prop} {x : Nat} (hx : x < 3) (ok : zq_ok a3 a4 F G A) (hp : post (nI (zq_aw F G A x 4))) : wpX_atomsWith post (fr, fa, fd, fs, fe, a1, a2, a3, a4, a5, a6, a7, a8, a9, a10, a11, a12, a13, a14) (nI x) := by
  refine pk_loop (σ := Unit) (fun n i _ => wX_atomsWith_4 post (nI x) fr fa fd fs fe a1 a2 a3 a4 a5 a6 a7 a8 a9 a10 a11 a12 a13 a14 n (nI (zq_aw F G A x i)) (nI i)) (fun _ _ => True) 4 0 () (by omega) trivial
    (fun n _ _ => pk_le 4 4 (fun _ => hp) (fun z => absurd z (by omega))) ?_
  intro n i _ hi _ hw
  have hw' : wX_atomsWith_4 post (nI x) fr fa fd fs fe a1 a2 a3 a4 a5 a6 a7 a8 a9 a10 a11 a12 a13 a14 n (nI (zq_aw F G A x (i + 1))) (nI (i + 1)) := hw () trivial
  refine pk_le 4 i (fun z => absurd z (by omega)) (fun _ => ⟨pk_in i 4 hi, ?_⟩)
  rw [nI_clamp (show i < 2 ^ 31 by omega)]
  have K := ok i hi
  cases hA : A i
  · rw [(K.2 hA).1, (K.2 hA).2]
    have e : zq_has F G A x i = false := by
      unfold zq_has
      rw [hA]
      rfl
    rw [zq_aw_f e] at hw'
    exact br_f (zq_neg x (by omega)) ⟨pk_in i 4 hi, br_f (zq_neg x (by omega)) (nm_r (nI_1 i) hw')⟩
  · obtain ⟨e3, e4, f3, g3⟩ := K.1 hA
    rw [e3, e4]
    by_cases c : F i = x
    · rw [zq_aw_t (zq_has_iff.mpr ⟨hA, Or.inl c⟩)] at hw'
      exact br_t (by rw [c]) (nm_r (zq_orb _ (by omega)) (nm_r (nI_1 i) hw'))
    · refine br_f (fun e => c ((nI_eq (by omega) (by omega)).mp e)) ⟨pk_in i 4 hi, ?_⟩
      by_cases c2 : G i = x
      · rw [zq_aw_t (zq_has_iff.mpr ⟨hA, Or.inr c2⟩)] at hw'
        exact br_t (by rw [c2]) (nm_r (zq_orb _ (by omega)) (nm_r (nI_1 i) hw'))
      · have e : zq_has F G A x i = false := by
          cases e : zq_has F G A x i
          · rfl
          · rcases (zq_has_iff.mp e).2 with z | z
            · exact absurd z c
            · exact absurd z c2
        rw [zq_aw_f e] at hw'
        exact br_f (fun e => c2 ((nI_eq (by omega) (by omega)).mp e)) (nm_r (nI_1 i) hw')
theorem zq_w_vo {post : Int32 → Prop} {v x : Nat} (hv : v < 64) (hx : x < 3) (hp : post (nI (zq_va v x))) : wpX_valueOf post () (nI v) (nI x) := by
  unfold wpX_valueOf
  rw [zq_tval v hv x hx]
  exact hp
theorem zq_w_if {post : Int32 → Prop} {v x : Nat} (hv : v < 64) (hx : x < 3) (h1 : zq_va v x = 3 → post 1) (h0 : zq_va v x ≠ 3 → post 0) : wpX_isFree post (fr, fa, fd, fs, fe, a1, a2, a3, a4, a5, a6, a7, a8, a9, a10, a11, a12, a13, a14) (nI v) (nI x) := by
  unfold wpX_isFree
  refine zq_w_vo hv hx ?_
  have := zq_va_le v x
  exact pk_eq (zq_va v x) 3 h1 h0
/-- the open variable's atoms among s -/
def zq_ex (F G : Nat → Nat) (A : Nat → Bool) (s v x : Nat) : Nat := if zq_va v x = 3 then zq_aw F G A x 4 &&& s else 0
theorem zq_w_co17 {post : Int32 → Prop} {J : Int32 → Int32 → Prop} {s v q i4 : Nat} (hv : v < 64) (hs : s < 16) (ok : zq_ok a3 a4 F G A) (hq : q < 16)
    (hJ : J (nI (zq_it (zq_ex F G A s v) q 3)) (nI (i4 + 1))) : ∃ n, wX_componentOf_17 post J (nI s) (nI v) (nI i4) fr fa fd fs fe a1 a2 a3 a4 a5 a6 a7 a8 a9 a10 a11 a12 a13 a14 n (nI q) 0 := by
  refine pk_loop (σ := Unit) (fun n i _ => wX_componentOf_17 post J (nI s) (nI v) (nI i4) fr fa fd fs fe a1 a2 a3 a4 a5 a6 a7 a8 a9 a10 a11 a12 a13 a14 n (nI (zq_it (zq_ex F G A s v) q i)) (nI i)) (fun i _ => zq_it (zq_ex F G A s v) q i < 16) 3 0 () (by omega) hq
    (fun n _ _ => pk_le 3 3 (fun _ => nm_r (nI_1 i4) hJ) (fun z => absurd z (by omega))) ?_
  intro n i _ hi hb hw
  have hlt : zq_aw F G A i 4 &&& s < 16 := Nat.lt_of_le_of_lt Nat.and_le_right hs
  have hst : ∀ e p, e < 16 → p < 16 → zq_st e p < 16 := by
    intro e p he hp
    unfold zq_st
    cases Nat.beq (e &&& p) 0
    · exact Nat.or_lt_two_pow (n := 4) hp he
    · exact hp
  have hw' : zq_it (zq_ex F G A s v) q (i + 1) < 16 → wX_componentOf_17 post J (nI s) (nI v) (nI i4) fr fa fd fs fe a1 a2 a3 a4 a5 a6 a7 a8 a9 a10 a11 a12 a13 a14 n (nI (zq_it (zq_ex F G A s v) q (i + 1))) (nI (i + 1)) := fun h => hw () h
  have ei : zq_it (zq_ex F G A s v) q (i + 1) = zq_st (zq_ex F G A s v i) (zq_it (zq_ex F G A s v) q i) := rfl
  rw [ei] at hw'
  generalize zq_it (zq_ex F G A s v) q i = p at hb hw' ⊢
  have hw2 : wX_componentOf_17 post J (nI s) (nI v) (nI i4) fr fa fd fs fe a1 a2 a3 a4 a5 a6 a7 a8 a9 a10 a11 a12 a13 a14 n (nI (zq_st (zq_ex F G A s v i) p)) (nI (i + 1)) := by
    refine hw' (hst _ _ ?_ hb)
    unfold zq_ex
    split
    · exact hlt
    · omega
  refine pk_le 3 i (fun z => absurd z (by omega)) (fun _ => ?_)
  refine zq_w_aw hi ok ?_
  refine nm_r (zq_nand _ _) ?_
  refine zq_w_if hv hi (fun hf => ?_) (fun hf => ?_)
  · have ee : zq_ex F G A s v i = zq_aw F G A i 4 &&& s := if_pos hf
    rw [ee] at hw2
    refine br_f (by decide) ?_
    rw [zq_nand]
    have l2 : (zq_aw F G A i 4 &&& s) &&& p < 2 ^ 31 := Nat.lt_of_le_of_lt (Nat.and_le_left) (by omega)
    refine pk_eq ((zq_aw F G A i 4 &&& s) &&& p) 0 (fun z => ?_) (fun z => ?_)
    · have : zq_st (zq_aw F G A i 4 &&& s) p = p := by
        unfold zq_st
        rw [z]
        rfl
      rw [this] at hw2
      exact nm_r (nI_1 i) hw2
    · have : zq_st (zq_aw F G A i 4 &&& s) p = p ||| (zq_aw F G A i 4 &&& s) := by
        unfold zq_st
        cases e : Nat.beq ((zq_aw F G A i 4 &&& s) &&& p) 0
        · rfl
        · exact absurd (Nat.eq_of_beq_eq_true e) z
      rw [this] at hw2
      exact nm_r (zq_nor _ _) (nm_r (nI_1 i) hw2)
  · have ee : zq_ex F G A s v i = 0 := if_neg hf
    have : zq_st 0 p = p := by
      unfold zq_st
      rw [Nat.zero_and]
      rfl
    rw [ee, this] at hw2
    exact br_t rfl (nm_r (nI_1 i) hw2)
def zq_co (F G : Nat → Nat) (A : Nat → Bool) (s v : Nat) : Nat := zq_cmp s (zq_ex F G A s v 0) (zq_ex F G A s v 1) (zq_ex F G A s v 2)
def zq_rn (e : Nat → Nat) (p : Nat) : Nat → Nat
  | 0 => p
  | i + 1 => zq_it e (zq_rn e p i) 3
theorem zq_ex_lt (F G : Nat → Nat) (A : Nat → Bool) {s : Nat} (v x : Nat) (hs : s < 16) : zq_ex F G A s v x < 16 := by
  unfold zq_ex
  split
  · exact Nat.lt_of_le_of_lt Nat.and_le_right hs
  · omega
theorem zq_st_lt {e p : Nat} (he : e < 16) (hp : p < 16) : zq_st e p < 16 := by
  unfold zq_st
  cases Nat.beq (e &&& p) 0
  · exact Nat.or_lt_two_pow (n := 4) hp he
  · exact hp
theorem zq_it_lt {e : Nat → Nat} {p : Nat} (he : ∀ x, e x < 16) (hp : p < 16) (i : Nat) : zq_it e p i < 16 := by
  induction i with
  | zero => exact hp
  | succ i ih => exact zq_st_lt (he i) ih
theorem zq_rn_lt {e : Nat → Nat} {p : Nat} (he : ∀ x, e x < 16) (hp : p < 16) (i : Nat) : zq_rn e p i < 16 := by
  induction i with
  | zero => exact hp
  | succ i ih => exact zq_it_lt he ih 3
theorem zq_w_co {post : Int32 → Prop} {s v : Nat} (hv : v < 64) (hs : s < 16) (ok : zq_ok a3 a4 F G A) (hp : post (nI (zq_co F G A s v))) : wpX_componentOf post (fr, fa, fd, fs, fe, a1, a2, a3, a4, a5, a6, a7, a8, a9, a10, a11, a12, a13, a14) (nI s) (nI v) := by
  refine nm_r (zq_tlo s hs) ?_
  refine pk_loop (σ := Unit) (fun n i _ => wX_componentOf_8 post (nI s) (nI v) fr fa fd fs fe a1 a2 a3 a4 a5 a6 a7 a8 a9 a10 a11 a12 a13 a14 n (nI (zq_rn (zq_ex F G A s v) (zq_lo s) i)) (nI i)) (fun _ _ => True) 4 0 () (by omega) trivial
    (fun n _ _ => pk_le 4 4 (fun _ => hp) (fun z => absurd z (by omega))) ?_
  intro n i _ hi _ hw
  exact pk_le 4 i (fun z => absurd z (by omega)) (fun _ => zq_w_co17 hv hs ok (zq_rn_lt (fun x => zq_ex_lt F G A v x hs) (zq_lo_lt s hs) i) (hw () trivial))
theorem zq_w_ig {post : Int32 → Prop} {s v : Nat} (hv : v < 64) (hs : s < 16) (ok : zq_ok a3 a4 F G A) (h1 : (∀ x, x < 3 → zq_ex F G A s v x = 0) → post 1) (h0 : ¬ (∀ x, x < 3 → zq_ex F G A s v x = 0) → post 0) : wpX_isGround post (fr, fa, fd, fs, fe, a1, a2, a3, a4, a5, a6, a7, a8, a9, a10, a11, a12, a13, a14) (nI s) (nI v) := by
  refine pk_loop (σ := Unit) (fun n i _ => wX_isGround_2 post (nI s) (nI v) fr fa fd fs fe a1 a2 a3 a4 a5 a6 a7 a8 a9 a10 a11 a12 a13 a14 n (nI i)) (fun i _ => ∀ x, x < i → zq_ex F G A s v x = 0) 3 0 () (by omega) lt_0
    (fun n _ h => pk_le 3 3 (fun _ => h1 h) (fun z => absurd z (by omega))) ?_
  intro n i _ hi h hw
  have hlt : zq_aw F G A i 4 &&& s < 16 := Nat.lt_of_le_of_lt Nat.and_le_right hs
  refine pk_le 3 i (fun z => absurd z (by omega)) (fun _ => ?_)
  refine zq_w_if hv hi (fun hf => ?_) (fun hf => ?_)
  · refine br_f (by decide) (zq_w_aw hi ok ?_)
    rw [zq_nand]
    have ee : zq_ex F G A s v i = zq_aw F G A i 4 &&& s := if_pos hf
    exact pk_eq (zq_aw F G A i 4 &&& s) 0 (fun z => nm_r (nI_1 i) (hw () (lt_s h (ee.trans z)))) (fun z => h0 (fun t => z (ee.symm.trans (t i hi))))
  · exact br_t rfl (nm_r (nI_1 i) (hw () (lt_s h (if_neg hf))))
theorem zq_w_cv {post : Int32 → Prop} {s v : Nat} (hv : v < 64) (hs : s < 16) (h0 : s ≠ 0) (ok : zq_ok a3 a4 F G A) (h1 : ∀ x, x < 3 → zq_ex F G A s v x = s → post (nI x)) (h2 : (∀ x, x < 3 → zq_ex F G A s v x ≠ s) → post (-1)) : wpX_commonVariable post (fr, fa, fd, fs, fe, a1, a2, a3, a4, a5, a6, a7, a8, a9, a10, a11, a12, a13, a14) (nI s) (nI v) := by
  refine pk_loop (σ := Unit) (fun n i _ => wX_commonVariable_2 post (nI s) (nI v) fr fa fd fs fe a1 a2 a3 a4 a5 a6 a7 a8 a9 a10 a11 a12 a13 a14 n (nI i)) (fun i _ => ∀ x, x < i → zq_ex F G A s v x ≠ s) 3 0 () (by omega) lt_0
    (fun n _ h => pk_le 3 3 (fun _ => h2 h) (fun z => absurd z (by omega))) ?_
  intro n i _ hi h hw
  have hlt : zq_aw F G A i 4 &&& s < 16 := Nat.lt_of_le_of_lt Nat.and_le_right hs
  refine pk_le 3 i (fun z => absurd z (by omega)) (fun _ => ?_)
  refine zq_w_if hv hi (fun hf => ?_) (fun hf => ?_)
  · refine br_f (by decide) (zq_w_aw hi ok ?_)
    rw [zq_nand]
    have ee : zq_ex F G A s v i = zq_aw F G A i 4 &&& s := if_pos hf
    exact pk_eq (zq_aw F G A i 4 &&& s) s (fun z => h1 i hi (ee.trans z)) (fun z => nm_r (nI_1 i) (hw () (lt_s h (fun t => z (ee.symm.trans t)))))
  · have ee : zq_ex F G A s v i = 0 := if_neg hf
    exact br_t rfl (nm_r (nI_1 i) (hw () (lt_s h (by rw [ee]; exact fun t => h0 t.symm))))
theorem zq_w_ev {post : Int32 → Prop} {q v : Nat} (hq : q < 64) (hv : v < 64) (h1 : (∀ x, x < 3 → zq_va v x ≠ 3 → zq_va q x = zq_va v x) → post 1) (h0 : ¬ (∀ x, x < 3 → zq_va v x ≠ 3 → zq_va q x = zq_va v x) → post 0) : wpX_extendsValues post (fr, fa, fd, fs, fe, a1, a2, a3, a4, a5, a6, a7, a8, a9, a10, a11, a12, a13, a14) (nI q) (nI v) := by
  refine pk_loop (σ := Unit) (fun n i _ => wX_extendsValues_2 post (nI q) (nI v) fr fa fd fs fe a1 a2 a3 a4 a5 a6 a7 a8 a9 a10 a11 a12 a13 a14 n (nI i)) (fun i _ => ∀ x, x < i → zq_va v x ≠ 3 → zq_va q x = zq_va v x) 3 0 () (by omega) lt_0
    (fun n _ h => pk_le 3 3 (fun _ => h1 h) (fun z => absurd z (by omega))) ?_
  intro n i _ hi h hw
  have b1 := zq_va_le v i
  have b2 := zq_va_le q i
  refine pk_le 3 i (fun z => absurd z (by omega)) (fun _ => ?_)
  refine zq_w_if hv hi (fun hf => ?_) (fun hf => ?_)
  · exact br_f (by decide) (nm_r (nI_1 i) (hw () (lt_s h (fun t => absurd hf t))))
  · refine br_t rfl (zq_w_vo hv hi (zq_w_vo hq hi ?_))
    exact pk_eq (zq_va v i) (zq_va q i) (fun z => nm_r (nI_1 i) (hw () (lt_s h (fun _ => z.symm)))) (fun z => h0 (fun t => z (t i hi hf).symm))
def zq_g (F G : Nat → Nat) (v r : Nat) : Nat := 9 * r + 3 * zq_va v (F r) + zq_va v (G r)
theorem zq_w_gr {post : Int32 → Prop} {r v : Nat} (hv : v < 64) (hr : r < 4) (hA : A r = true) (ok : zq_ok a3 a4 F G A) (hp : post (nI (zq_g F G v r))) : wpX_groundRow post (fr, fa, fd, fs, fe, a1, a2, a3, a4, a5, a6, a7, a8, a9, a10, a11, a12, a13, a14) (nI r) (nI v) := by
  obtain ⟨e3, e4, f3, g3⟩ := (ok r hr).1 hA
  refine ⟨pk_in r 4 hr, ?_⟩
  rw [nI_clamp (show r < 2 ^ 31 by omega), e3, e4]
  refine zq_w_vo hv f3 ⟨pk_in r 4 hr, zq_w_vo hv g3 ?_⟩
  rw [zq_gri]
  exact hp
theorem zq_g_lt {v r : Nat} (hr : r < 4) (h3 : ∀ x, x < 3 → zq_va v x < 3) (hF : F r < 3) (hG : G r < 3) : zq_g F G v r < 36 := by
  have := h3 _ hF
  have := h3 _ hG
  unfold zq_g
  omega
theorem zq_w_at {post : Int32 → Prop} {s q : Nat} (hq : q < 64) (h3 : ∀ x, x < 3 → zq_va q x < 3) (hs : s < 16) (hA : ∀ r, zq_S s r = true → A r = true) (ok : zq_ok a3 a4 F G A)
    (h1 : (∀ r, zq_S s r = true → a2 (zq_g F G q r) = 10) → post 1) (h0 : ¬ (∀ r, zq_S s r = true → a2 (zq_g F G q r) = 10) → post 0) : wpX_allThere post (fr, fa, fd, fs, fe, a1, a2, a3, a4, a5, a6, a7, a8, a9, a10, a11, a12, a13, a14) (nI s) (nI q) := by
  refine pk_loop (σ := Unit) (fun n i _ => wX_allThere_2 post (nI s) (nI q) fr fa fd fs fe a1 a2 a3 a4 a5 a6 a7 a8 a9 a10 a11 a12 a13 a14 n (nI i)) (fun i _ => ∀ r, r < i → zq_S s r = true → a2 (zq_g F G q r) = 10) 4 0 () (by omega) lt_0
    (fun n _ h => pk_le 4 4 (fun _ => h1 (fun r hr => h r (zq_S_lt hs hr) hr)) (fun z => absurd z (by omega))) ?_
  intro n i _ hi h hw
  refine pk_le 4 i (fun z => absurd z (by omega)) (fun _ => ?_)
  refine ek_if (zq_nbit (by omega) (by omega)) (fun z => ?_) (fun z => ?_)
  · exact nm_r (nI_1 i) (hw () (lt_s h (fun t => by
      have t' : s.testBit i = true := t
      rw [z] at t'
      exact absurd t' Bool.false_ne_true)))
  · have hSi : zq_S s i = true := by
      cases e : s.testBit i
      · exact absurd e z
      · exact e
    have hAi := hA i hSi
    obtain ⟨_, _, f3, g3⟩ := (ok i hi).1 hAi
    have gl := zq_g_lt hi h3 f3 g3
    refine zq_w_gr hq hi hAi ok ⟨pk_in _ 36 gl, ?_⟩
    rw [nI_clamp (show zq_g F G q i < 2 ^ 31 by omega)]
    exact br_c (fun c => nm_r (nI_1 i) (hw () (lt_s h (fun _ => c)))) (fun c => h0 (fun t => c (t i hSi)))
theorem zq_w_hs {post : Int32 → Prop} {s v : Nat} (hv : v < 64) (hs : s < 16) (hA : ∀ r, zq_S s r = true → A r = true) (ok : zq_ok a3 a4 F G A)
    (h1 : (∃ k, k < 27 ∧ (∀ x, x < 3 → zq_va v x ≠ 3 → zq_va (zq_fu k) x = zq_va v x) ∧ ∀ r, zq_S s r = true → a2 (zq_g F G (zq_fu k) r) = 10) → post 1)
    (h0 : ¬ (∃ k, k < 27 ∧ (∀ x, x < 3 → zq_va v x ≠ 3 → zq_va (zq_fu k) x = zq_va v x) ∧ ∀ r, zq_S s r = true → a2 (zq_g F G (zq_fu k) r) = 10) → post 0) : wpX_holdsForSure post (fr, fa, fd, fs, fe, a1, a2, a3, a4, a5, a6, a7, a8, a9, a10, a11, a12, a13, a14) (nI s) (nI v) := by
  refine pk_loop (σ := Unit) (fun n i _ => wX_holdsForSure_2 post (nI s) (nI v) fr fa fd fs fe a1 a2 a3 a4 a5 a6 a7 a8 a9 a10 a11 a12 a13 a14 n (nI i)) (fun i _ => ∀ k, k < i → ¬ ((∀ x, x < 3 → zq_va v x ≠ 3 → zq_va (zq_fu k) x = zq_va v x) ∧ ∀ r, zq_S s r = true → a2 (zq_g F G (zq_fu k) r) = 10)) 27 0 () (by omega) lt_0
    (fun n _ h => pk_le 27 27 (fun _ => h0 (fun ⟨k, hk, z⟩ => h k hk z)) (fun z => absurd z (by omega))) ?_
  intro n i _ hi h hw
  refine pk_le 27 i (fun z => absurd z (by omega)) (fun _ => ⟨by decide, by decide, by decide, by decide, nm_r (zq_tfu i hi) ?_⟩)
  have l := zq_fu_lt i hi
  refine zq_w_ev l hv (fun c => ?_) (fun c => br_t rfl (nm_r (nI_1 i) (hw () (lt_s h (fun t => c t.1)))))
  refine br_f (by decide) (zq_w_at l (fun x hx => zq_fu_va3 hi hx) hs hA ok (fun d => br_f (by decide) (h1 ⟨i, hi, c, d⟩)) (fun d => br_t rfl (nm_r (nI_1 i) (hw () (lt_s h (fun t => d t.2))))))
theorem zq_div9 {i : Nat} (h : i < 36) : nI i / 9 = nI (i / 9) := pk_div (d := 9) (by omega) (by omega) (by omega)
theorem zq_div3 {i : Nat} (h : i < 36) : nI i / 3 = nI (i / 3) := pk_div (d := 3) (by omega) (by omega) (by omega)
theorem zq_rem3 {i : Nat} (h : i < 36) : nI i - nI i / 3 * 3 = nI (i % 3) := pk_rem (d := 3) (by omega) (by omega) (by omega)
theorem zq_w_ir95 {post : Int32 → Prop} {r a b : Nat} {z : Int32} (hr : r < 4) (ha : a < 3) (hb : b < 3) (hA : A r = true) (ok : zq_ok a3 a4 F G A) (h0 : z = 0 → post 0) (h1 : ¬ z = 0 → (F r = G r → a = b) → post 1) (h2 : ¬ (F r = G r → a = b) → post 0) : wX_isRelevant_95 post (nI r) (nI a) (nI b) z fr fa fd fs fe a1 a2 a3 a4 a5 a6 a7 a8 a9 a10 a11 a12 a13 a14 := by
  obtain ⟨e3, e4, f3, g3⟩ := (ok r hr).1 hA
  refine br_c h0 (fun hz => ⟨pk_in r 4 hr, pk_in r 4 hr, ?_⟩)
  rw [nI_clamp (show r < 2 ^ 31 by omega), e3, e4]
  exact pk_eq (F r) (G r) (fun c => pk_eq a b (fun e => h1 hz (fun _ => e)) (fun e => h2 (fun t => e (t c)))) (fun c => h1 hz (fun t => absurd t c))
theorem zq_w_ir {post : Int32 → Prop} {i s v : Nat} (hi : i < 36) (hv : v < 64) (hs : s < 16) (hA : ∀ r, zq_S s r = true → A r = true) (ok : zq_ok a3 a4 F G A) (wk : zq_wk a2 L P)
    (h1 : zq_R L F G (zq_S s) (zq_va v) i = true → post 1) (h0 : zq_R L F G (zq_S s) (zq_va v) i = false → post 0) : wpX_isRelevant post (fr, fa, fd, fs, fe, a1, a2, a3, a4, a5, a6, a7, a8, a9, a10, a11, a12, a13, a14) (nI i) (nI s) (nI v) := by
  have h0' : ¬ zq_R L F G (zq_S s) (zq_va v) i = true → post 0 := fun h => h0 (by
    cases e : zq_R L F G (zq_S s) (zq_va v) i
    · rfl
    · exact absurd e h)
  refine ⟨by decide, nm_r (zq_div9 hi) ⟨pk_in i 36 hi, ?_⟩⟩
  rw [nI_clamp (show i < 2 ^ 31 by omega)]
  cases hL : L i
  · refine br_t (by rw [((wk i hi).2 hL)]; exact zq_neg0) (h0' (fun t => ?_))
    have := (zq_R_iff.mp t).1
    rw [hL] at this
    exact Bool.false_ne_true this
  obtain ⟨ew, pw⟩ := (wk i hi).1 hL
  refine br_f (by rw [ew]; exact nI_pos (by omega)) ?_
  refine ek_if (zq_nbit (by omega) (by omega)) (fun z => h0' (fun t => ?_)) (fun z => ?_)
  · have t' : s.testBit (i / 9) = true := (zq_R_iff.mp t).2.1
    rw [z] at t'
    exact absurd t' Bool.false_ne_true
  have hSi : zq_S s (i / 9) = true := by
    cases e : s.testBit (i / 9)
    · exact absurd e z
    · exact e
  have hAi := hA _ hSi
  have hr : i / 9 < 4 := by omega
  obtain ⟨e3, e4, f3, g3⟩ := (ok _ hr).1 hAi
  have q1 : i / 3 % 3 < 3 := by omega
  have q2 : i % 3 < 3 := by omega
  refine ⟨by decide, by decide, nm_r (e' := nI (i / 3 % 3)) (by rw [zq_div3 hi]; exact zq_rem3 (by omega)) ⟨by decide, nm_r (zq_rem3 hi) ⟨pk_in _ 4 hr, ?_⟩⟩⟩
  rw [nI_clamp (show i / 9 < 2 ^ 31 by omega), e3, e4]
  refine zq_w_vo hv f3 ⟨pk_in _ 4 hr, zq_w_vo hv g3 ?_⟩
  have b1 := zq_va_le v (F (i / 9))
  have b2 := zq_va_le v (G (i / 9))
  have c94 : ¬ ((zq_va v (F (i / 9)) = 3 ∨ zq_va v (F (i / 9)) = i / 3 % 3) ∧ (zq_va v (G (i / 9)) = 3 ∨ zq_va v (G (i / 9)) = i % 3)) → wX_isRelevant_94 post (nI (i / 9)) (nI (i / 3 % 3)) (nI (i % 3)) fr fa fd fs fe a1 a2 a3 a4 a5 a6 a7 a8 a9 a10 a11 a12 a13 a14 := fun n =>
    zq_w_ir95 hr q1 q2 hAi ok (fun _ => h0' (fun t => n ⟨(zq_R_iff.mp t).2.2.1, (zq_R_iff.mp t).2.2.2.1⟩)) (fun t => absurd rfl t) (fun n2 => h0' (fun t => n2 (zq_R_iff.mp t).2.2.2.2))
  have c90 : (zq_va v (F (i / 9)) = 3 ∨ zq_va v (F (i / 9)) = i / 3 % 3) ∧ (zq_va v (G (i / 9)) = 3 ∨ zq_va v (G (i / 9)) = i % 3) → wX_isRelevant_90 post (nI (i / 9)) (nI (i / 3 % 3)) (nI (i % 3)) fr fa fd fs fe a1 a2 a3 a4 a5 a6 a7 a8 a9 a10 a11 a12 a13 a14 := fun y =>
    zq_w_ir95 hr q1 q2 hAi ok (fun t => absurd t (by decide)) (fun _ c => h1 (zq_R_iff.mpr ⟨hL, hSi, y.1, y.2, c⟩)) (fun n2 => h0' (fun t => n2 (zq_R_iff.mp t).2.2.2.2))
  have c77 : (zq_va v (F (i / 9)) = 3 ∨ zq_va v (F (i / 9)) = i / 3 % 3) → wX_isRelevant_77 post (nI (i / 9)) (nI (i / 3 % 3)) (nI (i % 3)) (nI (zq_va v (G (i / 9)))) fr fa fd fs fe a1 a2 a3 a4 a5 a6 a7 a8 a9 a10 a11 a12 a13 a14 := fun y =>
    pk_eq (zq_va v (G (i / 9))) 3 (fun c => c90 ⟨y, Or.inl c⟩) (fun c => pk_eq (zq_va v (G (i / 9))) (i % 3) (fun e => c90 ⟨y, Or.inr e⟩) (fun e => c94 (fun t => t.2.elim c e)))
  exact pk_eq (zq_va v (F (i / 9))) 3 (fun c => c77 (Or.inl c)) (fun c => pk_eq (zq_va v (F (i / 9))) (i / 3 % 3) (fun e => c77 (Or.inr e)) (fun e => c94 (fun t => t.1.elim c e)))
theorem zq_w_pw {post : Int64 → Prop} {e : Nat} (he : e ≤ 10) (hp : post (lN (10 ^ e))) : wpX_power post () (nI e) := by
  refine pk_loop (σ := Unit) (fun n i _ => wX_power_4 post (nI e) n (lN (10 ^ i)) (nI i)) (fun _ _ => True) e 0 () (by omega) trivial
    (fun n _ _ => pk_le e e (fun _ => hp) (fun z => absurd z (by omega))) ?_
  intro n i _ hi _ hw
  refine pk_le e i (fun z => absurd z (by omega)) (fun _ => pk_le 10 i (fun z => absurd z (by omega)) (fun _ => nm_r (e' := lN (10 ^ (i + 1))) ?_ (nm_r (nI_1 i) (hw () trivial))))
  rw [Nat.pow_succ]
  exact lN_mul (10 ^ i) 10
end
end
section
/-! walks of the methods that change a frame -/
section
variable {fr fa fd : Int32} {fs : Int64} {fe : Int32} {a1 a2 a3 a4 a5 a6 a7 a8 a9 a10 a11 a12 : Nat → Int32} {a13 : Nat → Int64} {a14 : Nat → Int32} {F G : Nat → Nat} {A : Nat → Bool} {L : Nat → Bool} {P : Nat → Nat}
theorem zq_w_en {post : St1 → Prop} {k : Nat} {p0 p1 : Int32} (hk : k < 48) (hp : post (fr, fa, nI (k + 1), fs, fe, a1, a2, a3, a4, upd a5 k 0, upd a6 k p0, upd a7 k p1, a8, a9, a10, a11, a12, a13, a14)) : wpX_enter post (fr, fa, nI k, fs, fe, a1, a2, a3, a4, a5, a6, a7, a8, a9, a10, a11, a12, a13, a14) p0 p1 := by
  unfold wpX_enter
  dsimp only
  rw [nI_clamp (show k < 2 ^ 31 by omega)]
  exact ⟨pk_in k 48 hk, nm_e ⟨pk_in k 48 hk, nm_e ⟨pk_in k 48 hk, nm_e (nm_r (nI_1 k) hp)⟩⟩⟩
theorem zq_w_lv {post : St1 → Prop} {d : Nat} {p0 : Int64} {p1 : Int32} (hp : post (fr, fa, nI d, p0, p1, a1, a2, a3, a4, a5, a6, a7, a8, a9, a10, a11, a12, a13, a14)) : wpX_leave post (fr, fa, nI (d + 1), fs, fe, a1, a2, a3, a4, a5, a6, a7, a8, a9, a10, a11, a12, a13, a14) p0 p1 := by
  unfold wpX_leave
  exact nm_r (nI_pred d) hp
theorem zq_hs_iff {s v : Nat} (hs : s < 16) (hA : ∀ r, zq_S s r = true → A r = true) (ok : zq_ok a3 a4 F G A) (wk : zq_wk a2 L P) :
    zq_Q F G (zq_S s) (zq_va v) (fun i => L i && decide (P i = 10)) ↔ ∃ k, k < 27 ∧ (∀ x, x < 3 → zq_va v x ≠ 3 → zq_va (zq_fu k) x = zq_va v x) ∧ ∀ r, zq_S s r = true → a2 (zq_g F G (zq_fu k) r) = 10 := by
  constructor
  · rintro ⟨t, h1, h2, h3⟩
    obtain ⟨k, hk, e⟩ := zq_fu_of t h1
    refine ⟨k, hk, fun x hx hv => (e x hx).trans (h2 x hx hv), fun r hr => ?_⟩
    have hr4 := zq_S_lt hs hr
    obtain ⟨_, _, f3, g3⟩ := (ok r hr4).1 (hA r hr)
    have b1 := h1 (F r)
    have b2 := h1 (G r)
    have z := h3 r hr
    dsimp only at z
    unfold zq_g
    rw [e _ f3, e _ g3]
    rw [Bool.and_eq_true, decide_eq_true_iff] at z
    rw [((wk _ (by omega)).1 z.1).1, z.2]
    rfl
  · rintro ⟨k, hk, h2, h3⟩
    refine ⟨fun x => if x < 3 then zq_va (zq_fu k) x else 0, fun x => ?_, fun x hx hv => ?_, fun r hr => ?_⟩
    · dsimp only
      split
      · rename_i h
        exact zq_fu_va3 hk h
      · omega
    · dsimp only
      rw [if_pos hx]
      exact h2 x hx hv
    · have hr4 := zq_S_lt hs hr
      obtain ⟨_, _, f3, g3⟩ := (ok r hr4).1 (hA r hr)
      dsimp only
      rw [if_pos f3, if_pos g3]
      have z := h3 r hr
      have gl := zq_g_lt (F := F) (G := G) hr4 (fun x hx => zq_fu_va3 hk hx) f3 g3
      show (L (zq_g F G (zq_fu k) r) && decide (P (zq_g F G (zq_fu k) r) = 10)) = true
      generalize zq_g F G (zq_fu k) r = g at z gl
      cases e : L g
      · rw [(wk g gl).2 e] at z
        exact absurd z (by decide)
      · have w := (wk g gl).1 e
        rw [w.1] at z
        rw [Bool.true_and, decide_eq_true_iff]
        exact (nI_eq (b := 10) (by omega) (by omega)).mp z
theorem zq_w_sd {post : St1 → Prop} {d s v : Nat} (hd : d + 1 < 48) (hv : v < 64) (hs : s < 16) (hA : ∀ r, zq_S s r = true → A r = true) (ok : zq_ok a3 a4 F G A) (wk : zq_wk a2 L P) (hc : zq_e L F G (zq_S s) (zq_va v) ≤ 10)
    (hO : ∀ j, j < 36 → zq_R L F G (zq_S s) (zq_va v) j = true → 0 < P j → P j < 10 → post (fr, fa, nI (d + 2), fs, fe, a1, upd a2 j 10, a3, a4, upd (upd a5 d 3) (d + 1) 0, upd a6 (d + 1) (nI s), upd a7 (d + 1) (nI v), a8, a9, a10, upd a11 d (nI j), upd a12 d (nI (P j)), a13, a14))
    (hN : (∀ j, j < 36 → zq_R L F G (zq_S s) (zq_va v) j = true → P j = 10 ∨ P j = 0) → post (fr, fa, nI d, lN (zq_s L P F G (zq_S s) (zq_va v)), nI (zq_e L F G (zq_S s) (zq_va v)), a1, a2, a3, a4, a5, a6, a7, a8, a9, a10, a11, a12, a13, a14)) :
    wpX_startDeciding post (fr, fa, nI (d + 1), fs, fe, a1, a2, a3, a4, a5, a6, a7, a8, a9, a10, a11, a12, a13, a14) (nI d) (nI s) (nI v) := by
  have hF : ∀ r, zq_S s r = true → r < 4 ∧ F r < 3 ∧ G r < 3 := fun r hr => by
    obtain ⟨_, _, f3, g3⟩ := (ok r (zq_S_lt hs hr)).1 (hA r hr)
    exact ⟨zq_S_lt hs hr, f3, g3⟩
  refine pk_loop (σ := Int32) (fun n i y => wX_startDeciding_9 post (nI d) (nI s) (nI v) fr fa (nI (d + 1)) fs fe a1 a2 a3 a4 a5 a6 a7 a8 a9 a10 a11 a12 a13 a14 n y (nI (zq_c (zq_R L F G (zq_S s) (zq_va v)) i)) (nI i))
    (fun i y => (y = -1 ∧ ∀ j, j < i → zq_R L F G (zq_S s) (zq_va v) j = true → P j = 10 ∨ P j = 0) ∨ ∃ j, j < i ∧ y = nI j ∧ zq_R L F G (zq_S s) (zq_va v) j = true ∧ 0 < P j ∧ P j < 10) 36 0 (-1) (by omega) (Or.inl ⟨rfl, lt_0⟩) ?_ ?_
  · intro n y hI
    refine pk_le 36 36 (fun _ => ?_) (fun z => absurd z (by omega))
    rcases hI with ⟨rfl, hall⟩ | ⟨j, hj, rfl, hR, h0, h10⟩
    · refine br_f (by decide) ?_
      have hs1 := zq_s_vert (L := L) (P := P) (V := zq_va v) hF (fun i hi => by
        rcases Nat.lt_or_ge i 36 with z | z
        · exact hall i z hi
        · have := zq_S_lt hs (zq_R_iff.mp hi).2.1
          omega)
      have hp := hN hall
      refine zq_w_hs hv hs hA ok (fun hh => ?_) (fun hh => ?_)
      · rw [zq_i_t ((zq_hs_iff hs hA ok wk).mpr hh), Nat.mul_one] at hs1
        rw [hs1] at hp
        refine br_f (by decide) (zq_w_pw hc ?_)
        exact zq_w_lv hp
      · rw [zq_i_f (fun t => hh ((zq_hs_iff hs hA ok wk).mp t)), Nat.mul_zero] at hs1
        rw [hs1] at hp
        refine br_t rfl ?_
        exact zq_w_lv hp
    · have hp := hO j hj hR h0 h10
      have ew := ((wk j hj).1 (zq_R_iff.mp hR).1).1
      refine br_t (nI_pos' (by omega)) ?_
      rw [nI_clamp (show d < 2 ^ 31 by omega), nI_clamp (show j < 2 ^ 31 by omega), ew]
      exact ⟨pk_in d 48 (by omega), nm_e ⟨pk_in d 48 (by omega), nm_e ⟨pk_in j 36 hj, pk_in d 48 (by omega), nm_e ⟨pk_in j 36 hj, nm_e (zq_w_en hd hp)⟩⟩⟩⟩
  · intro n i y hi hI hw
    refine pk_le 36 i (fun z => absurd z (by omega)) (fun _ => ?_)
    refine zq_w_ir hi hv hs hA ok wk (fun hR => ?_) (fun hR => ?_)
    · obtain ⟨ew, pw⟩ := (wk i hi).1 (zq_R_iff.mp hR).1
      have hw' : ∀ y', ((y' = -1 ∧ ∀ j, j < i + 1 → zq_R L F G (zq_S s) (zq_va v) j = true → P j = 10 ∨ P j = 0) ∨ ∃ j, j < i + 1 ∧ y' = nI j ∧ zq_R L F G (zq_S s) (zq_va v) j = true ∧ 0 < P j ∧ P j < 10) →
          wX_startDeciding_9 post (nI d) (nI s) (nI v) fr fa (nI (d + 1)) fs fe a1 a2 a3 a4 a5 a6 a7 a8 a9 a10 a11 a12 a13 a14 n y' (nI (zq_c (zq_R L F G (zq_S s) (zq_va v)) i + 1)) (nI (i + 1)) := by
        intro y' h
        have t := hw y' h
        rw [zq_c_t hR] at t
        exact t
      have keep : P i = 10 ∨ P i = 0 → ((y = -1 ∧ ∀ j, j < i + 1 → zq_R L F G (zq_S s) (zq_va v) j = true → P j = 10 ∨ P j = 0) ∨ ∃ j, j < i + 1 ∧ y = nI j ∧ zq_R L F G (zq_S s) (zq_va v) j = true ∧ 0 < P j ∧ P j < 10) := by
        intro hP
        rcases hI with ⟨e, hall⟩ | ⟨j, hj, e, q⟩
        · exact Or.inl ⟨e, lt_s hall (fun _ => hP)⟩
        · exact Or.inr ⟨j, by omega, e, q⟩
      refine br_f (by decide) (nm_r (nI_1 _) ⟨pk_in i 36 hi, ?_⟩)
      rw [nI_clamp (show i < 2 ^ 31 by omega), ew]
      exact pk_le (P i) 0 (fun z => nm_r (nI_1 i) (hw' y (keep (Or.inr (by omega))))) (fun z => ⟨pk_in i 36 hi, pk_le 10 (P i) (fun z2 => nm_r (nI_1 i) (hw' y (keep (Or.inl (by omega))))) (fun z2 => nm_r (nI_1 i) (hw' (nI i) (Or.inr ⟨i, by omega, rfl, hR, z, z2⟩)))⟩)
    · have t := hw y (by
        rcases hI with ⟨e, hall⟩ | ⟨j, hj, e, q⟩
        · exact Or.inl ⟨e, lt_s hall (fun h => by rw [hR] at h; exact absurd h Bool.false_ne_true)⟩
        · exact Or.inr ⟨j, by omega, e, q⟩)
      rw [zq_c_f hR] at t
      exact br_t rfl (nm_r (nI_1 i) t)
theorem zq_S_two {r0 r : Nat} (h0 : r0 < 4) : zq_S (2 ^ r0) r = true ↔ r = r0 := by
  constructor
  · intro h
    have h4 : r < 4 := zq_S_lt (s := 2 ^ r0) (Nat.pow_lt_pow_right (a := 2) (n := 4) (by omega) h0) h
    have t := zq_two r0 h0 r h4
    unfold zq_S at h
    rw [h] at t
    exact (decide_eq_true_iff.mp t.symm)
  · rintro rfl
    show (2 ^ r).testBit r = true
    rw [zq_two r h0 r h0]
    exact decide_eq_true rfl
theorem zq_w_fg {post : St1 → Prop} {d r0 v : Nat} (hv : v < 64) (hr : r0 < 4) (hA : A r0 = true) (ok : zq_ok a3 a4 F G A) (wk : zq_wk a2 L P) (hf : zq_va v (F r0) ≠ 3) (hg : zq_va v (G r0) ≠ 3)
    (hp : post (fr, fa, nI d, lN (zq_s L P F G (zq_S (2 ^ r0)) (zq_va v)), nI (zq_e L F G (zq_S (2 ^ r0)) (zq_va v)), a1, a2, a3, a4, a5, a6, a7, a8, a9, a10, a11, a12, a13, a14)) :
    wpX_finishGround post (fr, fa, nI (d + 1), fs, fe, a1, a2, a3, a4, a5, a6, a7, a8, a9, a10, a11, a12, a13, a14) (nI (2 ^ r0)) (nI v) := by
  obtain ⟨e3, e4, f3, g3⟩ := (ok r0 hr).1 hA
  have p16 : 2 ^ r0 < 16 := Nat.pow_lt_pow_right (a := 2) (n := 4) (by omega) hr
  have gs := zq_s_ground (L := L) (P := P) (F := F) (G := G) (S := zq_S (2 ^ r0)) (V := zq_va v) (zq_va_le v) (r0 := r0) (fun r => zq_S_two hr) hr ⟨f3, g3⟩ hf hg
  have b1 := zq_va_le v (F r0)
  have b2 := zq_va_le v (G r0)
  refine pk_loop (σ := Unit) (fun n i _ => wX_finishGround_5 post (nI (2 ^ r0)) (nI v) fr fa (nI (d + 1)) fs fe a1 a2 a3 a4 a5 a6 a7 a8 a9 a10 a11 a12 a13 a14 n (nI (if r0 < i then r0 else 0)) (nI i)) (fun _ _ => True) 4 0 () (by omega) trivial ?_ ?_
  · intro n _ _
    refine pk_le 4 4 (fun _ => ?_) (fun z => absurd z (by omega))
    rw [if_pos hr]
    refine zq_w_gr hv hr hA ok ?_
    have gl : zq_g F G v r0 < 36 := by
      unfold zq_g
      omega
    refine ⟨pk_in _ 36 gl, ?_⟩
    rw [nI_clamp (show zq_g F G v r0 < 2 ^ 31 by omega)]
    cases hL : L (zq_g F G v r0)
    · have w := (wk _ gl).2 hL
      refine nm_r w (br_f (by decide) ?_)
      have q := gs.2 hL
      rw [q.1, q.2] at hp
      exact zq_w_lv hp
    · have w := (wk _ gl).1 hL
      refine nm_r w.1 (br_t (nI_pos' (by omega)) ?_)
      have q := gs.1 hL
      rw [q.1, q.2] at hp
      rw [nI_l (by omega)]
      exact zq_w_lv hp
  · intro n i _ hi _ hw
    have t := hw () trivial
    refine pk_le 4 i (fun z => absurd z (by omega)) (fun _ => ?_)
    refine ek_if (zq_nbit (by omega) (by omega)) (fun z => ?_) (fun z => ?_)
    · have ne : i ≠ r0 := fun e => by
        rw [e] at z
        have := zq_two r0 hr r0 hr
        rw [z] at this
        exact absurd this.symm (by simp)
      have : (if r0 < i + 1 then r0 else 0) = (if r0 < i then r0 else 0) := by
        by_cases c : r0 < i
        · rw [if_pos c, if_pos (by omega)]
        · rw [if_neg c, if_neg (by omega)]
      rw [this] at t
      exact nm_r (nI_1 i) t
    · have e : i = r0 := by
        have q := zq_two r0 hr i hi
        by_cases c : i = r0
        · exact c
        · rw [decide_eq_false c] at q
          exact absurd q z
      have : (if r0 < i + 1 then r0 else 0) = i := by rw [if_pos (by omega), e]
      rw [this] at t
      exact nm_r (nI_1 i) t
theorem zq_ex_sub (F G : Nat → Nat) (A : Nat → Bool) (s v x : Nat) : zq_ex F G A s v x &&& s = zq_ex F G A s v x := by
  unfold zq_ex
  split
  · rw [Nat.and_assoc, Nat.and_self]
  · exact Nat.zero_and _
theorem zq_ex_bit {s v x r : Nat} (hv : zq_va v x = 3) (hr : zq_S s r = true) (hs : s < 16) (hA : A r = true) (h : F r = x ∨ G r = x) : (zq_ex F G A s v x).testBit r = true := by
  unfold zq_ex
  have hr' : s.testBit r = true := hr
  rw [if_pos hv, Nat.testBit_and, zq_aw_bit, hr', zq_has_iff.mpr ⟨hA, h⟩, decide_eq_true (zq_S_lt hs hr)]
  rfl
theorem zq_ground_v {s v r : Nat} (hs : s < 16) (hA : ∀ r, zq_S s r = true → A r = true) (hr : zq_S s r = true) (hg : ∀ x, x < 3 → zq_ex F G A s v x = 0) {x : Nat} (hx : x < 3) (h : F r = x ∨ G r = x) : zq_va v x ≠ 3 := by
  intro e
  have := zq_ex_bit (F := F) (G := G) e hr hs (hA r hr) h
  rw [hg x hx, Nat.zero_testBit] at this
  exact Bool.false_ne_true this
theorem zq_co_ok (F G : Nat → Nat) (A : Nat → Bool) {s : Nat} (v : Nat) (hs : s < 16) (h0 : s ≠ 0) :
    zq_co F G A s v &&& s = zq_co F G A s v ∧ zq_co F G A s v < 16 ∧ zq_co F G A s v ≠ 0 ∧ (∀ x, x < 3 → zq_ex F G A s v x &&& zq_co F G A s v = 0 ∨ zq_ex F G A s v x &&& zq_co F G A s v = zq_ex F G A s v x)
      ∧ zq_co F G A (zq_co F G A s v) v = zq_co F G A s v ∧ ((∀ x, x < 3 → zq_ex F G A s v x = 0) → ∃ r, r < 4 ∧ zq_co F G A s v = 2 ^ r) := by
  have z := zq_cmp_ok hs h0 (zq_ex_sub F G A s v 0) (zq_ex_sub F G A s v 1) (zq_ex_sub F G A s v 2)
  have ex : ∀ x, zq_ex F G A (zq_co F G A s v) v x = zq_ex F G A s v x &&& zq_co F G A s v := by
    intro x
    have zs : zq_co F G A s v &&& s = zq_co F G A s v := z.1
    unfold zq_ex
    split
    · rw [Nat.and_assoc, Nat.and_comm s, zs]
    · exact (Nat.zero_and _).symm
  refine ⟨z.1, ?_, z.2.1, fun x hx => ?_, ?_, fun h => z.2.2.2.2.2.2 (h 0 (by omega)) (h 1 (by omega)) (h 2 (by omega))⟩
  · have : zq_co F G A s v &&& s < 16 := Nat.lt_of_le_of_lt Nat.and_le_right hs
    have e : zq_co F G A s v &&& s = zq_co F G A s v := z.1
    rw [e] at this
    exact this
  · have e : x = 0 ∨ x = 1 ∨ x = 2 := by omega
    rcases e with rfl | rfl | rfl
    · exact z.2.2.1
    · exact z.2.2.2.1
    · exact z.2.2.2.2.1
  · have t := z.2.2.2.2.2.1
    show zq_cmp (zq_co F G A s v) (zq_ex F G A (zq_co F G A s v) v 0) (zq_ex F G A (zq_co F G A s v) v 1) (zq_ex F G A (zq_co F G A s v) v 2) = _
    rw [ex, ex, ex]
    exact t
theorem zq_w_bg {post : St1 → Prop} {d s v : Nat} (hd : d + 1 < 48) (hv : v < 64) (hs : s < 16) (e6 : a6 d = nI s) (e7 : a7 d = nI v) (hA : ∀ r, zq_S s r = true → A r = true) (ok : zq_ok a3 a4 F G A) (wk : zq_wk a2 L P) (hc : zq_e L F G (zq_S s) (zq_va v) ≤ 10)
    (c0 : s = 0 → post (fr, fa, nI d, 1, 0, a1, a2, a3, a4, a5, a6, a7, a8, a9, a10, a11, a12, vp_updL a13 d 1, upd a14 d 0))
    (c1 : s ≠ 0 → zq_co F G A s v ≠ s → post (fr, fa, nI (d + 2), fs, fe, a1, a2, a3, a4, upd (upd a5 d 1) (d + 1) 0, upd a6 (d + 1) (nI (zq_co F G A s v)), upd a7 (d + 1) (nI v), upd a8 d (nI (s - zq_co F G A s v)), a9, a10, a11, a12, vp_updL a13 d 1, upd a14 d 0))
    (c2 : s ≠ 0 → zq_co F G A s v = s → (∀ x, x < 3 → zq_ex F G A s v x = 0) → post (fr, fa, nI d, lN (zq_s L P F G (zq_S s) (zq_va v)), nI (zq_e L F G (zq_S s) (zq_va v)), a1, a2, a3, a4, a5, a6, a7, a8, a9, a10, a11, a12, vp_updL a13 d 1, upd a14 d 0))
    (c3 : s ≠ 0 → zq_co F G A s v = s → (¬ ∀ x, x < 3 → zq_ex F G A s v x = 0) → ∀ x, x < 3 → zq_ex F G A s v x = s → post (fr, fa, nI (d + 2), fs, fe, a1, a2, a3, a4, upd (upd a5 d 2) (d + 1) 0, upd a6 (d + 1) (nI s), upd a7 (d + 1) (nI (zq_set v x 0)), a8, upd a9 d (nI x), upd a10 d 0, a11, a12, vp_updL a13 d 1, upd a14 d 0))
    (c4 : s ≠ 0 → zq_co F G A s v = s → (¬ ∀ x, x < 3 → zq_ex F G A s v x = 0) → (∀ x, x < 3 → zq_ex F G A s v x ≠ s) → ∀ j, j < 36 → zq_R L F G (zq_S s) (zq_va v) j = true → 0 < P j → P j < 10 → post (fr, fa, nI (d + 2), fs, fe, a1, upd a2 j 10, a3, a4, upd (upd a5 d 3) (d + 1) 0, upd a6 (d + 1) (nI s), upd a7 (d + 1) (nI v), a8, a9, a10, upd a11 d (nI j), upd a12 d (nI (P j)), vp_updL a13 d 1, upd a14 d 0))
    (c5 : s ≠ 0 → zq_co F G A s v = s → (¬ ∀ x, x < 3 → zq_ex F G A s v x = 0) → (∀ x, x < 3 → zq_ex F G A s v x ≠ s) → post (fr, fa, nI d, lN (zq_s L P F G (zq_S s) (zq_va v)), nI (zq_e L F G (zq_S s) (zq_va v)), a1, a2, a3, a4, a5, a6, a7, a8, a9, a10, a11, a12, vp_updL a13 d 1, upd a14 d 0)) :
    wpX_begin post (fr, fa, nI (d + 1), fs, fe, a1, a2, a3, a4, a5, a6, a7, a8, a9, a10, a11, a12, a13, a14) (nI d) := by
  have hi : ∀ N, d < N → N < 2 ^ 31 → vp_in (nI d) N := fun N h1 h2 => vp_in_nI h1 h2
  have h48 := hi 48 (by omega) (by omega)
  unfold wpX_begin
  dsimp only
  rw [nI_clamp (show d < 2 ^ 31 by omega), e6, e7]
  refine ⟨h48, nm_e ⟨h48, nm_e ⟨h48, nm_e ⟨h48, nm_e ?_⟩⟩⟩⟩
  refine pk_eq s 0 (fun z => ?_) (fun z => ?_)
  · exact zq_w_lv (c0 z)
  · have co := zq_co_ok F G A v hs z
    refine zq_w_co hv hs ok ?_
    have cl := co.2.1
    refine pk_eq (zq_co F G A s v) s (fun e => ?_) (fun e => ?_)
    · refine zq_w_ig hv hs ok (fun g => ?_) (fun g => ?_)
      · refine br_f (by decide) ?_
        obtain ⟨r, hr, e2⟩ := co.2.2.2.2.2 g
        have es : s = 2 ^ r := e.symm.trans e2
        have hp := c2 z e g
        have hSr : zq_S s r = true := by rw [es]; exact (zq_S_two hr).mpr rfl
        obtain ⟨_, _, f3, g3⟩ := (ok r hr).1 (hA r hSr)
        have v1 := zq_ground_v hs hA hSr g f3 (Or.inl rfl)
        have v2 := zq_ground_v hs hA hSr g g3 (Or.inr rfl)
        have hAr := hA r hSr
        subst es
        exact zq_w_fg hv hr hAr ok wk v1 v2 hp
      · refine br_t rfl (zq_w_cv hv hs z ok (fun x hx hxx => ?_) (fun hn => ?_))
        · refine br_f (nI_pos (by omega)) ⟨h48, nm_e ⟨h48, nm_e ⟨h48, nm_e ?_⟩⟩⟩
          rw [zq_tset0 v hv x hx]
          exact zq_w_en hd (c3 z e g x hx hxx)
        · refine br_t zq_neg0 ?_
          exact zq_w_sd hd hv hs hA ok wk hc (fun j hj hR h0 h10 => c4 z e g hn j hj hR h0 h10) (fun hall => c5 z e g hn)
    · rw [zq_tdiff s hs _ cl co.1]
      exact ⟨h48, nm_e ⟨h48, nm_e (zq_w_en hd (c1 z e))⟩⟩
theorem zq_w_gp {post : St1 → Prop} {d b v x1 x2 e1 e2 : Nat} (hd : d + 1 < 48) (hv : v < 64) (hb : b < 16) (e7 : a7 d = nI v) (e8 : a8 d = nI b) (e13 : a13 d = lN x1) (e14 : a14 d = nI e1) (ok : zq_ok a3 a4 F G A)
    (h0 : b = 0 → post (fr, fa, nI d, lN (x1 * x2), nI (e1 + e2), a1, a2, a3, a4, a5, a6, a7, a8, a9, a10, a11, a12, vp_updL a13 d (lN (x1 * x2)), upd a14 d (nI (e1 + e2))))
    (h1 : b ≠ 0 → post (fr, fa, nI (d + 2), lN x2, nI e2, a1, a2, a3, a4, upd a5 (d + 1) 0, upd a6 (d + 1) (nI (zq_co F G A b v)), upd a7 (d + 1) (nI v), upd a8 d (nI (b - zq_co F G A b v)), a9, a10, a11, a12, vp_updL a13 d (lN (x1 * x2)), upd a14 d (nI (e1 + e2)))) :
    wpX_goOnProduct post (fr, fa, nI (d + 1), lN x2, nI e2, a1, a2, a3, a4, a5, a6, a7, a8, a9, a10, a11, a12, a13, a14) (nI d) := by
  have h48 : vp_in (nI d) 48 := vp_in_nI (by omega) (by omega)
  unfold wpX_goOnProduct
  dsimp only
  rw [nI_clamp (show d < 2 ^ 31 by omega), e7, e8, e13, e14, lN_mul, nI_add]
  refine ⟨h48, h48, nm_e ⟨h48, h48, nm_e ⟨h48, ?_⟩⟩⟩
  refine pk_eq b 0 (fun z => ⟨h48, h48, ?_⟩) (fun z => ⟨h48, h48, ?_⟩)
  · rw [pk_uLs, pk_us]
    exact zq_w_lv (h0 z)
  · have co := zq_co_ok F G A v hb z
    refine zq_w_co hv hb ok ⟨h48, h48, ?_⟩
    rw [zq_tdiff b hb _ co.2.1 co.1]
    exact nm_e ⟨h48, zq_w_en hd (h1 z)⟩
theorem zq_w_gj {post : St1 → Prop} {d c x s v x1 x2 e1 e2 : Nat} (hd : d + 1 < 48) (hv : v < 64) (hc : c < 3) (hx : x < 3) (e6 : a6 d = nI s) (e7 : a7 d = nI v) (e9 : a9 d = nI x) (e10 : a10 d = nI c) (e13 : a13 d = lN x1) (e14 : a14 d = nI e1) (h2 : x2 ≤ 10 ^ e2) (he : e1 + e2 ≤ 10)
    (h0 : c = 2 → post (fr, fa, nI d, lN (10 ^ (e1 + e2)) - lN (x1 * (10 ^ e2 - x2)), nI (e1 + e2), a1, a2, a3, a4, a5, a6, a7, a8, a9, upd a10 d (nI (c + 1)), a11, a12, vp_updL a13 d (lN (x1 * (10 ^ e2 - x2))), upd a14 d (nI (e1 + e2))))
    (h1 : c < 2 → post (fr, fa, nI (d + 2), lN x2, nI e2, a1, a2, a3, a4, upd a5 (d + 1) 0, upd a6 (d + 1) (nI s), upd a7 (d + 1) (nI (zq_set v x (c + 1))), a8, a9, upd a10 d (nI (c + 1)), a11, a12, vp_updL a13 d (lN (x1 * (10 ^ e2 - x2))), upd a14 d (nI (e1 + e2)))) :
    wpX_goOnProject post (fr, fa, nI (d + 1), lN x2, nI e2, a1, a2, a3, a4, a5, a6, a7, a8, a9, a10, a11, a12, a13, a14) (nI d) := by
  have h48 : vp_in (nI d) 48 := vp_in_nI (by omega) (by omega)
  unfold wpX_goOnProject
  dsimp only
  rw [nI_clamp (show d < 2 ^ 31 by omega), e6, e7, e9, e10, e13, e14, nI_add, nI_1]
  refine ⟨h48, zq_w_pw (by omega) ?_⟩
  rw [lN_sub h2, lN_mul]
  refine ⟨h48, nm_e ⟨h48, h48, nm_e ⟨h48, h48, nm_e ⟨h48, nm_e ⟨h48, ?_⟩⟩⟩⟩⟩
  rw [pk_us]
  refine pk_le 3 (c + 1) (fun z => ⟨h48, ?_⟩) (fun z => ⟨h48, h48, h48, ?_⟩)
  · rw [pk_us]
    refine zq_w_pw he ⟨h48, h48, ?_⟩
    rw [pk_uLs]
    exact zq_w_lv (h0 (by omega))
  · rw [zq_tset v hv x hx (c + 1) (by omega)]
    exact zq_w_en hd (h1 (by omega))
theorem zq_w_gd3 {post : St1 → Prop} {d j m s v x2 : Nat} (hd : d + 1 < 48) (hj : j < 36) (hm : m ≤ 10) (e5 : a5 d = 3) (e6 : a6 d = nI s) (e7 : a7 d = nI v) (e11 : a11 d = nI j) (e12 : a12 d = nI m)
    (hp : post (fr, fa, nI (d + 2), lN x2, fe, a1, upd a2 j 0, a3, a4, upd (upd a5 d 4) (d + 1) 0, upd a6 (d + 1) (nI s), upd a7 (d + 1) (nI v), a8, a9, a10, a11, a12, vp_updL a13 d (lN (x2 * m)), a14)) :
    wpX_goOnDeciding post (fr, fa, nI (d + 1), lN x2, fe, a1, a2, a3, a4, a5, a6, a7, a8, a9, a10, a11, a12, a13, a14) (nI d) := by
  have h48 : vp_in (nI d) 48 := vp_in_nI (by omega) (by omega)
  unfold wpX_goOnDeciding
  dsimp only
  rw [nI_clamp (show d < 2 ^ 31 by omega), e5, e6, e7, e11, e12, nI_clamp (show j < 2 ^ 31 by omega), nI_l (show m < 2 ^ 31 by omega), lN_mul]
  exact ⟨h48, br_t rfl ⟨h48, nm_e ⟨h48, h48, nm_e ⟨h48, pk_in j 36 hj, nm_e ⟨h48, h48, zq_w_en hd hp⟩⟩⟩⟩⟩
theorem zq_w_gd4 {post : St1 → Prop} {d j m x1 x2 : Nat} (hd : d < 48) (hj : j < 36) (hm : m ≤ 10) (e5 : a5 d = 4) (e11 : a11 d = nI j) (e12 : a12 d = nI m) (e13 : a13 d = lN x1) (hb : x1 + x2 * (10 - m) < 2 ^ 63)
    (hp : post (fr, fa, nI d, lN ((x1 + x2 * (10 - m)) / 10), fe, a1, upd a2 j (nI m), a3, a4, a5, a6, a7, a8, a9, a10, a11, a12, a13, a14)) :
    wpX_goOnDeciding post (fr, fa, nI (d + 1), lN x2, fe, a1, a2, a3, a4, a5, a6, a7, a8, a9, a10, a11, a12, a13, a14) (nI d) := by
  have h48 : vp_in (nI d) 48 := vp_in_nI (by omega) (by omega)
  have es : (10 : Int32) - nI m = nI (10 - m) := pk_sub (a := 10) hm
  unfold wpX_goOnDeciding
  dsimp only
  rw [nI_clamp (show d < 2 ^ 31 by omega), e5, e11, e12, e13, nI_clamp (show j < 2 ^ 31 by omega), es, nI_l (show 10 - m < 2 ^ 31 by omega), lN_mul, lN_add]
  refine ⟨h48, br_f (by decide) ⟨h48, h48, pk_in j 36 hj, nm_e ⟨h48, h48, nm_e ⟨by decide, ?_⟩⟩⟩⟩
  rw [show lN (x1 + x2 * (10 - m)) / 10 = lN ((x1 + x2 * (10 - m)) / 10) from pk_lDiv (b := 10) hb (by omega) (by omega)]
  exact zq_w_lv hp
end
end
section
/-! the loop over frames -/
abbrev zq_F : Type := (Nat → Int32) × (Nat → Int32) × (Nat → Int32) × (Nat → Int32) × (Nat → Int32) × (Nat → Int32) × (Nat → Int32) × (Nat → Int32) × (Nat → Int64) × (Nat → Int32)
def zq_sb (d : Nat) (f g : zq_F) : Prop := ∀ j, j < d → f.1 j = g.1 j ∧ f.2.1 j = g.2.1 j ∧ f.2.2.1 j = g.2.2.1 j ∧ f.2.2.2.1 j = g.2.2.2.1 j ∧ f.2.2.2.2.1 j = g.2.2.2.2.1 j ∧ f.2.2.2.2.2.1 j = g.2.2.2.2.2.1 j ∧ f.2.2.2.2.2.2.1 j = g.2.2.2.2.2.2.1 j ∧ f.2.2.2.2.2.2.2.1 j = g.2.2.2.2.2.2.2.1 j ∧ f.2.2.2.2.2.2.2.2.1 j = g.2.2.2.2.2.2.2.2.1 j ∧ f.2.2.2.2.2.2.2.2.2 j = g.2.2.2.2.2.2.2.2.2 j
theorem zq_sb_tr {d e : Nat} {f g h : zq_F} (a : zq_sb d f g) (b : zq_sb e g h) (hde : d ≤ e) : zq_sb d f h := by
  intro j hj
  obtain ⟨x1, x2, x3, x4, x5, x6, x7, x8, x9, x10⟩ := a j hj
  obtain ⟨y1, y2, y3, y4, y5, y6, y7, y8, y9, y10⟩ := b j (by omega)
  exact ⟨x1.trans y1, x2.trans y2, x3.trans y3, x4.trans y4, x5.trans y5, x6.trans y6, x7.trans y7, x8.trans y8, x9.trans y9, x10.trans y10⟩
theorem zq_u1 {f : Nat → Int32} {d : Nat} {x y : Int32} : upd (upd f d x) (d + 1) y d = x := by rw [pk_un (by omega), pk_us]
theorem zq_u2 {f : Nat → Int32} {d : Nat} {y : Int32} : upd f (d + 1) y d = f d := pk_un (by omega)
def zq_cost (e : Nat) : Nat := 4 * (2 ^ e - 1)
theorem zq_cost_add (a b : Nat) : zq_cost a + zq_cost b ≤ zq_cost (a + b) := by
  unfold zq_cost
  have ha : 1 ≤ 2 ^ a := Nat.one_le_two_pow
  have hb : 1 ≤ 2 ^ b := Nat.one_le_two_pow
  rw [Nat.pow_add]
  obtain ⟨u, hu⟩ := Nat.exists_eq_add_of_le ha
  obtain ⟨w, hw⟩ := Nat.exists_eq_add_of_le hb
  have e : (1 + u) * (1 + w) = 1 + w + (u + u * w) := by rw [Nat.add_mul, Nat.one_mul, Nat.mul_add, Nat.mul_one]
  rw [hu, hw, e]
  generalize u * w = t
  omega
theorem zq_cost_le {a b : Nat} (h : a ≤ b) : zq_cost a ≤ zq_cost b := by
  have := zq_cost_add a (b - a)
  rw [show a + (b - a) = b by omega] at this
  omega
theorem zq_c_lt {R1 R2 : Nat → Bool} {j k : Nat} (h : ∀ i, R1 i = true → R2 i = true) (hj : j < k) (h2 : R2 j = true) (h1 : R1 j = false) : zq_c R1 k + 1 ≤ zq_c R2 k := by
  induction k with
  | zero => omega
  | succ k ih =>
    by_cases e : j = k
    · subst e
      rw [zq_c_f h1, zq_c_t h2]
      have := zq_c_mono h j
      omega
    · have t := ih (by omega)
      cases e1 : R1 k
      · rw [zq_c_f e1]
        cases e2 : R2 k
        · rw [zq_c_f e2]
          exact t
        · rw [zq_c_t e2]
          omega
      · rw [zq_c_t e1, zq_c_t (h k e1)]
        omega
def zq_K (post : Int64 → St1 → Prop) (x : Nat) (u : St1) : Prop := match u with
  | (fr, fa, fd, fs, fe, a1, a2, a3, a4, a5, a6, a7, a8, a9, a10, a11, a12, a13, a14) => wX_evaluateAll_44 post (100001 - x) (nI x) fr fa fd fs fe a1 a2 a3 a4 a5 a6 a7 a8 a9 a10 a11 a12 a13 a14
section
variable {fr fa fd : Int32} {fs : Int64} {fe : Int32} {a1 a2 a3 a4 a5 a6 a7 a8 a9 a10 a11 a12 : Nat → Int32} {a13 : Nat → Int64} {a14 : Nat → Int32} {F G : Nat → Nat} {A : Nat → Bool} {L : Nat → Bool} {P : Nat → Nat} {post : Int64 → St1 → Prop} {x d : Nat}
theorem zq_K_n (hx : x < 100000) (h : zq_K post (x + 1) (fr, fa, fd, fs, fe, a1, a2, a3, a4, a5, a6, a7, a8, a9, a10, a11, a12, a13, a14)) : ∀ y, y = nI x + 1 → wX_evaluateAll_44 post (100000 - x) y fr fa fd fs fe a1 a2 a3 a4 a5 a6 a7 a8 a9 a10 a11 a12 a13 a14 := by
  refine nm_r (nI_1 x) ?_
  have h' : wX_evaluateAll_44 post (100001 - (x + 1)) (nI (x + 1)) fr fa fd fs fe a1 a2 a3 a4 a5 a6 a7 a8 a9 a10 a11 a12 a13 a14 := h
  rw [show 100001 - (x + 1) = 100000 - x by omega] at h'
  exact h'
theorem zq_K_s (hx : x < 100000) (hd : d < 48)
    (h : (a5 d = 0 ∧ ∀ q : St1 → Prop, (∀ u, zq_K post (x + 1) u → q u) → wpX_begin q (fr, fa, nI (d + 1), fs, fe, a1, a2, a3, a4, a5, a6, a7, a8, a9, a10, a11, a12, a13, a14) (nI d)) ∨ (a5 d = 1 ∧ ∀ q : St1 → Prop, (∀ u, zq_K post (x + 1) u → q u) → wpX_goOnProduct q (fr, fa, nI (d + 1), fs, fe, a1, a2, a3, a4, a5, a6, a7, a8, a9, a10, a11, a12, a13, a14) (nI d))
      ∨ (a5 d = 2 ∧ ∀ q : St1 → Prop, (∀ u, zq_K post (x + 1) u → q u) → wpX_goOnProject q (fr, fa, nI (d + 1), fs, fe, a1, a2, a3, a4, a5, a6, a7, a8, a9, a10, a11, a12, a13, a14) (nI d)) ∨ ((a5 d = 3 ∨ a5 d = 4) ∧ ∀ q : St1 → Prop, (∀ u, zq_K post (x + 1) u → q u) → wpX_goOnDeciding q (fr, fa, nI (d + 1), fs, fe, a1, a2, a3, a4, a5, a6, a7, a8, a9, a10, a11, a12, a13, a14) (nI d))) :
    zq_K post x (fr, fa, nI (d + 1), fs, fe, a1, a2, a3, a4, a5, a6, a7, a8, a9, a10, a11, a12, a13, a14) := by
  have h48 : vp_in (nI d) 48 := vp_in_nI hd (by omega)
  show wX_evaluateAll_44 post (100001 - x) (nI x) fr fa (nI (d + 1)) fs fe a1 a2 a3 a4 a5 a6 a7 a8 a9 a10 a11 a12 a13 a14
  rw [show 100001 - x = (100000 - x) + 1 by omega]
  refine pk_le 100000 x (fun z => absurd z (by omega)) (fun _ => pk_le (d + 1) 0 (fun z => absurd z (by omega)) (fun _ => nm_r (nI_pred d) ⟨h48, ?_⟩))
  rw [nI_clamp (show d < 2 ^ 31 by omega)]
  rcases h with ⟨e, h⟩ | ⟨e, h⟩ | ⟨e, h⟩ | ⟨e, h⟩
  · refine br_t e (h _ ?_)
    rintro ⟨u1, u2, u3, u4, u5, u6, u7, u8, u9, u10, u11, u12, u13, u14, u15, u16, u17, u18, u19⟩ hu
    exact zq_K_n hx hu
  · refine br_f (by rw [e]; decide) ⟨h48, br_t e (h _ ?_)⟩
    rintro ⟨u1, u2, u3, u4, u5, u6, u7, u8, u9, u10, u11, u12, u13, u14, u15, u16, u17, u18, u19⟩ hu
    exact zq_K_n hx hu
  · refine br_f (by rw [e]; decide) ⟨h48, br_f (by rw [e]; decide) ⟨h48, br_t e (h _ ?_)⟩⟩
    rintro ⟨u1, u2, u3, u4, u5, u6, u7, u8, u9, u10, u11, u12, u13, u14, u15, u16, u17, u18, u19⟩ hu
    exact zq_K_n hx hu
  · refine br_f (by rcases e with e | e <;> rw [e] <;> decide) ⟨h48, br_f (by rcases e with e | e <;> rw [e] <;> decide) ⟨h48, br_f (by rcases e with e | e <;> rw [e] <;> decide) (h _ ?_)⟩⟩
    rintro ⟨u1, u2, u3, u4, u5, u6, u7, u8, u9, u10, u11, u12, u13, u14, u15, u16, u17, u18, u19⟩ hu
    exact zq_K_n hx hu
theorem zq_K_out {r e sh : Nat} (hx : x < 100000) (he : e ≤ r) (hr : r ≤ 10) (hp : post (lN sh * lN (10 ^ (r - e))) (nI r, fa, nI 0, lN sh, nI e, a1, a2, a3, a4, a5, a6, a7, a8, a9, a10, a11, a12, a13, a14)) : zq_K post x (nI r, fa, nI 0, lN sh, nI e, a1, a2, a3, a4, a5, a6, a7, a8, a9, a10, a11, a12, a13, a14) := by
  show wX_evaluateAll_44 post (100001 - x) (nI x) (nI r) fa (nI 0) (lN sh) (nI e) a1 a2 a3 a4 a5 a6 a7 a8 a9 a10 a11 a12 a13 a14
  rw [show 100001 - x = (100000 - x) + 1 by omega]
  refine pk_le 100000 x (fun z => absurd z (by omega)) (fun _ => pk_le 0 0 (fun _ => ?_) (fun z => absurd z (by omega)))
  unfold wX_evaluateAll_128
  rw [pk_sub he]
  exact zq_w_pw (by omega) hp
end
/-- a fresh frame of the atoms s under the values v: it ends within T steps and D places -/
def zq_T (post : Int64 → St1 → Prop) (fr fa : Int32) (a1 a3 a4 : Nat → Int32) (L : Nat → Bool) (F G P : Nat → Nat) (s v T D : Nat) : Prop :=
  ∀ (a2 : Nat → Int32) (x d : Nat) (fs : Int64) (fe : Int32) (a5 a6 a7 a8 a9 a10 a11 a12 : Nat → Int32) (a13 : Nat → Int64) (a14 : Nat → Int32),
    zq_wk a2 L P → d + D ≤ 48 → x + T ≤ 100000 → a5 d = 0 → a6 d = nI s → a7 d = nI v →
    (∀ (y : Nat) (b5 b6 b7 b8 b9 b10 b11 b12 : Nat → Int32) (b13 : Nat → Int64) (b14 : Nat → Int32), y ≤ x + T → zq_sb d (a5, a6, a7, a8, a9, a10, a11, a12, a13, a14) (b5, b6, b7, b8, b9, b10, b11, b12, b13, b14) → zq_K post y (fr, fa, nI d, lN (zq_s L P F G (zq_S s) (zq_va v)), nI (zq_e L F G (zq_S s) (zq_va v)), a1, a2, a3, a4, b5, b6, b7, b8, b9, b10, b11, b12, b13, b14)) →
    zq_K post x (fr, fa, nI (d + 1), fs, fe, a1, a2, a3, a4, a5, a6, a7, a8, a9, a10, a11, a12, a13, a14)
theorem zq_T_mono {post : Int64 → St1 → Prop} {fr fa : Int32} {a1 a3 a4 : Nat → Int32} {L : Nat → Bool} {F G P : Nat → Nat} {s v T D T' D' : Nat} (h : zq_T post fr fa a1 a3 a4 L F G P s v T D) (hT : T ≤ T') (hD : D ≤ D') : zq_T post fr fa a1 a3 a4 L F G P s v T' D' := by
  intro a2 x d fs fe a5 a6 a7 a8 a9 a10 a11 a12 a13 a14 wk h1 h2 e5 e6 e7 K
  exact h a2 x d fs fe a5 a6 a7 a8 a9 a10 a11 a12 a13 a14 wk (by omega) (by omega) e5 e6 e7 (fun y b5 b6 b7 b8 b9 b10 b11 b12 b13 b14 hy hb => K y b5 b6 b7 b8 b9 b10 b11 b12 b13 b14 (by omega) hb)
section
variable {post : Int64 → St1 → Prop} {fr fa : Int32} {a1 a3 a4 : Nat → Int32} {L : Nat → Bool} {F G P : Nat → Nat} {A : Nat → Bool} {s v : Nat}
theorem zq_wk_le {a2 : Nat → Int32} (wk : zq_wk a2 L P) (h36 : ∀ i, L i = true → i < 36) : ∀ i, L i = true → P i ≤ 10 := fun i hi => ((wk i (h36 i hi)).1 hi).2
theorem zq_wk_up {a2 : Nat → Int32} {j m : Nat} (wk : zq_wk a2 L P) (hj : L j = true) (hm : m ≤ 10) : zq_wk (upd a2 j (nI m)) L (zq_vs P j m) := by
  intro i hi
  by_cases e : i = j
  · subst e
    rw [pk_us, zq_vs_s]
    exact ⟨fun _ => ⟨rfl, hm⟩, fun h => by rw [hj] at h; exact absurd h.symm Bool.false_ne_true⟩
  · rw [pk_un e, zq_vs_n _ _ e]
    exact wk i hi
theorem zq_s_big (hP : ∀ i, L i = true → P i ≤ 10) {S : Nat → Bool} {V : Nat → Nat} (he : zq_e L F G S V ≤ 10) : zq_s L P F G S V ≤ 10000000000 :=
  Nat.le_trans (zq_s_le hP) (show 10 ^ zq_e L F G S V ≤ 10 ^ 10 from Nat.pow_le_pow_right (by omega) he)
/-- the open rows that a frame looks at -/
def zq_op (L : Nat → Bool) (F G : Nat → Nat) (S : Nat → Bool) (V : Nat → Nat) (P : Nat → Nat) (i : Nat) : Bool := zq_R L F G S V i && decide (0 < P i ∧ P i < 10)
theorem zq_op_iff {S : Nat → Bool} {V : Nat → Nat} {i : Nat} : zq_op L F G S V P i = true ↔ zq_R L F G S V i = true ∧ 0 < P i ∧ P i < 10 := by
  unfold zq_op
  rw [Bool.and_eq_true, decide_eq_true_iff]
theorem zq_op_lt {S : Nat → Bool} {V : Nat → Nat} {j m : Nat} (hj : j < 36) (hR : zq_R L F G S V j = true) (h0 : 0 < P j) (h10 : P j < 10) (hm : m = 10 ∨ m = 0) : zq_c (zq_op L F G S V (zq_vs P j m)) 36 + 1 ≤ zq_c (zq_op L F G S V P) 36 := by
  refine zq_c_lt (fun i hi => ?_) hj (zq_op_iff.mpr ⟨hR, h0, h10⟩) ?_
  · have z := zq_op_iff.mp hi
    by_cases e : i = j
    · subst e
      rw [zq_vs_s] at z
      omega
    · rw [zq_vs_n _ _ e] at z
      exact zq_op_iff.mpr z
  · cases e : zq_op L F G S V (zq_vs P j m) j
    · rfl
    · have z := zq_op_iff.mp e
      rw [zq_vs_s] at z
      omega
theorem zq_T_dec (h36 : ∀ i, L i = true → i < 36) (hv : v < 64) (hs : s < 16) (hA : ∀ r, zq_S s r = true → A r = true) (ok : zq_ok a3 a4 F G A) (hc : zq_e L F G (zq_S s) (zq_va v) ≤ 10)
    (hz : s ≠ 0) (hco : zq_co F G A s v = s) (hng : ¬ ∀ x, x < 3 → zq_ex F G A s v x = 0) (hn : ∀ x, x < 3 → zq_ex F G A s v x ≠ s) (o : Nat) :
    ∀ P, zq_c (zq_op L F G (zq_S s) (zq_va v) P) 36 ≤ o → zq_T post fr fa a1 a3 a4 L F G P s v (1 + zq_cost o) (o + 2) := by
  induction o with
  | zero =>
    intro P ho a2 x d fs fe a5 a6 a7 a8 a9 a10 a11 a12 a13 a14 wk hD hT e5 e6 e7 K
    refine zq_K_s (by omega) (by omega) (Or.inl ⟨e5, fun q hq => zq_w_bg (P := P) (by omega) hv hs e6 e7 hA ok wk hc (fun z => absurd z hz) (fun _ z => absurd hco z) (fun _ _ g => absurd g hng) (fun _ _ _ x hx hxx => absurd hxx (hn x hx)) (fun _ _ _ _ j hj hR h0 h10 => ?_) (fun _ _ _ _ => hq _ (K _ _ _ _ _ _ _ _ _ _ _ (by omega) ?_))⟩)
    · have := zq_op_lt (m := 10) hj hR h0 h10 (Or.inl rfl)
      omega
    · intro j hj
      have h1 : ¬ j = d := by omega
      simp [upd, vp_updL, h1]
  | succ o ih =>
    intro P ho a2 x d fs fe a5 a6 a7 a8 a9 a10 a11 a12 a13 a14 wk hD hT e5 e6 e7 K
    have hcost : 2 * zq_cost o + 4 = zq_cost (o + 1) := by
      unfold zq_cost
      have : 1 ≤ 2 ^ o := Nat.one_le_two_pow
      rw [Nat.pow_succ]
      omega
    refine zq_K_s (by omega) (by omega) (Or.inl ⟨e5, fun q hq => zq_w_bg (P := P) (by omega) hv hs e6 e7 hA ok wk hc (fun z => absurd z hz) (fun _ z => absurd hco z) (fun _ _ g => absurd g hng) (fun _ _ _ x hx hxx => absurd hxx (hn x hx)) (fun _ _ _ _ j hj hR h0 h10 => hq _ ?_) (fun _ _ _ _ => hq _ (K _ _ _ _ _ _ _ _ _ _ _ (by omega) ?_))⟩)
    · have hLj := (zq_R_iff.mp hR).1
      have o1 := zq_op_lt (m := 10) hj hR h0 h10 (Or.inl rfl)
      have o2 := zq_op_lt (m := 0) hj hR h0 h10 (Or.inr rfl)
      have w1 : zq_wk (upd a2 j 10) L (zq_vs P j 10) := zq_wk_up (m := 10) wk hLj (by omega)
      have eu : upd (upd a2 j 10) j 0 = upd a2 j 0 := by
        funext i
        by_cases e : i = j
        · rw [e, pk_us, pk_us]
        · rw [pk_un e, pk_un e, pk_un e]
      have w2 : zq_wk (upd a2 j 0) L (zq_vs P j 0) := zq_wk_up (m := 0) wk hLj (by omega)
      have eu2 : upd (upd a2 j 0) j (nI (P j)) = a2 := by
        funext i
        by_cases e : i = j
        · rw [e, pk_us, ((wk j hj).1 hLj).1]
        · rw [pk_un e, pk_un e]
      have aff := zq_s_aff (L := L) (P := P) (F := F) (G := G) (S := zq_S s) (V := zq_va v) hj hR (by omega)
      have sb := zq_s_big (F := F) (G := G) (zq_wk_le wk h36) hc
      refine ih (zq_vs P j 10) (by omega) _ (x + 1) (d + 1) _ _ _ _ _ _ _ _ _ _ _ _ w1 (by omega) (by omega) pk_us pk_us pk_us ?_
      intro y b5 b6 b7 b8 b9 b10 b11 b12 b13 b14 hy hb
      obtain ⟨q5, q6, q7, q8, q9, q10, q11, q12, q13, q14⟩ := hb d (by omega)
      have r5 : b5 d = 3 := q5.symm.trans zq_u1
      have r6 : b6 d = nI s := q6.symm.trans (zq_u2.trans e6)
      have r7 : b7 d = nI v := q7.symm.trans (zq_u2.trans e7)
      have r11 : b11 d = nI j := q11.symm.trans pk_us
      have r12 : b12 d = nI (P j) := q12.symm.trans pk_us
      refine zq_K_s (by omega) (by omega) (Or.inr (Or.inr (Or.inr ⟨Or.inl r5, fun q hq => zq_w_gd3 (by omega) hj (by omega) r5 r6 r7 r11 r12 (hq _ ?_)⟩)))
      rw [eu]
      refine ih (zq_vs P j 0) (by omega) _ (y + 1) (d + 1) _ _ _ _ _ _ _ _ _ _ _ _ w2 (by omega) (by omega) pk_us pk_us pk_us ?_
      intro z c5 c6 c7 c8 c9 c10 c11 c12 c13 c14 hz' hcb
      obtain ⟨t5, t6, t7, t8, t9, t10, t11, t12, t13, t14⟩ := hcb d (by omega)
      have s5 : c5 d = 4 := t5.symm.trans zq_u1
      have s11 : c11 d = nI j := t11.symm.trans r11
      have s12 : c12 d = nI (P j) := t12.symm.trans r12
      have s13 : c13 d = lN (zq_s L (zq_vs P j 10) F G (zq_S s) (zq_va v) * P j) := t13.symm.trans pk_uLs
      refine zq_K_s (by omega) (by omega) (Or.inr (Or.inr (Or.inr ⟨Or.inr s5, fun q hq => zq_w_gd4 (by omega) hj (by omega) s5 s11 s12 s13 (by omega) (hq _ ?_)⟩)))
      rw [eu2, ← aff, Nat.mul_div_cancel_left _ (show 0 < 10 by omega)]
      have k1 := zq_sb_tr (d := d) (e := d + 1) (f := (a5, a6, a7, a8, a9, a10, a11, a12, a13, a14)) (by
        intro i hi
        have h1 : ¬ i = d := by omega
        have h2 : ¬ i = d + 1 := by omega
        simp [upd, vp_updL, h1, h2]) hb (by omega)
      have k2 := zq_sb_tr (d := d) (e := d + 1) (f := (b5, b6, b7, b8, b9, b10, b11, b12, b13, b14)) (by
        intro i hi
        have h1 : ¬ i = d := by omega
        have h2 : ¬ i = d + 1 := by omega
        simp [upd, vp_updL, h1, h2]) hcb (by omega)
      exact K _ _ _ _ _ _ _ _ _ _ _ (by omega) (zq_sb_tr k1 k2 (Nat.le_refl d))
    · intro j hj
      have h1 : ¬ j = d := by omega
      simp [upd, vp_updL, h1]
end
end
section
/-! frames: cases of a variable, parts, and all -/
section
variable {post : Int64 → St1 → Prop} {fr fa : Int32} {a1 a3 a4 : Nat → Int32} {L : Nat → Bool} {F G P : Nat → Nat} {A : Nat → Bool} {s v : Nat}
theorem zq_ex_free {x : Nat} (hz : s ≠ 0) (h : zq_ex F G A s v x = s) : zq_va v x = 3 ∧ ∀ r, zq_S s r = true → F r = x ∨ G r = x := by
  by_cases c : zq_va v x = 3
  · refine ⟨c, fun r hr => ?_⟩
    have e : zq_aw F G A x 4 &&& s = s := by
      have t : zq_ex F G A s v x = zq_aw F G A x 4 &&& s := if_pos c
      rw [← t]
      exact h
    have b : (zq_aw F G A x 4 &&& s).testBit r = true := by
      rw [e]
      exact hr
    rw [Nat.testBit_and, Bool.and_eq_true, zq_aw_bit, Bool.and_eq_true] at b
    exact (zq_has_iff.mp b.1.2).2
  · have t : zq_ex F G A s v x = 0 := if_neg c
    rw [t] at h
    exact absurd h.symm hz
theorem zq_T_proj (h36 : ∀ i, L i = true → i < 36) (hP : ∀ i, L i = true → P i ≤ 10) (hv : v < 64) (hs : s < 16) (hA : ∀ r, zq_S s r = true → A r = true) (ok : zq_ok a3 a4 F G A) (hc : zq_e L F G (zq_S s) (zq_va v) ≤ 10)
    (hz : s ≠ 0) (hco : zq_co F G A s v = s) (hng : ¬ ∀ x, x < 3 → zq_ex F G A s v x = 0) (hn : ¬ ∀ x, x < 3 → zq_ex F G A s v x ≠ s) {B D : Nat} (hD1 : 1 ≤ D)
    (sub : ∀ x, x < 3 → zq_va v x = 3 → ∀ c, c < 3 → zq_T post fr fa a1 a3 a4 L F G P s (zq_set v x c) (B + zq_cost (zq_e L F G (zq_S s) (zq_va (zq_set v x c)))) D) :
    zq_T post fr fa a1 a3 a4 L F G P s v (4 + 3 * B + zq_cost (zq_e L F G (zq_S s) (zq_va v))) (D + 1) := by
  intro a2 x d fs fe a5 a6 a7 a8 a9 a10 a11 a12 a13 a14 wk hD hT e5 e6 e7 K
  refine zq_K_s (by omega) (by omega) (Or.inl ⟨e5, fun q hq => zq_w_bg (P := P) (by omega) hv hs e6 e7 hA ok wk hc (fun z => absurd z hz) (fun _ z => absurd hco z) (fun _ _ g => absurd g hng) (fun _ _ _ u hu hux => hq _ ?_) (fun _ _ _ z => absurd z hn) (fun _ _ _ z => absurd z hn)⟩)
  obtain ⟨hfree, hall⟩ := zq_ex_free hz hux
  have sc := zq_s_case (L := L) (P := P) (F := F) (G := G) (S := zq_S s) (V := zq_va v) hP hu hfree hall
  rw [← zq_set_va hv hu (show 0 < 3 by omega), ← zq_set_va hv hu (show 1 < 3 by omega), ← zq_set_va hv hu (show 2 < 3 by omega)] at sc
  obtain ⟨se, ss⟩ := sc
  have l0 := zq_s_le (L := L) (P := P) (F := F) (G := G) (S := zq_S s) (V := zq_va (zq_set v u 0)) hP
  have l1 := zq_s_le (L := L) (P := P) (F := F) (G := G) (S := zq_S s) (V := zq_va (zq_set v u 1)) hP
  have l2 := zq_s_le (L := L) (P := P) (F := F) (G := G) (S := zq_S s) (V := zq_va (zq_set v u 2)) hP
  have T0 := sub u hu hfree 0 (by omega)
  have T1 := sub u hu hfree 1 (by omega)
  have T2 := sub u hu hfree 2 (by omega)
  rw [ss] at K
  rw [se] at K hT hc
  have cost : zq_cost (zq_e L F G (zq_S s) (zq_va (zq_set v u 0))) + zq_cost (zq_e L F G (zq_S s) (zq_va (zq_set v u 1))) + zq_cost (zq_e L F G (zq_S s) (zq_va (zq_set v u 2))) ≤ zq_cost (zq_e L F G (zq_S s) (zq_va (zq_set v u 0)) + zq_e L F G (zq_S s) (zq_va (zq_set v u 1)) + zq_e L F G (zq_S s) (zq_va (zq_set v u 2))) := by
    have z1 := zq_cost_add (zq_e L F G (zq_S s) (zq_va (zq_set v u 0))) (zq_e L F G (zq_S s) (zq_va (zq_set v u 1)))
    have z2 := zq_cost_add (zq_e L F G (zq_S s) (zq_va (zq_set v u 0)) + zq_e L F G (zq_S s) (zq_va (zq_set v u 1))) (zq_e L F G (zq_S s) (zq_va (zq_set v u 2)))
    omega
  have hle : (10 ^ zq_e L F G (zq_S s) (zq_va (zq_set v u 0)) - zq_s L P F G (zq_S s) (zq_va (zq_set v u 0))) * (10 ^ zq_e L F G (zq_S s) (zq_va (zq_set v u 1)) - zq_s L P F G (zq_S s) (zq_va (zq_set v u 1))) * (10 ^ zq_e L F G (zq_S s) (zq_va (zq_set v u 2)) - zq_s L P F G (zq_S s) (zq_va (zq_set v u 2))) ≤ 10 ^ (zq_e L F G (zq_S s) (zq_va (zq_set v u 0)) + zq_e L F G (zq_S s) (zq_va (zq_set v u 1)) + zq_e L F G (zq_S s) (zq_va (zq_set v u 2))) := by
    rw [Nat.pow_add, Nat.pow_add]
    exact Nat.mul_le_mul (Nat.mul_le_mul (Nat.sub_le _ _) (Nat.sub_le _ _)) (Nat.sub_le _ _)
  refine T0 _ (x + 1) (d + 1) _ _ _ _ _ _ _ _ _ _ _ _ wk (by omega) (by omega) pk_us pk_us pk_us ?_
  intro y b5 b6 b7 b8 b9 b10 b11 b12 b13 b14 hy hb
  obtain ⟨q5, q6, q7, q8, q9, q10, q11, q12, q13, q14⟩ := hb d (by omega)
  have r5 : b5 d = 2 := q5.symm.trans zq_u1
  have r6 : b6 d = nI s := q6.symm.trans (zq_u2.trans e6)
  have r7 : b7 d = nI v := q7.symm.trans (zq_u2.trans e7)
  have r9 : b9 d = nI u := q9.symm.trans pk_us
  have r10 : b10 d = nI 0 := q10.symm.trans pk_us
  have r13 : b13 d = lN 1 := q13.symm.trans pk_uLs
  have r14 : b14 d = nI 0 := q14.symm.trans pk_us
  have k0 := zq_sb_tr (d := d) (e := d + 1) (f := (a5, a6, a7, a8, a9, a10, a11, a12, a13, a14)) (by
    intro i hi
    have h1 : ¬ i = d := by omega
    have h2 : ¬ i = d + 1 := by omega
    simp [upd, vp_updL, h1, h2]) hb (by omega)
  refine zq_K_s (by omega) (by omega) (Or.inr (Or.inr (Or.inl ⟨r5, fun q hq => zq_w_gj (c := 0) (by omega) hv (by omega) hu r6 r7 r9 r10 r13 r14 l0 (by omega) (fun z => absurd z (by omega)) (fun _ => hq _ ?_)⟩)))
  refine T1 _ (y + 1) (d + 1) _ _ _ _ _ _ _ _ _ _ _ _ wk (by omega) (by omega) pk_us pk_us pk_us ?_
  intro z c5 c6 c7 c8 c9 c10 c11 c12 c13 c14 hz1 hcb
  obtain ⟨t5, t6, t7, t8, t9, t10, t11, t12, t13, t14⟩ := hcb d (by omega)
  have p5 : c5 d = 2 := t5.symm.trans (zq_u2.trans r5)
  have p6 : c6 d = nI s := t6.symm.trans (zq_u2.trans r6)
  have p7 : c7 d = nI v := t7.symm.trans (zq_u2.trans r7)
  have p9 : c9 d = nI u := t9.symm.trans r9
  have p10 : c10 d = nI 1 := t10.symm.trans pk_us
  have p13 := t13.symm.trans pk_uLs
  have p14 := t14.symm.trans pk_us
  have k1 := zq_sb_tr (d := d) (e := d + 1) (f := (b5, b6, b7, b8, b9, b10, b11, b12, b13, b14)) (by
    intro i hi
    have h1 : ¬ i = d := by omega
    have h2 : ¬ i = d + 1 := by omega
    simp [upd, vp_updL, h1, h2]) hcb (by omega)
  refine zq_K_s (by omega) (by omega) (Or.inr (Or.inr (Or.inl ⟨p5, fun q hq => zq_w_gj (c := 1) (by omega) hv (by omega) hu p6 p7 p9 p10 p13 p14 l1 (by omega) (fun z => absurd z (by omega)) (fun _ => hq _ ?_)⟩)))
  refine T2 _ (z + 1) (d + 1) _ _ _ _ _ _ _ _ _ _ _ _ wk (by omega) (by omega) pk_us pk_us pk_us ?_
  intro w d5 d6 d7 d8 d9 d10 d11 d12 d13 d14 hw1 hdb
  obtain ⟨i5, i6, i7, i8, i9, i10, i11, i12, i13, i14⟩ := hdb d (by omega)
  have o5 : d5 d = 2 := i5.symm.trans (zq_u2.trans p5)
  have o6 : d6 d = nI s := i6.symm.trans (zq_u2.trans p6)
  have o7 : d7 d = nI v := i7.symm.trans (zq_u2.trans p7)
  have o9 : d9 d = nI u := i9.symm.trans p9
  have o10 : d10 d = nI 2 := i10.symm.trans pk_us
  have o13 := i13.symm.trans pk_uLs
  have o14 := i14.symm.trans pk_us
  have k2 := zq_sb_tr (d := d) (e := d + 1) (f := (c5, c6, c7, c8, c9, c10, c11, c12, c13, c14)) (by
    intro i hi
    have h1 : ¬ i = d := by omega
    have h2 : ¬ i = d + 1 := by omega
    simp [upd, vp_updL, h1, h2]) hdb (by omega)
  refine zq_K_s (by omega) (by omega) (Or.inr (Or.inr (Or.inl ⟨o5, fun q hq => zq_w_gj (c := 2) (by omega) hv (by omega) hu o6 o7 o9 o10 o13 o14 l2 (by omega) (fun _ => hq _ ?_) (fun z => absurd z (by omega))⟩)))
  rw [Nat.zero_add, Nat.one_mul, lN_sub hle]
  refine K _ _ _ _ _ _ _ _ _ _ _ (by omega) (zq_sb_tr (zq_sb_tr (zq_sb_tr k0 k1 (Nat.le_refl d)) k2 (Nat.le_refl d)) ?_ (Nat.le_refl d))
  intro i hi
  have h1 : ¬ i = d := by omega
  simp [upd, vp_updL, h1]
def zq_nx (V F G : Nat → Nat) (S1 S2 : Nat → Bool) : Prop := ∀ x r1 r2, x < 3 → V x = 3 → S1 r1 = true → S2 r2 = true → (F r1 = x ∨ G r1 = x) → (F r2 = x ∨ G r2 = x) → False
theorem zq_S_hi {m r : Nat} (hm : m < 16) (hr : ¬ r < 4) : zq_S m r = false := by
  cases e : zq_S m r
  · rfl
  · exact absurd (zq_S_lt hm e) hr
theorem zq_split {b : Nat} (hb : b < 16) (h0 : b ≠ 0) (hA : ∀ r, zq_S b r = true → A r = true) :
    (∀ r, zq_S b r = (zq_S (zq_co F G A b v) r || zq_S (b - zq_co F G A b v) r)) ∧ (∀ r, zq_S (zq_co F G A b v) r = true → zq_S (b - zq_co F G A b v) r = true → False) ∧ zq_nx (zq_va v) F G (zq_S (zq_co F G A b v)) (zq_S (b - zq_co F G A b v)) ∧ b - zq_co F G A b v < 16 := by
  have co := zq_co_ok F G A v hb h0
  have c16 := co.2.1
  have d16 : b - zq_co F G A b v < 16 := by omega
  have key : ∀ r, zq_S (b - zq_co F G A b v) r = (zq_S b r && !zq_S (zq_co F G A b v) r) := by
    intro r
    by_cases hr : r < 4
    · exact zq_tdb b hb _ c16 co.1 r hr
    · rw [zq_S_hi d16 hr, zq_S_hi hb hr]
      rfl
  have subs : ∀ r, zq_S (zq_co F G A b v) r = true → zq_S b r = true := by
    intro r h
    have t : (zq_co F G A b v &&& b).testBit r = true := by
      rw [co.1]
      exact h
    rw [Nat.testBit_and, Bool.and_eq_true] at t
    exact t.2
  have dis : ∀ r, zq_S (zq_co F G A b v) r = true → zq_S (b - zq_co F G A b v) r = true → False := by
    intro r h1 h2
    rw [key, h1, Bool.and_eq_true] at h2
    exact absurd h2.2 Bool.false_ne_true
  refine ⟨fun r => ?_, dis, fun x r1 r2 hx hV h1 h2 f1 f2 => ?_, d16⟩
  · rw [key]
    cases e : zq_S (zq_co F G A b v) r
    · rw [Bool.false_or, Bool.not_false, Bool.and_true]
    · rw [subs r e]
      rfl
  · have hb2 : zq_S b r2 = true := by
      rw [key, Bool.and_eq_true] at h2
      exact h2.1
    have t1 := zq_ex_bit (F := F) (G := G) hV (subs r1 h1) hb (hA r1 (subs r1 h1)) f1
    have t2 := zq_ex_bit (F := F) (G := G) hV hb2 hb (hA r2 hb2) f2
    rcases co.2.2.2.1 x hx with z | z
    · have : (zq_ex F G A b v x &&& zq_co F G A b v).testBit r1 = true := by
        rw [Nat.testBit_and, t1]
        exact h1
      rw [z, Nat.zero_testBit] at this
      exact Bool.false_ne_true this
    · rw [← z, Nat.testBit_and, Bool.and_eq_true] at t2
      exact dis r2 t2.2 h2
theorem zq_T_parts (h36 : ∀ i, L i = true → i < 36) (hv : v < 64) (hs : s < 16) (hA : ∀ r, zq_S s r = true → A r = true) (ok : zq_ok a3 a4 F G A) {B D : Nat} (hD1 : 1 ≤ D)
    (sub : ∀ c, c < 16 → c ≠ 0 → (∀ r, zq_S c r = true → A r = true) → zq_co F G A c v = c → zq_T post fr fa a1 a3 a4 L F G P c v (B + zq_cost (zq_e L F G (zq_S c) (zq_va v))) D) (n : Nat) :
    ∀ b, zq_pop b = n → b < 16 → ∀ (Sa : Nat → Bool) (c : Nat), c < 16 → c ≠ 0 → zq_co F G A c v = c → (∀ r, zq_S s r = (Sa r || (zq_S c r || zq_S b r))) →
      (∀ r, Sa r = true → zq_S c r = true → False) → (∀ r, Sa r = true → zq_S b r = true → False) → (∀ r, zq_S c r = true → zq_S b r = true → False) →
      zq_nx (zq_va v) F G Sa (zq_S c) → zq_nx (zq_va v) F G Sa (zq_S b) → zq_nx (zq_va v) F G (zq_S c) (zq_S b) →
      ∀ (a2 : Nat → Int32) (x d : Nat) (fs : Int64) (fe : Int32) (a5 a6 a7 a8 a9 a10 a11 a12 : Nat → Int32) (a13 : Nat → Int64) (a14 : Nat → Int32),
      zq_wk a2 L P → d + (D + 1) ≤ 48 → x + ((zq_pop b + 1) * (B + 1) + zq_cost (zq_e L F G (zq_S c) (zq_va v) + zq_e L F G (zq_S b) (zq_va v))) ≤ 100000 →
      a5 d = 1 → a7 d = nI v → a8 d = nI b → a13 d = lN (zq_s L P F G Sa (zq_va v)) → a14 d = nI (zq_e L F G Sa (zq_va v)) → a5 (d + 1) = 0 → a6 (d + 1) = nI c → a7 (d + 1) = nI v →
      (∀ (y : Nat) (b5 b6 b7 b8 b9 b10 b11 b12 : Nat → Int32) (b13 : Nat → Int64) (b14 : Nat → Int32), y ≤ x + ((zq_pop b + 1) * (B + 1) + zq_cost (zq_e L F G (zq_S c) (zq_va v) + zq_e L F G (zq_S b) (zq_va v))) → zq_sb d (a5, a6, a7, a8, a9, a10, a11, a12, a13, a14) (b5, b6, b7, b8, b9, b10, b11, b12, b13, b14) → zq_K post y (fr, fa, nI d, lN (zq_s L P F G (zq_S s) (zq_va v)), nI (zq_e L F G (zq_S s) (zq_va v)), a1, a2, a3, a4, b5, b6, b7, b8, b9, b10, b11, b12, b13, b14)) →
      zq_K post x (fr, fa, nI (d + 2), fs, fe, a1, a2, a3, a4, a5, a6, a7, a8, a9, a10, a11, a12, a13, a14) := by
  induction n using Nat.strongRecOn with
  | ind n ih =>
    intro b hn hb16 Sa c hc16 hc0 hcc hu dac dab dcb xac xab xcb a2 x d fs fe a5 a6 a7 a8 a9 a10 a11 a12 a13 a14 wk hD hT e5 e7 e8 e13 e14 f5 f6 f7 K
    have sS : ∀ r, Sa r = true → zq_S s r = true := fun r h => by rw [hu, h]; rfl
    have cS : ∀ r, zq_S c r = true → zq_S s r = true := fun r h => by rw [hu, h, Bool.true_or, Bool.or_true]
    have bS : ∀ r, zq_S b r = true → zq_S s r = true := fun r h => by rw [hu, h, Bool.or_true, Bool.or_true]
    have hF : ∀ r, zq_S s r = true → F r < 3 ∧ G r < 3 := fun r hr => by
      obtain ⟨_, _, f3, g3⟩ := (ok r (zq_S_lt hs hr)).1 (hA r hr)
      exact ⟨f3, g3⟩
    have m1 : (zq_pop b + 1) * (B + 1) = zq_pop b * (B + 1) + (B + 1) := Nat.succ_mul _ _
    have k1 := zq_cost_add (zq_e L F G (zq_S c) (zq_va v)) (zq_e L F G (zq_S b) (zq_va v))
    refine sub c hc16 hc0 (fun r hr => hA r (cS r hr)) hcc a2 x (d + 1) fs fe a5 a6 a7 a8 a9 a10 a11 a12 a13 a14 wk (by omega) (by omega) f5 f6 f7 ?_
    intro y b5 b6 b7 b8 b9 b10 b11 b12 b13 b14 hy hb
    obtain ⟨q5, q6, q7, q8, q9, q10, q11, q12, q13, q14⟩ := hb d (by omega)
    have r5 : b5 d = 1 := q5.symm.trans e5
    have r7 : b7 d = nI v := q7.symm.trans e7
    have r8 : b8 d = nI b := q8.symm.trans e8
    have r13 := q13.symm.trans e13
    have r14 := q14.symm.trans e14
    have hFa : ∀ r, (fun r => Sa r || zq_S c r) r = true → F r < 3 ∧ G r < 3 := fun r hr => by
      have hr' : (Sa r || zq_S c r) = true := hr
      rw [Bool.or_eq_true] at hr'
      rcases hr' with h | h
      · exact hF r (sS r h)
      · exact hF r (cS r h)
    have mul := zq_s_mul (L := L) (P := P) (V := zq_va v) hFa (fun _ => rfl) dac xac
    have add := zq_e_add (L := L) (F := F) (G := G) (V := zq_va v) (S := fun r => Sa r || zq_S c r) (fun _ => rfl) dac
    refine zq_K_s (by omega) (by omega) (Or.inr (Or.inl ⟨r5, fun q hq => zq_w_gp (A := A) (F := F) (G := G) (by omega) hv hb16 r7 r8 r13 r14 ok (fun z => hq _ ?_) (fun z => hq _ ?_)⟩))
    · have es : zq_S s = fun r => Sa r || zq_S c r := funext (fun r => by
        have t := hu r
        rw [z, show zq_S 0 r = false from Nat.zero_testBit r, Bool.or_false] at t
        exact t)
      rw [← mul, ← add, ← es]
      refine K _ _ _ _ _ _ _ _ _ _ _ (by omega) (zq_sb_tr (zq_sb_tr (d := d) (e := d + 1) (f := (a5, a6, a7, a8, a9, a10, a11, a12, a13, a14)) (fun _ _ => ⟨rfl, rfl, rfl, rfl, rfl, rfl, rfl, rfl, rfl, rfl⟩) hb (by omega)) ?_ (Nat.le_refl d))
      intro i hi
      have h1 : ¬ i = d := by omega
      simp [upd, vp_updL, h1]
    · have co := zq_co_ok F G A v hb16 z
      have sp := zq_split (F := F) (G := G) (A := A) (v := v) hb16 z (fun r hr => hA r (bS r hr))
      obtain ⟨sp1, sp2, sp3, sp4⟩ := sp
      have pp := zq_tpop b hb16 _ co.2.1 co.1
      have pc := zq_pop_pos _ co.2.1 co.2.2.1
      have m2 : (zq_pop (b - zq_co F G A b v) + 1) * (B + 1) ≤ zq_pop b * (B + 1) := Nat.mul_le_mul_right _ (by omega)
      have eb := zq_e_add (L := L) (F := F) (G := G) (V := zq_va v) sp1 sp2
      rw [eb] at k1 hT K
      have inb1 : ∀ r, zq_S (zq_co F G A b v) r = true → zq_S b r = true := fun r h => by rw [sp1, h]; rfl
      have inb2 : ∀ r, zq_S (b - zq_co F G A b v) r = true → zq_S b r = true := fun r h => by rw [sp1, h]; exact Bool.or_true _
      rw [← mul, ← add]
      refine ih (zq_pop (b - zq_co F G A b v)) (by omega) (b - zq_co F G A b v) rfl sp4 (fun r => Sa r || zq_S c r) (zq_co F G A b v) co.2.1 co.2.2.1 co.2.2.2.2.1
        (fun r => by rw [hu, sp1]; exact (Bool.or_assoc _ _ _).symm) ?_ ?_ sp2 ?_ ?_ sp3 a2 (y + 1) d _ _ _ _ _ _ _ _ _ _ _ _ wk hD (by omega) ?_ ?_ pk_us pk_uLs pk_us pk_us pk_us pk_us ?_
      · intro r h1 h2
        have h1' : (Sa r || zq_S c r) = true := h1
        rw [Bool.or_eq_true] at h1'
        exact h1'.elim (fun h => dab r h (inb1 r h2)) (fun h => dcb r h (inb1 r h2))
      · intro r h1 h2
        have h1' : (Sa r || zq_S c r) = true := h1
        rw [Bool.or_eq_true] at h1'
        exact h1'.elim (fun h => dab r h (inb2 r h2)) (fun h => dcb r h (inb2 r h2))
      · intro u r1 r2 hu3 hV h1 h2 f1 f2
        have h1' : (Sa r1 || zq_S c r1) = true := h1
        rw [Bool.or_eq_true] at h1'
        exact h1'.elim (fun h => xab u r1 r2 hu3 hV h (inb1 r2 h2) f1 f2) (fun h => xcb u r1 r2 hu3 hV h (inb1 r2 h2) f1 f2)
      · intro u r1 r2 hu3 hV h1 h2 f1 f2
        have h1' : (Sa r1 || zq_S c r1) = true := h1
        rw [Bool.or_eq_true] at h1'
        exact h1'.elim (fun h => xab u r1 r2 hu3 hV h (inb2 r2 h2) f1 f2) (fun h => xcb u r1 r2 hu3 hV h (inb2 r2 h2) f1 f2)
      · exact zq_u2.trans r5
      · exact zq_u2.trans r7
      · intro w c5 c6 c7 c8 c9 c10 c11 c12 c13 c14 hw hcb
        refine K _ _ _ _ _ _ _ _ _ _ _ (by omega) (zq_sb_tr (zq_sb_tr (d := d) (e := d + 1) (f := (a5, a6, a7, a8, a9, a10, a11, a12, a13, a14)) (fun _ _ => ⟨rfl, rfl, rfl, rfl, rfl, rfl, rfl, rfl, rfl, rfl⟩) hb (by omega)) (zq_sb_tr (d := d) ?_ hcb (Nat.le_refl d)) (Nat.le_refl d))
        intro i hi
        have h1 : ¬ i = d := by omega
        have h2 : ¬ i = d + 1 := by omega
        simp [upd, vp_updL, h1, h2]
theorem zq_T_conn (h36 : ∀ i, L i = true → i < 36) (hP : ∀ i, L i = true → P i ≤ 10) (hv : v < 64) (hs : s < 16) (hA : ∀ r, zq_S s r = true → A r = true) (ok : zq_ok a3 a4 F G A) (hc : zq_e L F G (zq_S s) (zq_va v) ≤ 10)
    (hz : s ≠ 0) (hco : zq_co F G A s v = s) {B D : Nat} (hD1 : 11 ≤ D)
    (sub : ∀ x, x < 3 → zq_va v x = 3 → ∀ c, c < 3 → zq_T post fr fa a1 a3 a4 L F G P s (zq_set v x c) (B + zq_cost (zq_e L F G (zq_S s) (zq_va (zq_set v x c)))) D) :
    zq_T post fr fa a1 a3 a4 L F G P s v (4 + 3 * B + zq_cost (zq_e L F G (zq_S s) (zq_va v))) (D + 1) := by
  by_cases hg : ∀ x, x < 3 → zq_ex F G A s v x = 0
  · intro a2 x d fs fe a5 a6 a7 a8 a9 a10 a11 a12 a13 a14 wk hD hT e5 e6 e7 K
    have fin : ∀ q : St1 → Prop, (∀ u, zq_K post (x + 1) u → q u) → q (fr, fa, nI d, lN (zq_s L P F G (zq_S s) (zq_va v)), nI (zq_e L F G (zq_S s) (zq_va v)), a1, a2, a3, a4, a5, a6, a7, a8, a9, a10, a11, a12, vp_updL a13 d 1, upd a14 d 0) := by
      intro q hq
      refine hq _ (K _ _ _ _ _ _ _ _ _ _ _ (by omega) ?_)
      intro i hi
      have h1 : ¬ i = d := by omega
      simp [upd, vp_updL, h1]
    refine zq_K_s (by omega) (by omega) (Or.inl ⟨e5, fun q hq => zq_w_bg (P := P) (by omega) hv hs e6 e7 hA ok wk hc (fun z => absurd z hz) (fun _ z => absurd hco z) (fun _ _ _ => fin q hq) (fun _ _ z => absurd hg z) (fun _ _ z => absurd hg z) (fun _ _ z => absurd hg z)⟩)
  · by_cases hn : ∀ x, x < 3 → zq_ex F G A s v x ≠ s
    · refine zq_T_mono (zq_T_dec h36 hv hs hA ok hc hz hco hg hn (zq_e L F G (zq_S s) (zq_va v)) P (zq_c_mono (fun i hi => (zq_op_iff.mp hi).1) 36)) (by omega) (by omega)
    · exact zq_T_proj h36 hP hv hs hA ok hc hz hco hg hn (by omega) sub
end
end
section
/-! every frame ends; evaluateAll gives the whole weight -/
def zq_Bn : Nat → Nat
  | 0 => 0
  | f + 1 => 21 + 12 * zq_Bn f
section
variable {post : Int64 → St1 → Prop} {fr fa : Int32} {a1 a3 a4 : Nat → Int32} {L : Nat → Bool} {F G P : Nat → Nat} {A : Nat → Bool}
theorem zq_T_all (h36 : ∀ i, L i = true → i < 36) (hP : ∀ i, L i = true → P i ≤ 10) (hL : zq_c L 36 ≤ 10) (ok : zq_ok a3 a4 F G A) (f : Nat) :
    ∀ v s, v < 64 → s < 16 → zq_fr v < f → (∀ r, zq_S s r = true → A r = true) → zq_T post fr fa a1 a3 a4 L F G P s v (zq_Bn f + zq_cost (zq_e L F G (zq_S s) (zq_va v))) (11 + 2 * f) := by
  induction f with
  | zero =>
    intro v s _ _ h
    omega
  | succ f ih =>
    intro v s hv hs hf hA
    have e10 : ∀ S V, zq_e L F G S V ≤ 10 := fun S V => Nat.le_trans (zq_c_mono (fun i hi => (zq_R_iff.mp hi).1) 36) hL
    have bn : zq_Bn (f + 1) = 21 + 12 * zq_Bn f := rfl
    have conn : ∀ c, c < 16 → c ≠ 0 → (∀ r, zq_S c r = true → A r = true) → zq_co F G A c v = c → zq_T post fr fa a1 a3 a4 L F G P c v (4 + 3 * zq_Bn f + zq_cost (zq_e L F G (zq_S c) (zq_va v))) (11 + 2 * f + 1) :=
      fun c hc h0 hAc hco => zq_T_conn h36 hP hv hc hAc ok (e10 _ _) h0 hco (by omega) (fun x hx hfree k hk => ih (zq_set v x k) c (zq_set_lt v hv x hx k hk) hc (by have := zq_fr_set v hv x hx k hk hfree; omega) hAc)
    by_cases hz : s = 0
    · intro a2 x d fs fe a5 a6 a7 a8 a9 a10 a11 a12 a13 a14 wk hD hT e5 e6 e7 K
      have nil := zq_s_nil (L := L) (P := P) (F := F) (G := G) (S := zq_S s) (zq_va_le v) (fun r => by rw [hz]; exact Nat.zero_testBit r)
      rw [nil.1, nil.2] at K
      refine zq_K_s (by omega) (by omega) (Or.inl ⟨e5, fun q hq => zq_w_bg (P := P) (by omega) hv hs e6 e7 hA ok wk (e10 _ _) (fun _ => hq _ (K _ _ _ _ _ _ _ _ _ _ _ (by omega) ?_)) (fun z => absurd hz z) (fun z => absurd hz z) (fun z => absurd hz z) (fun z => absurd hz z) (fun z => absurd hz z)⟩)
      intro i hi
      have h1 : ¬ i = d := by omega
      simp [upd, vp_updL, h1]
    · by_cases hco : zq_co F G A s v = s
      · exact zq_T_mono (conn s hs hz hA hco) (by omega) (by omega)
      · intro a2 x d fs fe a5 a6 a7 a8 a9 a10 a11 a12 a13 a14 wk hD hT e5 e6 e7 K
        refine zq_K_s (by omega) (by omega) (Or.inl ⟨e5, fun q hq => zq_w_bg (P := P) (by omega) hv hs e6 e7 hA ok wk (e10 _ _) (fun z => absurd z hz) (fun _ _ => hq _ ?_) (fun _ z => absurd z hco) (fun _ z => absurd z hco) (fun _ z => absurd z hco) (fun _ z => absurd z hco)⟩)
        have co := zq_co_ok F G A v hs hz
        obtain ⟨sp1, sp2, sp3, sp4⟩ := zq_split (F := F) (G := G) (A := A) (v := v) hs hz hA
        have pp := zq_tpop s hs _ co.2.1 co.1
        have pc := zq_pop_pos _ co.2.1 co.2.2.1
        have ps := zq_pop_pos s hs hz
        have m2 : (zq_pop (s - zq_co F G A s v) + 1) * (4 + 3 * zq_Bn f + 1) ≤ 4 * (4 + 3 * zq_Bn f + 1) := Nat.mul_le_mul_right _ (by omega)
        have eb := zq_e_add (L := L) (F := F) (G := G) (V := zq_va v) sp1 sp2
        have nil := zq_s_nil (L := L) (P := P) (F := F) (G := G) (S := fun _ => false) (zq_va_le v) (fun r => rfl)
        rw [eb] at hT
        refine zq_T_parts (s := s) h36 hv hs hA ok (by omega) conn _ (s - zq_co F G A s v) rfl sp4 (fun _ => false) (zq_co F G A s v) co.2.1 co.2.2.1 co.2.2.2.2.1
          (fun r => by rw [sp1, Bool.false_or]) (fun r h => absurd h Bool.false_ne_true) (fun r h => absurd h Bool.false_ne_true) sp2 (fun u r1 r2 _ _ h => absurd h Bool.false_ne_true) (fun u r1 r2 _ _ h => absurd h Bool.false_ne_true) sp3
          a2 (x + 1) d _ _ _ _ _ _ _ _ _ _ _ _ wk (by omega) (by omega) zq_u1 (zq_u2.trans e7) pk_us (by rw [nil.1]; exact pk_uLs) (by rw [nil.2]; exact pk_us) pk_us pk_us pk_us ?_
        intro y b5 b6 b7 b8 b9 b10 b11 b12 b13 b14 hy hb
        refine K _ _ _ _ _ _ _ _ _ _ _ (by rw [eb]; omega) (zq_sb_tr (d := d) ?_ hb (Nat.le_refl d))
        intro i hi
        have h1 : ¬ i = d := by omega
        have h2 : ¬ i = d + 1 := by omega
        simp [upd, vp_updL, h1, h2]
end
/-- all the atoms of the query -/
def zq_all (A : Nat → Bool) (r : Nat) : Bool := decide (r < 4) && A r
def zq_am (A : Nat → Bool) (n : Nat) : Nat := zq_aw (fun _ => 0) (fun _ => 0) A 0 n
theorem zq_am_t {A : Nat → Bool} {r : Nat} (h : A r = true) : zq_am A (r + 1) = zq_am A r ||| 2 ^ r := zq_aw_t (zq_has_iff.mpr ⟨h, Or.inl rfl⟩)
theorem zq_am_f {A : Nat → Bool} {r : Nat} (h : A r = false) : zq_am A (r + 1) = zq_am A r := zq_aw_f (by unfold zq_has; rw [h]; rfl)
theorem zq_am_bit (A : Nat → Bool) (n r : Nat) : (zq_am A n).testBit r = (decide (r < n) && A r) := by
  unfold zq_am
  rw [zq_aw_bit]
  unfold zq_has
  simp
theorem zq_am_S (A : Nat → Bool) : zq_S (zq_am A 4) = zq_all A := funext (fun r => zq_am_bit A 4 r)
theorem zq_all_iff {A : Nat → Bool} {r : Nat} : zq_all A r = true ↔ r < 4 ∧ A r = true := by
  unfold zq_all
  rw [Bool.and_eq_true, decide_eq_true_iff]
noncomputable def zq_w (L : Nat → Bool) (P F G : Nat → Nat) (A : Nat → Bool) : Nat := zq_W L P F G (zq_all A) (zq_va 63)
section
variable {fr fa fd : Int32} {fs : Int64} {fe : Int32} {a1 a2 a3 a4 a5 a6 a7 a8 a9 a10 a11 a12 : Nat → Int32} {a13 : Nat → Int64} {a14 : Nat → Int32} {F G : Nat → Nat} {A : Nat → Bool} {L : Nat → Bool} {P : Nat → Nat}
theorem zq_w_ea {post : Int64 → St1 → Prop} (h36 : ∀ i, L i = true → i < 36) (hL : zq_c L 36 ≤ 10) (ok : zq_ok a3 a4 F G A) (wk : zq_wk a2 L P)
    (hp : ∀ (gd : Int32) (gs : Int64) (ge : Int32) (b5 b6 b7 b8 b9 b10 b11 b12 : Nat → Int32) (b13 : Nat → Int64) (b14 : Nat → Int32), post (lN (zq_w L P F G A)) (nI (zq_c L 36), fa, gd, gs, ge, a1, a2, a3, a4, b5, b6, b7, b8, b9, b10, b11, b12, b13, b14)) : wpX_evaluateAll post (nI (zq_c L 36), fa, fd, fs, fe, a1, a2, a3, a4, a5, a6, a7, a8, a9, a10, a11, a12, a13, a14) := by
  have hP := zq_wk_le wk h36
  have hS : ∀ r, zq_S (zq_am A 4) r = true → A r = true := fun r hr => by
    rw [zq_am_S] at hr
    exact (zq_all_iff.mp hr).2
  have hF : ∀ r, zq_all A r = true → F r < 3 ∧ G r < 3 := fun r hr => by
    obtain ⟨_, _, f3, g3⟩ := (ok r (zq_all_iff.mp hr).1).1 (zq_all_iff.mp hr).2
    exact ⟨f3, g3⟩
  unfold wpX_evaluateAll
  refine pk_loop (σ := Unit) (fun n i _ => wX_evaluateAll_4 post (nI (zq_c L 36)) fa fd fs fe a1 a2 a3 a4 a5 a6 a7 a8 a9 a10 a11 a12 a13 a14 n (nI (zq_am A i)) (nI i)) (fun _ _ => True) 4 0 () (by omega) trivial ?_ ?_
  · intro n _ _
    refine pk_le 4 4 (fun _ => ?_) (fun z => absurd z (by omega))
    refine zq_w_en (k := 0) (by omega) ?_
    refine ⟨100001, ?_⟩
    have lt16 : zq_am A 4 < 16 := zq_aw_lt 4
    have e10 : zq_e L F G (zq_S (zq_am A 4)) (zq_va 63) ≤ 10 := Nat.le_trans (zq_c_mono (fun i hi => (zq_R_iff.mp hi).1) 36) hL
    have c10 : zq_cost (zq_e L F G (zq_S (zq_am A 4)) (zq_va 63)) ≤ 4092 := zq_cost_le e10
    have b4 : zq_Bn 4 = 39585 := rfl
    have W := zq_W_s (L := L) (P := P) (F := F) (G := G) (S := zq_all A) (V := zq_va 63) hF hP
    have key := zq_T_all (post := post) (fr := nI (zq_c L 36)) (fa := fa) (a1 := a1) h36 hP hL ok 4 63 (zq_am A 4) (by omega) lt16 (by rw [zq_fr_63]; omega) hS
      a2 0 0 fs fe (upd a5 0 0) (upd a6 0 (nI (zq_am A 4))) (upd a7 0 63) a8 a9 a10 a11 a12 a13 a14 wk (by omega) (by omega) pk_us pk_us pk_us (by
        intro y b5 b6 b7 b8 b9 b10 b11 b12 b13 b14 hy hb
        rw [zq_am_S] at *
        refine zq_K_out (by omega) W.1 hL ?_
        rw [lN_mul, ← W.2]
        exact hp _ _ _ _ _ _ _ _ _ _ _ _ _)
    exact key
  · intro n i _ hi _ hw
    refine pk_le 4 i (fun z => absurd z (by omega)) (fun _ => ⟨pk_in i 4 hi, ?_⟩)
    rw [nI_clamp (show i < 2 ^ 31 by omega)]
    have t := hw () trivial
    cases hA : A i
    · rw [((ok i hi).2 hA).1]
      rw [zq_am_f hA] at t
      exact br_t zq_neg0 (nm_r (nI_1 i) t)
    · have q := (ok i hi).1 hA
      rw [q.1]
      rw [zq_am_t hA] at t
      exact br_f (nI_pos (by omega)) (nm_r (zq_orb _ (by omega)) (nm_r (nI_1 i) t))
end
end
section
/-! the class's own methods, over a picture of the object -/
def zq_I (L A : Nat → Bool) (P F G : Nat → Nat) (u : St1) : Prop := match u with
  | (fr, fa, fd, fs, fe, a1, a2, a3, a4, a5, a6, a7, a8, a9, a10, a11, a12, a13, a14) => fr = nI (zq_c L 36) ∧ fa = nI (zq_c A 4) ∧ zq_wk a1 L P ∧ zq_ok a3 a4 F G A
def zq_hL (L : Nat → Bool) : Prop := (∀ i, L i = true → i < 36) ∧ zq_c L 36 ≤ 10
theorem zq_wk_tr {a1 b2 : Nat → Int32} {L : Nat → Bool} {P : Nat → Nat} (h : ∀ i, i < 36 → b2 i = a1 i) (wk : zq_wk a1 L P) : zq_wk b2 L P := by
  intro i hi
  rw [h i hi]
  exact wk i hi
theorem zq_fill {f s : Nat → Int32} {i : Nat} {x : Int32} (h : ∀ j, j < i → s j = f j) (hx : x = f i) : ∀ j, j < i + 1 → upd s i x j = f j := by
  intro j hj
  by_cases e : j = i
  · rw [e, pk_us, hx]
  · rw [pk_un e]
    exact h j (by omega)
section
variable {fr fa fd : Int32} {fs : Int64} {fe : Int32} {a1 a2 a3 a4 a5 a6 a7 a8 a9 a10 a11 a12 : Nat → Int32} {a13 : Nat → Int64} {a14 : Nat → Int32} {F G : Nat → Nat} {A : Nat → Bool} {L : Nat → Bool} {P : Nat → Nat}
theorem zq_w_tl {post : St1 → Prop} (hp : ∀ b2, (∀ i, i < 36 → b2 i = a1 i) → post (fr, fa, fd, fs, fe, a1, b2, a3, a4, a5, a6, a7, a8, a9, a10, a11, a12, a13, a14)) : wpX_takeListed post (fr, fa, fd, fs, fe, a1, a2, a3, a4, a5, a6, a7, a8, a9, a10, a11, a12, a13, a14) := by
  refine pk_loop (σ := Nat → Int32) (fun n i t => wX_takeListed_2 post fr fa fd fs fe n (nI i) a1 t a3 a4 a5 a6 a7 a8 a9 a10 a11 a12 a13 a14) (fun i t => ∀ j, j < i → t j = a1 j) 36 0 a2 (by omega) lt_0
    (fun n t h => pk_le 36 36 (fun _ => hp t h) (fun z => absurd z (by omega))) ?_
  intro n i t hi h hw
  refine pk_le 36 i (fun z => absurd z (by omega)) (fun _ => ⟨pk_in i 36 hi, pk_in i 36 hi, ?_⟩)
  rw [nI_clamp (show i < 2 ^ 31 by omega)]
  exact nm_e (nm_r (nI_1 i) (hw _ (zq_fill h rfl)))
theorem zq_w_iR {post : Int32 → Prop} {r a b : Nat} (hr : r < 4) (ha : a < 3) (hb : b < 3) (hp : post 1) : wpX_isRow post () (nI r) (nI a) (nI b) :=
  br_f (nI_pos (by omega)) (pk_lt 3 r (fun z => absurd z (by omega)) (fun _ => br_f (nI_pos (by omega)) (pk_lt 2 a (fun z => absurd z (by omega)) (fun _ => br_f (nI_pos (by omega)) (pk_lt 2 b (fun z => absurd z (by omega)) (fun _ => hp))))))
theorem zq_w_iL {post : Int32 → Prop} {r a b : Nat} (hr : r < 4) (ha : a < 3) (hb : b < 3) (wk : zq_wk a1 L P) (h1 : L (9 * r + 3 * a + b) = true → post 1) (h0 : L (9 * r + 3 * a + b) = false → post 0) : wpX_isListed post (fr, fa, fd, fs, fe, a1, a2, a3, a4, a5, a6, a7, a8, a9, a10, a11, a12, a13, a14) (nI r) (nI a) (nI b) := by
  unfold wpX_isListed
  refine zq_w_iR hr ha hb (br_f (by decide) ?_)
  rw [zq_gri, nI_clamp (show 9 * r + 3 * a + b < 2 ^ 31 by omega)]
  refine ⟨pk_in (9 * r + 3 * a + b) 36 (by omega), ?_⟩
  cases e : L (9 * r + 3 * a + b)
  · rw [(wk _ (by omega)).2 e]
    exact br_t zq_neg0 (h0 e)
  · rw [((wk _ (by omega)).1 e).1]
    have := ((wk _ (by omega)).1 e).2
    exact br_f (nI_pos (by omega)) (h1 e)
end
section
variable {F G : Nat → Nat} {A : Nat → Bool} {L : Nat → Bool} {P : Nat → Nat} {u : St1}
theorem zq_w_lt {Q : Nat → Nat} (hL : zq_hL L) (hQ : ∀ i, L i = true → Q i ≤ 10) : zq_w L Q F G A ≤ 10000000000 :=
  Nat.le_trans (zq_W_le hQ) (show 10 ^ zq_c L 36 ≤ 10 ^ 10 from Nat.pow_le_pow_right (by omega) hL.2)
theorem zq_w_we {post : Int64 → St1 → Prop} (hL : zq_hL L) (hI : zq_I L A P F G u) (hp : ∀ u', zq_I L A P F G u' → post (lN (zq_w L P F G A)) u') : wpX_weight post u := by
  obtain ⟨fr, fa, fd, fs, fe, a1, a2, a3, a4, a5, a6, a7, a8, a9, a10, a11, a12, a13, a14⟩ := u
  obtain ⟨h1, h2, h3, h4⟩ := hI
  subst h1
  unfold wpX_weight
  refine zq_w_tl (fun b2 hb => ?_)
  exact zq_w_ea hL.1 hL.2 h4 (zq_wk_tr hb h3) (fun gd gs ge b5 b6 b7 b8 b9 b10 b11 b12 b13 b14 => hp _ ⟨rfl, h2, h3, h4⟩)
theorem zq_w_ww {post : Int64 → St1 → Prop} {r a b : Nat} (hr : r < 4) (ha : a < 3) (hb : b < 3) (hL : zq_hL L) (hI : zq_I L A P F G u)
    (h0 : L (9 * r + 3 * a + b) = false → ∀ u', zq_I L A P F G u' → post 0 u')
    (h1 : L (9 * r + 3 * a + b) = true → ∀ u', zq_I L A P F G u' → post (lN (zq_w L (zq_vs P (9 * r + 3 * a + b) 10) F G A / 10 * P (9 * r + 3 * a + b))) u') : wpX_weightWith post u (nI r) (nI a) (nI b) := by
  obtain ⟨fr, fa, fd, fs, fe, a1, a2, a3, a4, a5, a6, a7, a8, a9, a10, a11, a12, a13, a14⟩ := u
  have hI' := hI
  obtain ⟨e1, e2, e3, e4⟩ := hI
  subst e1
  unfold wpX_weightWith
  refine zq_w_iL hr ha hb e3 (fun hl => br_f (by decide) (nm_r (zq_gri r a b) (zq_w_tl (fun b2 h2 => ⟨pk_in (9 * r + 3 * a + b) 36 (by omega), ?_⟩)))) (fun hl => br_t rfl (h0 hl _ hI'))
  rw [nI_clamp (show 9 * r + 3 * a + b < 2 ^ 31 by omega)]
  refine nm_e ?_
  have q := (e3 _ (show 9 * r + 3 * a + b < 36 by omega)).1 hl
  have w := zq_wk_up (m := 10) (zq_wk_tr h2 e3) hl (by omega)
  refine zq_w_ea hL.1 hL.2 e4 w (fun gd gs ge b5 b6 b7 b8 b9 b10 b11 b12 b13 b14 => ⟨by decide, pk_in (9 * r + 3 * a + b) 36 (by omega), ?_⟩)
  have l := zq_w_lt (F := F) (G := G) (A := A) hL (zq_wk_le w hL.1)
  rw [q.1, nI_l (by omega), show lN (zq_w L (zq_vs P (9 * r + 3 * a + b) 10) F G A) / 10 = lN (zq_w L (zq_vs P (9 * r + 3 * a + b) 10) F G A / 10) from pk_lDiv (b := 10) (by omega) (by omega) (by omega), lN_mul]
  exact h1 hl _ ⟨rfl, e2, e3, e4⟩
theorem zq_w_wo {post : Int64 → St1 → Prop} {r a b : Nat} (hr : r < 4) (ha : a < 3) (hb : b < 3) (hL : zq_hL L) (hI : zq_I L A P F G u)
    (h0 : L (9 * r + 3 * a + b) = false → ∀ u', zq_I L A P F G u' → post (lN (zq_w L P F G A)) u')
    (h1 : L (9 * r + 3 * a + b) = true → ∀ u', zq_I L A P F G u' → post (lN (zq_w L (zq_vs P (9 * r + 3 * a + b) 0) F G A / 10 * (10 - P (9 * r + 3 * a + b)))) u') : wpX_weightWithout post u (nI r) (nI a) (nI b) := by
  obtain ⟨fr, fa, fd, fs, fe, a1, a2, a3, a4, a5, a6, a7, a8, a9, a10, a11, a12, a13, a14⟩ := u
  have hI' := hI
  obtain ⟨e1, e2, e3, e4⟩ := hI
  subst e1
  unfold wpX_weightWithout
  refine zq_w_iL hr ha hb e3 (fun hl => br_f (by decide) (nm_r (zq_gri r a b) (zq_w_tl (fun b2 h2 => ⟨pk_in (9 * r + 3 * a + b) 36 (by omega), ?_⟩)))) (fun hl => br_t rfl (zq_w_we hL hI' (fun u' hu' => h0 hl u' hu')))
  rw [nI_clamp (show 9 * r + 3 * a + b < 2 ^ 31 by omega)]
  refine nm_e ?_
  have q := (e3 _ (show 9 * r + 3 * a + b < 36 by omega)).1 hl
  have w := zq_wk_up (m := 0) (zq_wk_tr h2 e3) hl (by omega)
  refine zq_w_ea hL.1 hL.2 e4 w (fun gd gs ge b5 b6 b7 b8 b9 b10 b11 b12 b13 b14 => ⟨by decide, pk_in (9 * r + 3 * a + b) 36 (by omega), ?_⟩)
  have l := zq_w_lt (F := F) (G := G) (A := A) hL (zq_wk_le w hL.1)
  rw [q.1, show (10 : Int32) - nI (P (9 * r + 3 * a + b)) = nI (10 - P (9 * r + 3 * a + b)) from pk_sub (a := 10) q.2, nI_l (by omega), show lN (zq_w L (zq_vs P (9 * r + 3 * a + b) 0) F G A) / 10 = lN (zq_w L (zq_vs P (9 * r + 3 * a + b) 0) F G A / 10) from pk_lDiv (b := 10) (by omega) (by omega) (by omega), lN_mul]
  exact h1 hl _ ⟨rfl, e2, e3, e4⟩
theorem zq_five (hL : zq_hL L) (hF : ∀ r, zq_all A r = true → r < 4) : ∃ N, N < 2000 ∧ zq_w L (fun _ => 5) F G A / 5 ^ zq_c L 36 = N ∧ (N = 0 ↔ ¬ zq_ask L F G (zq_all A)) := by
  have f := zq_W_five (L := L) (P := fun _ => 5) (F := F) (G := G) (S := zq_all A) (V := zq_va 63) zq_va_63 hF (fun _ _ => rfl)
  have le := zq_W_le (L := L) (P := fun _ => 5) (F := F) (G := G) (S := zq_all A) (V := zq_va 63) (fun _ _ => by omega)
  have p5 : 0 < 5 ^ zq_c L 36 := Nat.pow_pos (by omega)
  have p2 : 2 ^ zq_c L 36 ≤ 2 ^ 10 := Nat.pow_le_pow_right (by omega) hL.2
  refine ⟨_, ?_, rfl, ?_⟩
  · have : zq_w L (fun _ => 5) F G A / 5 ^ zq_c L 36 ≤ 2 ^ zq_c L 36 := by
      refine Nat.div_le_of_le_mul ?_
      rw [← Nat.mul_pow]
      exact le
    omega
  · constructor
    · intro h ha
      have := f.1 ha
      have q := Nat.div_pos this p5
      have h' : zq_W L (fun _ => 5) F G (zq_all A) (zq_va 63) / 5 ^ zq_c L 36 = 0 := h
      omega
    · intro h
      have e : zq_w L (fun _ => 5) F G A = 0 := f.2 h
      rw [e, Nat.zero_div]
theorem zq_w_wd {post : Int32 → St1 → Prop} (hL : zq_hL L) (hI : zq_I L A P F G u) (hp : ∀ r u', (r = 0 ↔ ¬ zq_ask L F G (zq_all A)) → zq_I L A P F G u' → post r u') : wpX_worlds post u := by
  obtain ⟨fr, fa, fd, fs, fe, a1, a2, a3, a4, a5, a6, a7, a8, a9, a10, a11, a12, a13, a14⟩ := u
  obtain ⟨e1, e2, e3, e4⟩ := hI
  subst e1
  obtain ⟨N, hN, eN, iN⟩ := zq_five (L := L) (F := F) (G := G) (A := A) hL (fun r hr => (zq_all_iff.mp hr).1)
  have p5 : 0 < 5 ^ zq_c L 36 := Nat.pow_pos (by omega)
  have q5 : 5 ^ zq_c L 36 ≤ 5 ^ 10 := Nat.pow_le_pow_right (by omega) hL.2
  have l := zq_w_lt (Q := fun _ => 5) (F := F) (G := G) (A := A) hL (fun _ _ => by omega)
  unfold wpX_worlds
  refine pk_loop (σ := Nat → Int32) (fun n i t => wX_worlds_4 post (nI (zq_c L 36)) fa fd fs fe n (lN (5 ^ zq_c L i)) (nI i) a1 t a3 a4 a5 a6 a7 a8 a9 a10 a11 a12 a13 a14) (fun i t => ∀ j, j < i → t j = if L j = true then 5 else -1) 36 0 a2 (by omega) lt_0 ?_ ?_
  · intro n t h
    refine pk_le 36 36 (fun _ => ?_) (fun z => absurd z (by omega))
    have w : zq_wk t L (fun _ => 5) := by
      intro i hi
      refine ⟨fun hl => ⟨?_, show 5 ≤ 10 by omega⟩, fun hl => ?_⟩
      · rw [h i hi, if_pos hl]
        rfl
      · rw [h i hi, hl, if_neg Bool.false_ne_true]
    refine zq_w_ea hL.1 hL.2 e4 w (fun gd gs ge b5 b6 b7 b8 b9 b10 b11 b12 b13 b14 => ?_)
    have ne : ¬ lN (5 ^ zq_c L 36) = 0 := fun z => by
      have := (pk_lEQ (a := 5 ^ zq_c L 36) (b := 0) (by omega) (by omega)).mp z
      omega
    refine br_f ne ⟨ne, ?_⟩
    rw [pk_lDiv (by omega) p5 (by omega), eN, lN_i]
    refine hp _ _ (Iff.trans ?_ iN) ⟨rfl, e2, e3, e4⟩
    exact nI_eq (b := 0) (by omega) (by omega)
  · intro n i t hi h hw
    refine pk_le 36 i (fun z => absurd z (by omega)) (fun _ => ⟨pk_in i 36 hi, ?_⟩)
    rw [nI_clamp (show i < 2 ^ 31 by omega)]
    have fl : ∀ x : Int32, x = (if L i = true then 5 else -1) → ∀ j, j < i + 1 → upd t i x j = if L j = true then 5 else -1 := fun x hx => zq_fill (f := fun j => if L j = true then 5 else -1) h hx
    cases e : L i
    · rw [(e3 i hi).2 e]
      have hw' := fun t' h' => hw t' h'
      have t1 := hw (upd t i (-1)) (fl (-1) (by rw [e, if_neg Bool.false_ne_true]))
      rw [zq_c_f e] at t1
      refine br_f (by decide) ⟨pk_in i 36 hi, ?_⟩
      rw [nI_clamp (show i < 2 ^ 31 by omega)]
      refine nm_e ⟨pk_in i 36 hi, ?_⟩
      rw [(e3 i hi).2 e]
      refine br_f (by decide) (nm_r (e' := lN (5 ^ zq_c L i)) ?_ (nm_r (nI_1 i) t1))
      exact (lN_mul (5 ^ zq_c L i) 1).trans (by rw [Nat.mul_one])
    · have q := (e3 i hi).1 e
      rw [q.1]
      have t1 := hw (upd t i 5) (fl 5 (by rw [e, if_pos rfl]))
      rw [zq_c_t e] at t1
      refine br_t (nI_pos' (by omega)) ⟨pk_in i 36 hi, ?_⟩
      rw [nI_clamp (show i < 2 ^ 31 by omega)]
      refine nm_e ⟨pk_in i 36 hi, ?_⟩
      rw [q.1]
      refine br_t (nI_pos' (by omega)) (nm_r (e' := lN (5 ^ (zq_c L i + 1))) ?_ (nm_r (nI_1 i) t1))
      rw [Nat.pow_succ]
      exact lN_mul (5 ^ zq_c L i) 5
end
end
section
/-! the heaviest world -/
theorem zq_c_le {R : Nat → Bool} {j k : Nat} (h : j ≤ k) : zq_c R j ≤ zq_c R k := by
  induction k with
  | zero =>
    rw [show j = 0 by omega]
    exact Nat.le_refl _
  | succ k ih =>
    by_cases e : j = k + 1
    · rw [e]
      exact Nat.le_refl _
    · have t := ih (by omega)
      cases h : R k
      · rw [zq_c_f h]
        exact t
      · rw [zq_c_t h]
        omega
section
variable {fr fa fd : Int32} {fs : Int64} {fe : Int32} {a1 a2 a3 a4 a5 a6 a7 a8 a9 a10 a11 a12 : Nat → Int32} {a13 : Nat → Int64} {a14 : Nat → Int32} {F G : Nat → Nat} {A : Nat → Bool} {L : Nat → Bool} {P : Nat → Nat}
theorem zq_ask_iff (ok : zq_ok a3 a4 F G A) : zq_ask L F G (zq_all A) ↔ ∃ k, k < 27 ∧ ∀ r, r < 4 → A r = true → L (zq_g F G (zq_fu k) r) = true := by
  constructor
  · rintro ⟨t, h1, h2⟩
    obtain ⟨k, hk, e⟩ := zq_fu_of t h1
    refine ⟨k, hk, fun r hr hA => ?_⟩
    obtain ⟨_, _, f3, g3⟩ := (ok r hr).1 hA
    unfold zq_g
    rw [e _ f3, e _ g3]
    exact h2 r (zq_all_iff.mpr ⟨hr, hA⟩)
  · rintro ⟨k, hk, h⟩
    refine ⟨fun x => if x < 3 then zq_va (zq_fu k) x else 0, fun x => ?_, fun r hr => ?_⟩
    · dsimp only
      split
      · rename_i h
        exact zq_fu_va3 hk h
      · omega
    · obtain ⟨hr4, hA⟩ := zq_all_iff.mp hr
      obtain ⟨_, _, f3, g3⟩ := (ok r hr4).1 hA
      dsimp only
      rw [if_pos f3, if_pos g3]
      exact h r hr4 hA
theorem zq_w_wf {post : Int64 → Prop} {v : Nat} (hv : v < 64) (h3 : ∀ x, x < 3 → zq_va v x < 3) (hL : zq_hL L) (ok : zq_ok a3 a4 F G A) (wk : zq_wk a1 L P)
    (hp : ∀ r : Int64, ((∀ i, i < 36 → a2 i = a1 i) → (0 ≤ r ↔ ∀ k, k < 4 → A k = true → L (zq_g F G v k) = true)) → post r) : wpX_weightFor post (fr, fa, fd, fs, fe, a1, a2, a3, a4, a5, a6, a7, a8, a9, a10, a11, a12, a13, a14) (nI v) := by
  unfold wpX_weightFor
  refine pk_loop (σ := Int64) (fun n i y => wX_weightFor_8 post (nI v) fr fa fd fs fe a1 a2 a3 a4 a5 a6 a7 a8 a9 a10 a11 a12 a13 a14 n y (nI (zq_am A i)) (nI i)) (fun i y => (∀ j, j < 36 → a2 j = a1 j) → (∃ m, y = lN m ∧ m ≤ 10 ^ i) ∧ ∀ k, k < i → A k = true → L (zq_g F G v k) = true) 4 0 1 (by omega) (fun _ => ⟨⟨1, rfl, by decide⟩, lt_0⟩) ?_ ?_
  · intro n y hy
    refine pk_le 4 4 (fun _ => ?_) (fun z => absurd z (by omega))
    refine pk_loop (σ := Int64) (fun n i y => wX_weightFor_88 post (nI v) (nI (zq_am A 4)) fr fa fd fs fe a1 a2 a3 a4 a5 a6 a7 a8 a9 a10 a11 a12 a13 a14 n y (nI i)) (fun i y => (∀ j, j < 36 → a2 j = a1 j) → ∃ m, y = lN m ∧ m ≤ 10 ^ (4 + zq_c L i)) 36 0 y (by omega) (fun c => (hy c).1) ?_ ?_
    · intro n z hz
      refine pk_le 36 36 (fun _ => hp z (fun c => ⟨fun _ => (hy c).2, fun _ => ?_⟩)) (fun z => absurd z (by omega))
      obtain ⟨m, e, hm⟩ := hz c
      have b : 10 ^ (4 + zq_c L 36) ≤ 10 ^ 14 := Nat.pow_le_pow_right (by omega) (by have := hL.2; omega)
      rw [e]
      exact (pk_lLE (a := 0) (by omega) (by omega)).mpr (Nat.zero_le m)
    · intro n i y hi hy2 hw
      have lt16 : zq_am A 4 < 16 := zq_aw_lt 4
      have J : ∀ y', ((∀ j, j < 36 → a2 j = a1 j) → ∃ m, y' = lN m ∧ m ≤ 10 ^ (4 + zq_c L (i + 1))) → wX_weightFor_88 post (nI v) (nI (zq_am A 4)) fr fa fd fs fe a1 a2 a3 a4 a5 a6 a7 a8 a9 a10 a11 a12 a13 a14 n y' (nI (i + 1)) := hw
      have keep : (∀ j, j < 36 → a2 j = a1 j) → ∃ m, y = lN m ∧ m ≤ 10 ^ (4 + zq_c L (i + 1)) := by
        intro c
        obtain ⟨m, e, hm⟩ := hy2 c
        have t : zq_c L i ≤ zq_c L (i + 1) := zq_c_le (by omega)
        exact ⟨m, e, Nat.le_trans hm (Nat.pow_le_pow_right (by omega) (by omega))⟩
      have more : L i = true → ∀ z : Int32, ((∀ j, j < 36 → a2 j = a1 j) → ∃ p, p ≤ 10 ∧ z = nI p) → (∀ j, j < 36 → a2 j = a1 j) → ∃ m, y * z.toInt64 = lN m ∧ m ≤ 10 ^ (4 + zq_c L (i + 1)) := by
        intro hl z hz c
        obtain ⟨m, e, hm⟩ := hy2 c
        obtain ⟨p, hp10, ep⟩ := hz c
        refine ⟨m * p, ?_, ?_⟩
        · rw [e, ep, nI_l (by omega), lN_mul]
        · rw [zq_c_t hl, ← Nat.add_assoc, Nat.pow_succ]
          exact Nat.mul_le_mul hm hp10
      have c197 : L i = true → ∀ x8 z0 : Int32, ((∀ j, j < 36 → a2 j = a1 j) → ∃ p, p ≤ 10 ∧ x8 = nI p) → ((∀ j, j < 36 → a2 j = a1 j) → ∃ p, p ≤ 10 ∧ z0 = nI p) →
          wX_weightFor_197 post (wX_weightFor_88 post (nI v) (nI (zq_am A 4)) fr fa fd fs fe a1 a2 a3 a4 a5 a6 a7 a8 a9 a10 a11 a12 a13 a14 n) (nI v) y (nI (zq_am A 4)) (nI i) x8 z0 fr fa fd fs fe a1 a2 a3 a4 a5 a6 a7 a8 a9 a10 a11 a12 a13 a14 := by
        intro hl x8 z0 h8 h0
        exact br_c (fun _ => nm_e (nm_r (nI_1 i) (J _ (more hl z0 h0)))) (fun _ => nm_e (nm_r (nI_1 i) (J _ (more hl x8 h8))))
      have c169 : L i = true → ∀ z0 : Int32, ((∀ j, j < 36 → a2 j = a1 j) → ∃ p, p ≤ 10 ∧ z0 = nI p) →
          wX_weightFor_169 post (wX_weightFor_88 post (nI v) (nI (zq_am A 4)) fr fa fd fs fe a1 a2 a3 a4 a5 a6 a7 a8 a9 a10 a11 a12 a13 a14 n) (nI v) y (nI (zq_am A 4)) (nI i) z0 fr fa fd fs fe a1 a2 a3 a4 a5 a6 a7 a8 a9 a10 a11 a12 a13 a14 := by
        intro hl z0 h0
        have q := (wk i hi).1 hl
        unfold wX_weightFor_169
        rw [nI_clamp (show i < 2 ^ 31 by omega)]
        refine ⟨pk_in i 36 hi, br_c (fun h12 => c197 hl z0 (-1) h0 (fun c => ?_)) (fun _ => ⟨pk_in i 36 hi, c197 hl z0 _ h0 (fun _ => ⟨10 - P i, by omega, by rw [q.1]; exact pk_sub (a := 10) q.2⟩)⟩)⟩
        rw [c i hi, q.1] at h12
        have := (nI_eq (b := 12) (by omega) (by omega)).mp h12
        omega
      have c129 : ∀ z0 : Int32, wX_weightFor_129 post (wX_weightFor_88 post (nI v) (nI (zq_am A 4)) fr fa fd fs fe a1 a2 a3 a4 a5 a6 a7 a8 a9 a10 a11 a12 a13 a14 n) (nI v) y (nI (zq_am A 4)) (nI i) z0 fr fa fd fs fe a1 a2 a3 a4 a5 a6 a7 a8 a9 a10 a11 a12 a13 a14 := by
        intro z0
        unfold wX_weightFor_129
        rw [nI_clamp (show i < 2 ^ 31 by omega)]
        refine ⟨pk_in i 36 hi, ?_⟩
        cases hl : L i
        · exact br_t (by rw [(wk i hi).2 hl]; exact zq_neg0) (nm_r (nI_1 i) (J y keep))
        · have q := (wk i hi).1 hl
          refine br_f (by rw [q.1]; exact nI_pos (by omega)) (br_c (fun _ => ⟨pk_in i 36 hi, br_c (fun h11 => c169 hl (-1) (fun c => ?_)) (fun _ => ⟨pk_in i 36 hi, c169 hl _ (fun _ => ⟨P i, q.2, q.1⟩)⟩)⟩) (fun _ => nm_r (nI_1 i) (J y keep)))
          rw [c i hi, q.1] at h11
          have := (nI_eq (b := 11) (by omega) (by omega)).mp h11
          omega
      refine pk_le 36 i (fun z => absurd z (by omega)) (fun _ => ⟨by decide, nm_r (zq_div9 hi) ?_⟩)
      refine ek_if (zq_nbit (by omega) (by omega)) (fun z => c129 0) (fun z => ?_)
      have hA : A (i / 9) = true := by
        have t := zq_am_bit A 4 (i / 9)
        cases e : A (i / 9)
        · rw [e, Bool.and_false] at t
          exact absurd t z
        · rfl
      exact zq_w_gr hv (by omega) hA ok (br_c (fun _ => c129 1) (fun _ => c129 0))
  · intro n i y hi hy hw
    refine pk_le 4 i (fun z => absurd z (by omega)) (fun _ => ⟨pk_in i 4 hi, ?_⟩)
    rw [nI_clamp (show i < 2 ^ 31 by omega)]
    cases hA : A i
    · have t := hw y (fun c => by
        obtain ⟨⟨m, e, hm⟩, h⟩ := hy c
        refine ⟨⟨m, e, Nat.le_trans hm (Nat.pow_le_pow_right (by omega) (by omega))⟩, lt_s h (fun z => ?_)⟩
        rw [hA] at z
        exact absurd z Bool.false_ne_true)
      rw [zq_am_f hA] at t
      exact br_t (by rw [((ok i hi).2 hA).1]; exact zq_neg0) (nm_r (nI_1 i) t)
    · obtain ⟨e3, e4, f3, g3⟩ := (ok i hi).1 hA
      have gl := zq_g_lt hi h3 f3 g3
      refine br_f (by rw [e3]; exact nI_pos (by omega)) (zq_w_gr hv hi hA ok ⟨pk_in _ 36 gl, ?_⟩)
      rw [nI_clamp (show zq_g F G v i < 2 ^ 31 by omega)]
      refine br_c (fun hneg => hp (-1) (fun c => ⟨fun h => absurd h (by decide), fun h => ?_⟩)) (fun hneg => ⟨pk_in _ 36 gl, br_c (fun h11 => hp (-1) (fun c => ?_)) (fun h11 => ⟨pk_in _ 36 gl, ?_⟩)⟩)
      · have q := (wk _ gl).1 (h i hi hA)
        rw [c _ gl, q.1] at hneg
        exact absurd hneg (nI_pos (by omega))
      · cases hl : L (zq_g F G v i)
        · rw [c _ gl, (wk _ gl).2 hl] at hneg
          exact absurd zq_neg0 hneg
        · have q := (wk _ gl).1 hl
          rw [c _ gl, q.1] at h11
          have := (nI_eq (b := 11) (by omega) (by omega)).mp h11
          omega
      · have t := hw (y * (a1 (zq_g F G v i)).toInt64) (fun c => by
          obtain ⟨⟨m, e, hm⟩, h⟩ := hy c
          have hl : L (zq_g F G v i) = true := by
            cases hl : L (zq_g F G v i)
            · rw [c _ gl, (wk _ gl).2 hl] at hneg
              exact absurd zq_neg0 hneg
            · rfl
          have q := (wk _ gl).1 hl
          refine ⟨⟨m * P (zq_g F G v i), ?_, ?_⟩, lt_s h (fun _ => hl)⟩
          · rw [e, q.1, nI_l (by omega), lN_mul]
          · rw [Nat.pow_succ]
            exact Nat.mul_le_mul hm q.2)
        rw [zq_am_t hA] at t
        exact nm_e (nm_r (zq_orb _ (by omega)) (nm_r (nI_1 i) t))
theorem zq_w_gw {post : Int64 → Prop} (hL : zq_hL L) (ok : zq_ok a3 a4 F G A) (wk : zq_wk a1 L P)
    (hp : ∀ r : Int64, ((∀ i, i < 36 → a2 i = a1 i) → (0 ≤ r ↔ zq_ask L F G (zq_all A))) → post r) : wpX_greatestWeight post (fr, fa, fd, fs, fe, a1, a2, a3, a4, a5, a6, a7, a8, a9, a10, a11, a12, a13, a14) := by
  unfold wpX_greatestWeight
  refine pk_loop (σ := Int64) (fun n i y => wX_greatestWeight_6 post fr fa fd fs fe a1 a2 a3 a4 a5 a6 a7 a8 a9 a10 a11 a12 a13 a14 n y (nI i)) (fun i y => (∀ i, i < 36 → a2 i = a1 i) → (0 ≤ y ↔ ∃ k, k < i ∧ ∀ r, r < 4 → A r = true → L (zq_g F G (zq_fu k) r) = true)) 27 0 (-1) (by omega) (fun _ => ⟨fun h => absurd h (by decide), fun ⟨k, hk, _⟩ => absurd hk (by omega)⟩)
    (fun n y hy => pk_le 27 27 (fun _ => hp y (fun c => (hy c).trans (zq_ask_iff ok).symm)) (fun z => absurd z (by omega))) ?_
  intro n i y hi hy hw
  refine pk_le 27 i (fun z => absurd z (by omega)) (fun _ => ⟨by decide, by decide, by decide, by decide, ?_⟩)
  rw [zq_tfu i hi]
  refine zq_w_wf (zq_fu_lt i hi) (fun x hx => zq_fu_va3 hi hx) hL ok wk (fun r hr => br_c (fun hle => nm_r (nI_1 i) (hw y (fun c => ?_))) (fun hle => nm_r (nI_1 i) (hw r (fun c => ?_))))
  · have h1 := hy c
    have h2 := hr c
    constructor
    · intro h
      obtain ⟨k, hk, z⟩ := h1.mp h
      exact ⟨k, by omega, z⟩
    · rintro ⟨k, hk, z⟩
      by_cases e : k = i
      · rw [e] at z
        have := h2.mpr z
        rw [Int64.le_iff_toInt_le] at *
        omega
      · exact h1.mpr ⟨k, by omega, z⟩
  · have h1 := hy c
    have h2 := hr c
    constructor
    · intro h
      exact ⟨i, by omega, h2.mp h⟩
    · rintro ⟨k, hk, z⟩
      by_cases e : k = i
      · rw [e] at z
        exact h2.mpr z
      · have := h1.mpr ⟨k, by omega, z⟩
        rw [Int64.le_iff_toInt_le] at *
        omega
end
theorem zq_w_hv {F G : Nat → Nat} {A L : Nat → Bool} {P : Nat → Nat} {u : St1} {post : Int32 → St1 → Prop} (hL : zq_hL L) (hI : zq_I L A P F G u) (hp : ∀ r u', (r = -1 ↔ ¬ zq_ask L F G (zq_all A)) → zq_I L A P F G u' → post r u') : wpX_heaviest post u := by
  obtain ⟨fr, fa, fd, fs, fe, a1, a2, a3, a4, a5, a6, a7, a8, a9, a10, a11, a12, a13, a14⟩ := u
  obtain ⟨e1, e2, e3, e4⟩ := hI
  subst e1
  unfold wpX_heaviest
  refine zq_w_tl (fun b2 hb => zq_w_gw hL e4 e3 (fun r hr => ?_))
  have hr' := hr hb
  refine br_c (fun h0 => ?_) (fun h0 => hp (-1) _ ⟨fun _ ask => h0 (hr'.mpr ask), fun _ => rfl⟩ ⟨rfl, e2, e3, e4⟩)
  refine ⟨37, ?_⟩
  rw [show (35 : Int32) = nI 36 + (-1) from by decide]
  refine pk_loopD (σ := Int32 × (Nat → Int32)) (fun n e t => wX_heaviest_29 post r (nI (zq_c L 36)) fa fd fs fe n t.1 (nI (zq_c L e)) (nI e + (-1)) a1 t.2 a3 a4 a5 a6 a7 a8 a9 a10 a11 a12 a13 a14) (fun e t => e ≤ 36 ∧ ∃ m, m < 1024 ∧ t.1 = nI m) ?_ ?_ 36 (0, b2) ⟨by omega, 0, by omega, rfl⟩
  · rintro n ⟨t1, t2⟩ ⟨_, m, hm, rfl⟩
    refine br_t (by decide) (hp _ _ ⟨fun e => ?_, fun hn => absurd (hr'.mp h0) hn⟩ ⟨rfl, e2, e3, e4⟩)
    have e' : nI m = -1 := e
    exact absurd (show nI m < 0 by rw [e']; decide) (nI_pos (by omega))
  · rintro n e ⟨t1, t2⟩ ⟨he, m, hm, hm1⟩ hw
    have hm2 : t1 = nI m := hm1
    subst hm2
    have hc := hL.2
    have c36 : zq_c L (e + 1) ≤ zq_c L 36 := zq_c_le he
    dsimp only
    rw [pk_m1]
    refine br_f (nI_pos (by omega)) ⟨pk_in e 36 (by omega), ?_⟩
    rw [nI_clamp (show e < 2 ^ 31 by omega)]
    cases hl : L e
    · have t := hw (nI m, t2) ⟨by omega, m, hm, rfl⟩
      rw [zq_c_f hl]
      exact br_t (by rw [(e3 e (by omega)).2 hl]; exact zq_neg0) (nm_e t)
    · have q := (e3 e (by omega)).1 hl
      rw [zq_c_t hl] at c36 ⊢
      have b10 : 2 ^ zq_c L e < 2 ^ 10 := Nat.pow_lt_pow_right (by omega) (by omega)
      have o10 : m ||| 2 ^ zq_c L e < 1024 := Nat.or_lt_two_pow (n := 10) hm b10
      refine br_f (by rw [q.1]; exact nI_pos (by omega)) (nm_r (pk_m1 _) ⟨pk_in e 36 (by omega), nm_e (zq_w_gw hL e4 e3 (fun r' _ => br_c (fun _ => nm_e (hw (nI m, _) ⟨by omega, m, hm, rfl⟩)) (fun _ => ⟨pk_in e 36 (by omega), nm_e (nm_r (zq_orb _ (by omega)) (nm_e (hw (nI (m ||| 2 ^ zq_c L e), _) ⟨by omega, _, o10, rfl⟩)))⟩)))⟩)
end
section
/-! the methods that change rows and the query; the law's mask -/
theorem zq_c_one {j k : Nat} (h : j < k) : zq_c (fun i => decide (i = j)) k = 1 :=
  (zq_E_single (R := fun i => decide (i = j)) (p := fun _ => 0) (q := fun _ => 0) (f := fun _ => 0) h (fun i => decide_eq_true_iff) (fun _ => false)).2
theorem zq_c_put {L : Nat → Bool} {j k : Nat} (h : j < k) (hl : L j = false) : zq_c (zq_up L j true) k = zq_c L k + 1 := by
  rw [← zq_c_one h]
  refine zq_c_add (fun i => ?_) (fun i h1 h2 => ?_) k
  · by_cases e : i = j
    · subst e
      rw [zq_up_s, decide_eq_true rfl, Bool.or_true]
    · rw [zq_up_n _ _ e, decide_eq_false e, Bool.or_false]
  · have e : i = j := decide_eq_true_iff.mp h2
    rw [e, hl] at h1
    exact Bool.false_ne_true h1
theorem zq_c_out {L : Nat → Bool} {j k : Nat} (h : j < k) (hl : L j = true) : zq_c (zq_up L j false) k + 1 = zq_c L k := by
  rw [← zq_c_one h]
  refine (zq_c_add (fun i => ?_) (fun i h1 h2 => ?_) k).symm
  · by_cases e : i = j
    · subst e
      rw [zq_up_s, decide_eq_true rfl, hl, Bool.or_true]
    · rw [zq_up_n _ _ e, decide_eq_false e, Bool.or_false]
  · have e : i = j := decide_eq_true_iff.mp h2
    rw [e, zq_up_s] at h1
    exact Bool.false_ne_true h1
theorem zq_up_id {L : Nat → Bool} {j : Nat} {b : Bool} (h : L j = b) : zq_up L j b = L := by
  funext i
  by_cases e : i = j
  · rw [e, zq_up_s, h]
  · rw [zq_up_n _ _ e]
theorem zq_wk_put {a1 : Nat → Int32} {L : Nat → Bool} {P : Nat → Nat} {j m : Nat} (wk : zq_wk a1 L P) (hm : m ≤ 10) : zq_wk (upd a1 j (nI m)) (zq_up L j true) (zq_vs P j m) := by
  intro i hi
  by_cases e : i = j
  · subst e
    rw [pk_us, zq_vs_s, zq_up_s]
    exact ⟨fun _ => ⟨rfl, hm⟩, fun h => absurd h.symm Bool.false_ne_true⟩
  · rw [pk_un e, zq_vs_n _ _ e, zq_up_n _ _ e]
    exact wk i hi
theorem zq_wk_out {a1 : Nat → Int32} {L : Nat → Bool} {P : Nat → Nat} {j : Nat} (wk : zq_wk a1 L P) : zq_wk (upd a1 j (-1)) (zq_up L j false) P := by
  intro i hi
  by_cases e : i = j
  · subst e
    rw [pk_us, zq_up_s]
    exact ⟨fun h => absurd h Bool.false_ne_true, fun _ => rfl⟩
  · rw [pk_un e, zq_up_n _ _ e]
    exact wk i hi
section
variable {F G : Nat → Nat} {A : Nat → Bool} {L : Nat → Bool} {P : Nat → Nat} {u : St1}
theorem zq_w_row {post : Int32 → St1 → Prop} {r a b w : Nat} (hr : r < 4) (ha : a < 3) (hb : b < 3) (hw : w < 16) (hL : zq_hL L) (hI : zq_I L A P F G u) (h0 : post (-1) u)
    (h1 : ∀ u', zq_hL (zq_up L (9 * r + 3 * a + b) true) → zq_I (zq_up L (9 * r + 3 * a + b) true) A (zq_vs P (9 * r + 3 * a + b) w) F G u' → post (nI (zq_c (zq_up L (9 * r + 3 * a + b) true) 36)) u') : wpX_row post u (nI r) (nI a) (nI b) (nI w) := by
  obtain ⟨fr, fa, fd, fs, fe, a1, a2, a3, a4, a5, a6, a7, a8, a9, a10, a11, a12, a13, a14⟩ := u
  obtain ⟨e1, e2, e3, e4⟩ := hI
  subst e1
  have hid : 9 * r + 3 * a + b < 36 := by omega
  unfold wpX_row
  refine zq_w_iR hr ha hb (br_f (by decide) (br_f (nI_pos (by omega)) (pk_le w 10 (fun hw10 => nm_r (zq_gri r a b) ⟨pk_in _ 36 hid, ?_⟩) (fun _ => h0))))
  rw [nI_clamp (show 9 * r + 3 * a + b < 2 ^ 31 by omega)]
  have in36 : ∀ i, zq_up L (9 * r + 3 * a + b) true i = true → i < 36 := by
    intro i hi
    by_cases e : i = 9 * r + 3 * a + b
    · omega
    · rw [zq_up_n _ _ e] at hi
      exact hL.1 i hi
  cases hl : L (9 * r + 3 * a + b)
  · have c := zq_c_put hid hl
    refine br_f (by rw [(e3 _ hid).2 hl]; decide) (pk_lt (zq_c L 36) 10 (fun h10 => nm_r (nI_1 _) ?_) (fun _ => h0) rfl rfl (by have := hL.2; omega) (by omega))
    unfold wX_row_66
    rw [nI_clamp (show 9 * r + 3 * a + b < 2 ^ 31 by omega)]
    have t := h1 (nI (zq_c L 36 + 1), fa, fd, fs, fe, upd a1 (9 * r + 3 * a + b) (nI w), a2, a3, a4, a5, a6, a7, a8, a9, a10, a11, a12, a13, a14) ⟨in36, by omega⟩ ⟨by rw [c], e2, zq_wk_put e3 hw10, e4⟩
    rw [c] at t
    exact ⟨pk_in _ 36 hid, nm_e t⟩
  · have q := (e3 _ hid).1 hl
    have eL := zq_up_id (L := L) hl
    refine br_t (by rw [q.1]; exact nI_pos' (by omega)) ?_
    unfold wX_row_66
    rw [nI_clamp (show 9 * r + 3 * a + b < 2 ^ 31 by omega)]
    have t := h1 (nI (zq_c L 36), fa, fd, fs, fe, upd a1 (9 * r + 3 * a + b) (nI w), a2, a3, a4, a5, a6, a7, a8, a9, a10, a11, a12, a13, a14) ⟨in36, by rw [eL]; exact hL.2⟩ ⟨by rw [eL], e2, zq_wk_put e3 hw10, e4⟩
    rw [eL] at t
    exact ⟨pk_in _ 36 hid, nm_e t⟩
theorem zq_w_drop {post : Int32 → St1 → Prop} {r a b : Nat} (hr : r < 4) (ha : a < 3) (hb : b < 3) (hL : zq_hL L) (hI : zq_I L A P F G u) (h0 : post (-1) u)
    (h1 : ∀ u', zq_hL (zq_up L (9 * r + 3 * a + b) false) → zq_I (zq_up L (9 * r + 3 * a + b) false) A P F G u' → post (nI (zq_c (zq_up L (9 * r + 3 * a + b) false) 36)) u') : wpX_drop post u (nI r) (nI a) (nI b) := by
  obtain ⟨fr, fa, fd, fs, fe, a1, a2, a3, a4, a5, a6, a7, a8, a9, a10, a11, a12, a13, a14⟩ := u
  obtain ⟨e1, e2, e3, e4⟩ := hI
  subst e1
  have hid : 9 * r + 3 * a + b < 36 := by omega
  unfold wpX_drop
  refine zq_w_iL hr ha hb e3 (fun hl => br_f (by decide) ?_) (fun _ => br_t rfl h0)
  rw [zq_gri, nI_clamp (show 9 * r + 3 * a + b < 2 ^ 31 by omega)]
  have c := zq_c_out hid hl
  have in36 : ∀ i, zq_up L (9 * r + 3 * a + b) false i = true → i < 36 := by
    intro i hi
    by_cases e : i = 9 * r + 3 * a + b
    · omega
    · rw [zq_up_n _ _ e] at hi
      exact hL.1 i hi
  have hc := hL.2
  have t := h1 (nI (zq_c (zq_up L (9 * r + 3 * a + b) false) 36), fa, fd, fs, fe, upd a1 (9 * r + 3 * a + b) (-1), a2, a3, a4, a5, a6, a7, a8, a9, a10, a11, a12, a13, a14) ⟨in36, by omega⟩ ⟨rfl, e2, zq_wk_out e3, e4⟩
  refine ⟨pk_in _ 36 hid, nm_e (nm_r (e' := nI (zq_c (zq_up L (9 * r + 3 * a + b) false) 36)) ?_ t)⟩
  rw [← c]
  exact nI_pred _
theorem zq_w_atom {post : Int32 → St1 → Prop} {r a b : Nat} (hr : r < 4) (ha : a < 3) (hb : b < 3) (hI : zq_I L A P F G u) (h0 : post (-1) u)
    (h1 : ∀ u', zq_I L (zq_up A r true) P (zq_vs F r a) (zq_vs G r b) u' → post (nI (zq_c (zq_up A r true) 4)) u') : wpX_atom post u (nI r) (nI a) (nI b) := by
  obtain ⟨fr, fa, fd, fs, fe, a1, a2, a3, a4, a5, a6, a7, a8, a9, a10, a11, a12, a13, a14⟩ := u
  obtain ⟨e1, e2, e3, e4⟩ := hI
  subst e1 e2
  unfold wpX_atom
  refine zq_w_iR hr ha hb (br_f (by decide) ⟨pk_in r 4 hr, ?_⟩)
  rw [nI_clamp (show r < 2 ^ 31 by omega)]
  cases hA : A r
  · have c := zq_c_put hr hA
    have ok : zq_ok (upd a3 r (nI a)) (upd a4 r (nI b)) (zq_vs F r a) (zq_vs G r b) (zq_up A r true) := by
      intro i hi
      by_cases e : i = r
      · subst e
        rw [pk_us, pk_us, zq_vs_s, zq_vs_s, zq_up_s]
        exact ⟨fun _ => ⟨rfl, rfl, ha, hb⟩, fun h => absurd h.symm Bool.false_ne_true⟩
      · rw [pk_un e, pk_un e, zq_vs_n _ _ e, zq_vs_n _ _ e, zq_up_n _ _ e]
        exact e4 i hi
    have t := h1 (nI (zq_c L 36), nI (zq_c A 4 + 1), fd, fs, fe, a1, a2, upd a3 r (nI a), upd a4 r (nI b), a5, a6, a7, a8, a9, a10, a11, a12, a13, a14) ⟨rfl, by rw [c], e3, ok⟩
    rw [c] at t
    exact br_t (by rw [((e4 r hr).2 hA).1]; exact zq_neg0) ⟨pk_in r 4 hr, nm_e ⟨pk_in r 4 hr, nm_e (nm_r (nI_1 _) t)⟩⟩
  · have q := (e4 r hr).1 hA
    exact br_f (by rw [q.1]; exact nI_pos (by omega)) h0
theorem zq_w_clear {post : St1 → Prop} {r : Nat} (hr : r = zq_c L 36) (fr fa fd : Int32) (fs : Int64) (fe : Int32) (a1 a2 a3 a4 a5 a6 a7 a8 a9 a10 a11 a12 : Nat → Int32) (a13 : Nat → Int64) (a14 : Nat → Int32) (e1 : fr = nI (zq_c L 36)) (e3 : zq_wk a1 L P)
    (hp : ∀ u', zq_I L (fun _ => false) P F G u' → post u') : wpX_clearQuery post (fr, fa, fd, fs, fe, a1, a2, a3, a4, a5, a6, a7, a8, a9, a10, a11, a12, a13, a14) := by
  unfold wpX_clearQuery
  refine pk_loop (σ := (Nat → Int32) × (Nat → Int32)) (fun n i t => wX_clearQuery_2 post fr fa fd fs fe n (nI i) a1 a2 t.1 t.2 a5 a6 a7 a8 a9 a10 a11 a12 a13 a14) (fun i t => ∀ j, j < i → t.1 j = -1 ∧ t.2 j = -1) 4 0 (a3, a4) (by omega) lt_0
    (fun n t h => pk_le 4 4 (fun _ => hp _ ⟨e1, rfl, e3, fun i hi => ⟨fun z => absurd z Bool.false_ne_true, fun _ => h i hi⟩⟩) (fun z => absurd z (by omega))) ?_
  intro n i t hi h hw
  refine pk_le 4 i (fun z => absurd z (by omega)) (fun _ => ⟨pk_in i 4 hi, ?_⟩)
  rw [nI_clamp (show i < 2 ^ 31 by omega)]
  refine nm_e ⟨pk_in i 4 hi, nm_e (nm_r (nI_1 i) (hw (upd t.1 i (-1), upd t.2 i (-1)) (fun j hj => ?_)))⟩
  dsimp only
  by_cases e : j = i
  · rw [e, pk_us, pk_us]
    exact ⟨rfl, rfl⟩
  · rw [pk_un e, pk_un e]
    exact h j (by omega)
theorem zq_w_cq {post : St1 → Prop} (hI : zq_I L A P F G u) (hp : ∀ u', zq_I L (fun _ => false) P F G u' → post u') : wpX_clearQuery post u := by
  obtain ⟨fr, fa, fd, fs, fe, a1, a2, a3, a4, a5, a6, a7, a8, a9, a10, a11, a12, a13, a14⟩ := u
  obtain ⟨e1, e2, e3, e4⟩ := hI
  exact zq_w_clear rfl _ _ _ _ _ _ _ _ _ _ _ _ _ _ _ _ _ _ _ e1 e3 hp
end
theorem zq_w_init {post : St1 → Prop} (hp : ∀ u', zq_I (fun _ => false) (fun _ => false) (fun _ => 0) (fun _ => 0) (fun _ => 0) u' → post u') : wpX_init post 14 560 (0, 0, 0, 0, 0) := by
  unfold wpX_init
  dsimp only
  refine ⟨by omega, by omega, by omega, by omega, by omega, by omega, by omega, by omega, by omega, by omega, by omega, by omega, by omega, by omega, by omega, by omega, by omega, by omega, by omega, by omega, by omega, by omega, by omega, by omega, by omega, by omega, by omega, by omega, ?_⟩
  refine pk_loop (σ := Nat → Int32) (fun n i t => wX_init_116 post 14 560 14 560 0 0 0 0 0 n (nI i) t (fun _ => 0) (fun _ => 0) (fun _ => 0) (fun _ => 0) (fun _ => 0) (fun _ => 0) (fun _ => 0) (fun _ => 0) (fun _ => 0) (fun _ => 0) (fun _ => 0) (fun _ => 0) (fun _ => 0)) (fun i t => ∀ j, j < i → t j = -1) 36 0 (fun _ => 0) (by omega) lt_0 ?_ ?_
  · intro n t h
    refine pk_le 36 36 (fun _ => ?_) (fun z => absurd z (by omega))
    exact zq_w_clear (L := fun _ => false) (P := fun _ => 0) (F := fun _ => 0) (G := fun _ => 0) rfl _ _ _ _ _ _ _ _ _ _ _ _ _ _ _ _ _ _ _ rfl (fun i hi => ⟨fun z => absurd z Bool.false_ne_true, fun _ => h i hi⟩) hp
  · intro n i t hi h hw
    refine pk_le 36 i (fun z => absurd z (by omega)) (fun _ => ⟨pk_in i 36 hi, ?_⟩)
    rw [nI_clamp (show i < 2 ^ 31 by omega)]
    exact nm_e (nm_r (nI_1 i) (hw _ (zq_fill (f := fun _ => -1) h rfl)))
/-! the mask of listed rows -/
def zq_b (m : Int64) (j : Nat) : Bool := m.toBitVec.getLsbD j
theorem zq_b1 : ∀ k, k < 36 → ((1 : Int64) <<< ((nI k).toInt64 &&& 63)).toBitVec = BitVec.twoPow 64 k := by decide +kernel
theorem zq_b_or (m : Int64) {k j : Nat} (hk : k < 36) (hj : j < 36) : zq_b (m ||| ((1 : Int64) <<< ((nI k).toInt64 &&& 63))) j = zq_up (zq_b m) k true j := by
  unfold zq_b
  rw [Int64.toBitVec_or, zq_b1 k hk, BitVec.getLsbD_or, BitVec.getLsbD_twoPow]
  by_cases e : j = k
  · subst e
    rw [zq_up_s]
    simp
    omega
  · rw [zq_up_n _ _ e]
    have e' : ¬ k = j := fun h => e h.symm
    simp [e']
theorem zq_b_an (m : Int64) {k j : Nat} (hk : k < 36) (hj : j < 36) : zq_b (m &&& (((1 : Int64) <<< ((nI k).toInt64 &&& 63)) ^^^ (-1))) j = zq_up (zq_b m) k false j := by
  have ha : (-1 : Int64).toBitVec = BitVec.allOnes 64 := by decide
  unfold zq_b
  rw [Int64.toBitVec_and, Int64.toBitVec_xor, zq_b1 k hk, ha, BitVec.getLsbD_and, BitVec.getLsbD_xor, BitVec.getLsbD_twoPow, BitVec.getLsbD_allOnes]
  have j64 : j < 64 := by omega
  by_cases e : j = k
  · subst e
    rw [zq_up_s]
    simp [j64]
  · rw [zq_up_n _ _ e]
    have e' : ¬ k = j := fun h => e h.symm
    simp [e', j64]
theorem zq_b_sm : ∀ k, k < 36 → (((nI k).toInt64 &&& 63).toBitVec.smod 64).toNat = k := by decide +kernel
theorem zq_b_sh (m : Int64) {k : Nat} (hk : k < 36) : ((m >>> ((nI k).toInt64 &&& 63)) &&& 1) = 0 ↔ zq_b m k = false := by
  unfold zq_b
  have e : (m >>> ((nI k).toInt64 &&& 63)).toBitVec = m.toBitVec.sshiftRight k := by
    rw [Int64.toBitVec_shiftRight]
    show m.toBitVec.sshiftRight (((nI k).toInt64 &&& 63).toBitVec.smod 64).toNat = _
    rw [zq_b_sm k hk]
  rw [← Int64.toBitVec_inj, Int64.toBitVec_and, e]
  show m.toBitVec.sshiftRight k &&& 1#64 = 0#64 ↔ _
  have k64 : k < 64 := by omega
  constructor
  · intro h
    have t := congrArg (fun x => x.getLsbD 0) h
    simp only [BitVec.getLsbD_and, BitVec.getLsbD_sshiftRight] at t
    simpa [k64] using t
  · intro h
    apply BitVec.eq_of_getLsbD_eq
    intro i hi
    cases i with
    | zero =>
      rw [BitVec.getLsbD_and, BitVec.getLsbD_sshiftRight, Nat.add_zero, if_pos k64, h]
      simp
    | succ i => simp
end
section
/-! the law's own checks -/
def zq_pa (post : Int32 → St1 → Prop) (x1 x3 : Int64) (n i : Nat) (u : St1) : Prop := match u with
  | (fr, fa, fd, fs, fe, a1, a2, a3, a4, a5, a6, a7, a8, a9, a10, a11, a12, a13, a14) => wL_parted_3 post x1 x3 n (nI i) fr fa fd fs fe a1 a2 a3 a4 a5 a6 a7 a8 a9 a10 a11 a12 a13 a14
theorem zq_lpos {m : Nat} (h : m < 2 ^ 63) : ¬ lN m < 0 := fun z => by
  have := (pk_lLT (a := m) (b := 0) h (by omega)).mp z
  omega
theorem zq_c_zero {R : Nat → Bool} {k : Nat} (h : zq_c R k = 0) : ∀ i, i < k → R i = false := by
  intro i hi
  cases e : R i
  · rfl
  · have := zq_c_lt (R1 := fun _ => false) (R2 := R) (fun _ z => absurd z Bool.false_ne_true) hi e rfl
    omega
section
variable {F G : Nat → Nat} {A : Nat → Bool} {L : Nat → Bool} {P : Nat → Nat} {u : St1}
theorem zq_w_lp {post : Int64 → Prop} {e : Nat} (he : e ≤ 10) (hp : post (lN (10 ^ e))) : wpL_power post () (nI e) := by
  have emin : min 10 e = e := by omega
  refine pk_loop (σ := Unit) (fun n i _ => wL_power_4 post (nI e) n (lN (10 ^ min i e)) (nI i)) (fun _ _ => True) 10 0 () (by omega) trivial
    (fun n _ _ => pk_le 10 10 (fun _ => by rw [emin]; exact hp) (fun z => absurd z (by omega))) ?_ |> fun h => ?_
  · obtain ⟨n, hn⟩ := h
    have hn' : wL_power_4 post (nI e) n (lN (10 ^ min 0 e)) (nI 0) := hn
    rw [Nat.zero_min] at hn'
    exact ⟨n, hn'⟩
  · intro n i _ hi _ hw
    have t : wL_power_4 post (nI e) n (lN (10 ^ min (i + 1) e)) (nI (i + 1)) := hw () trivial
    refine pk_le 10 i (fun z => absurd z (by omega)) (fun _ => pk_le e i (fun z => ?_) (fun z => ?_))
    · rw [show min (i + 1) e = min i e by omega] at t
      exact nm_r (nI_1 i) t
    · rw [show min (i + 1) e = min i e + 1 by omega] at t
      refine nm_r (e' := lN (10 ^ (min i e + 1))) ?_ (nm_r (nI_1 i) t)
      rw [Nat.pow_succ]
      exact lN_mul (10 ^ min i e) 10
theorem zq_w_pt {post : Int32 → St1 → Prop} {x1 : Int64} (hL : zq_hL L) (hI : zq_I L A P F G u) (hb : ∀ i, i < 36 → zq_b x1 i = L i) (hp : ∀ u', zq_I L A P F G u' → post 1 u') : wpL_parted post u x1 (lN (zq_w L P F G A)) := by
  obtain ⟨fr, fa, fd, fs, fe, a1, a2, a3, a4, a5, a6, a7, a8, a9, a10, a11, a12, a13, a14⟩ := u
  have hP : ∀ i, L i = true → P i ≤ 10 := zq_wk_le hI.2.2.1 hL.1
  unfold wpL_parted
  refine pk_loop (σ := St1) (fun n i u => zq_pa post x1 (lN (zq_w L P F G A)) n i u) (fun _ u => zq_I L A P F G u) 36 0 (fr, fa, fd, fs, fe, a1, a2, a3, a4, a5, a6, a7, a8, a9, a10, a11, a12, a13, a14) (by omega) hI ?_ ?_
  · rintro n ⟨fr, fa, fd, fs, fe, a1, a2, a3, a4, a5, a6, a7, a8, a9, a10, a11, a12, a13, a14⟩ h
    exact pk_le 36 36 (fun _ => hp _ h) (fun z => absurd z (by omega))
  · rintro n i ⟨fr, fa, fd, fs, fe, a1, a2, a3, a4, a5, a6, a7, a8, a9, a10, a11, a12, a13, a14⟩ hi h hw
    have lw := zq_w_lt (F := F) (G := G) (A := A) hL hP
    have ei : 9 * (i / 9) + 3 * (i % 9 / 3) + i % 3 = i := by omega
    refine pk_le 36 i (fun z => absurd z (by omega)) (fun _ => ⟨by decide, nm_r (zq_div9 hi) ⟨by decide, by decide, nm_r (e' := nI (i % 9 / 3)) ?_ ⟨by decide, nm_r (zq_rem3 hi) ?_⟩⟩⟩)
    · rw [show nI i - nI i / 9 * 9 = nI (i % 9) from pk_rem (d := 9) (by omega) (by omega) (by omega)]
      exact pk_div (d := 3) (by omega) (by omega) (by omega)
    · refine zq_w_ww (r := i / 9) (a := i % 9 / 3) (b := i % 3) (by omega) (by omega) (by omega) hL h ?_ ?_
      · rintro hl ⟨fr, fa, fd, fs, fe, a1, a2, a3, a4, a5, a6, a7, a8, a9, a10, a11, a12, a13, a14⟩ h1
        rw [ei] at hl
        refine zq_w_wo (r := i / 9) (a := i % 9 / 3) (b := i % 3) (by omega) (by omega) (by omega) hL h1 ?_ (fun hl' => ?_)
        · rintro _ ⟨fr, fa, fd, fs, fe, a1, a2, a3, a4, a5, a6, a7, a8, a9, a10, a11, a12, a13, a14⟩ h2
          refine br_f (by decide) (br_f (zq_lpos (by omega)) (br_t (lN_add 0 _ |>.trans (by rw [Nat.zero_add])) (br_c (fun _ => br_t rfl (nm_r (nI_1 i) (hw _ h2))) (fun _ => nm_r (nI_1 i) (hw _ h2)))))
        · rw [ei, hl] at hl'
          exact absurd hl' Bool.false_ne_true
      · rintro hl ⟨fr, fa, fd, fs, fe, a1, a2, a3, a4, a5, a6, a7, a8, a9, a10, a11, a12, a13, a14⟩ h1
        refine zq_w_wo (r := i / 9) (a := i % 9 / 3) (b := i % 3) (by omega) (by omega) (by omega) hL h1 (fun hl' => ?_) ?_
        · rw [hl] at hl'
          exact absurd hl'.symm Bool.false_ne_true
        · rintro _ ⟨fr, fa, fd, fs, fe, a1, a2, a3, a4, a5, a6, a7, a8, a9, a10, a11, a12, a13, a14⟩ h2
          rw [ei] at *
          have aff : zq_w L P F G A = zq_w L (zq_vs P i 10) F G A / 10 * P i + zq_w L (zq_vs P i 0) F G A / 10 * (10 - P i) := zq_W_aff hi hl (hP i hl)
          refine br_f (zq_lpos (by omega)) (br_f (zq_lpos (by omega)) (br_t (by rw [lN_add, ← aff]) (br_c (fun hz => ?_) (fun _ => nm_r (nI_1 i) (hw _ h2)))))
          have := (zq_b_sh x1 hi).mp hz
          rw [hb i hi, hl] at this
          exact absurd this.symm Bool.false_ne_true
theorem zq_w_ho {post : Int32 → St1 → Prop} {x4 : Int64} (hL : zq_hL L) (hI : zq_I L A P F G u) (hb : ∀ i, i < 36 → zq_b x4 i = L i) (hp : ∀ u', zq_I L A P F G u' → post 1 u') : wpL_holds post u (nI (zq_c L 36)) (nI (zq_c A 4)) x4 := by
  obtain ⟨fr, fa, fd, fs, fe, a1, a2, a3, a4, a5, a6, a7, a8, a9, a10, a11, a12, a13, a14⟩ := u
  have hP : ∀ i, L i = true → P i ≤ 10 := zq_wk_le hI.2.2.1 hL.1
  have le : zq_w L P F G A ≤ 10 ^ zq_c L 36 := zq_W_le hP
  have p10 : 10 ^ zq_c L 36 ≤ 10 ^ 10 := Nat.pow_le_pow_right (by omega) hL.2
  unfold wpL_holds
  refine zq_w_we hL hI ?_
  rintro ⟨fr, fa, fd, fs, fe, a1, a2, a3, a4, a5, a6, a7, a8, a9, a10, a11, a12, a13, a14⟩ h1
  refine zq_w_lp hL.2 (br_f (zq_lpos (by omega)) (br_f (fun z => ?_) ?_))
  · have := (pk_lLT (by omega) (by omega)).mp z
    omega
  have H41 : wL_holds_41 post x4 (lN (zq_w L P F G A)) fr fa fd fs fe a1 a2 a3 a4 a5 a6 a7 a8 a9 a10 a11 a12 a13 a14 := by
    unfold wL_holds_41
    refine zq_w_hv hL h1 ?_
    rintro r ⟨fr, fa, fd, fs, fe, a1, a2, a3, a4, a5, a6, a7, a8, a9, a10, a11, a12, a13, a14⟩ hr h2
    have Hp : ∀ z : Int32, zq_I L A P F G (fr, fa, fd, fs, fe, a1, a2, a3, a4, a5, a6, a7, a8, a9, a10, a11, a12, a13, a14) → wL_holds_66 post x4 (lN (zq_w L P F G A)) z z fr fa fd fs fe a1 a2 a3 a4 a5 a6 a7 a8 a9 a10 a11 a12 a13 a14 := by
      intro z h3
      refine br_t rfl (zq_w_pt hL h3 hb ?_)
      rintro ⟨fr, fa, fd, fs, fe, a1, a2, a3, a4, a5, a6, a7, a8, a9, a10, a11, a12, a13, a14⟩ h4
      exact br_f (by decide) (hp _ h4)
    refine br_c (fun hm => ?_) (fun hm => ?_)
    · unfold wL_holds_54
      refine zq_w_wd hL h2 ?_
      rintro r' ⟨fr, fa, fd, fs, fe, a1, a2, a3, a4, a5, a6, a7, a8, a9, a10, a11, a12, a13, a14⟩ hr' h3
      refine br_t (hr'.mpr (hr.mp hm)) (br_t rfl (zq_w_pt hL h3 hb ?_))
      rintro ⟨fr, fa, fd, fs, fe, a1, a2, a3, a4, a5, a6, a7, a8, a9, a10, a11, a12, a13, a14⟩ h4
      exact br_f (by decide) (hp _ h4)
    · unfold wL_holds_54
      refine zq_w_wd hL h2 ?_
      rintro r' ⟨fr, fa, fd, fs, fe, a1, a2, a3, a4, a5, a6, a7, a8, a9, a10, a11, a12, a13, a14⟩ hr' h3
      refine br_f (fun z => hm (hr.mpr (hr'.mp z))) (br_t rfl (zq_w_pt hL h3 hb ?_))
      rintro ⟨fr, fa, fd, fs, fe, a1, a2, a3, a4, a5, a6, a7, a8, a9, a10, a11, a12, a13, a14⟩ h4
      exact br_f (by decide) (hp _ h4)
  refine br_c (fun hz => br_t ?_ H41) (fun _ => H41)
  have c0 : zq_c A 4 = 0 := by
    have l4 : zq_c A 4 ≤ 4 := by
      have : ∀ k, zq_c A k ≤ k := by
        intro k
        induction k with
        | zero => exact Nat.le_refl _
        | succ k ih =>
          cases e : A k
          · rw [zq_c_f e]
            omega
          · rw [zq_c_t e]
            omega
      exact this 4
    exact (nI_eq (b := 0) (by omega) (by omega)).mp hz
  have e : zq_w L P F G A = 10 ^ zq_c L 36 := zq_W_nil (zq_va_le 63) hP (fun r => by
    unfold zq_all
    by_cases h4 : r < 4
    · rw [zq_c_zero c0 r h4, Bool.and_false]
    · rw [decide_eq_false h4, Bool.false_and])
  rw [e]
end
end
section
/-! the law's loop -/
section
variable {F G : Nat → Nat} {A : Nat → Bool} {L : Nat → Bool} {P : Nat → Nat} {post : Int32 → Prop} {N : Nat} {xs : Nat → Int32} {kc ks : Nat}
def zq_lw (post : Int32 → Prop) (N : Nat) (xs : Nat → Int32) (kc ks n : Nat) (x2 x3 : Int32) (x4 : Int64) (x6 : Int32) (u : St1) : Prop := match u with
  | (fr, fa, fd, fs, fe, a1, a2, a3, a4, a5, a6, a7, a8, a9, a10, a11, a12, a13, a14) => wL_law_18 post N xs kc ks n x2 x3 x4 x6 fr fa fd fs fe a1 a2 a3 a4 a5 a6 a7 a8 a9 a10 a11 a12 a13 a14
theorem zq_w_214 {n i : Nat} {x4 : Int64} (hN : N ≤ 260) (hi : i ≤ 300) (hL : zq_hL L) {fr fa fd : Int32} {fs : Int64} {fe : Int32} {a1 a2 a3 a4 a5 a6 a7 a8 a9 a10 a11 a12 : Nat → Int32} {a13 : Nat → Int64} {a14 : Nat → Int32} (hI : zq_I L A P F G (fr, fa, fd, fs, fe, a1, a2, a3, a4, a5, a6, a7, a8, a9, a10, a11, a12, a13, a14)) (hb : ∀ i, i < 36 → zq_b x4 i = L i)
    (hJ : ∀ u', zq_I L A P F G u' → zq_lw post N xs kc ks n (nI (zq_c L 36)) (nI (zq_c A 4)) x4 (nI (i + 5)) u') :
    wL_law_214 post N xs (wL_law_18 post N xs kc ks n) (nI (zq_c L 36)) (nI (zq_c A 4)) x4 (nI i) kc ks fr fa fd fs fe a1 a2 a3 a4 a5 a6 a7 a8 a9 a10 a11 a12 a13 a14 := by
  have H231 : wL_law_231 post N xs (wL_law_18 post N xs kc ks n) (nI (zq_c L 36)) (nI (zq_c A 4)) x4 (nI i) kc ks fr fa fd fs fe a1 a2 a3 a4 a5 a6 a7 a8 a9 a10 a11 a12 a13 a14 := by
    unfold wL_law_231
    refine zq_w_ho hL hI hb ?_
    rintro ⟨fr, fa, fd, fs, fe, a1, a2, a3, a4, a5, a6, a7, a8, a9, a10, a11, a12, a13, a14⟩ h
    exact br_f (by decide) (nm_r (nI_add i 5) (hJ _ h))
  exact ⟨by decide, br_c (fun _ => H231) (fun _ => br_c (fun _ => nm_r (nI_add i 5) (hJ _ hI)) (fun _ => H231))⟩
theorem zq_up_c {L : Nat → Bool} {m : Int64} {k j : Nat} {b : Bool} (h : ∀ i, i < 36 → zq_b m i = L i) (hj : j < 36) : zq_up (zq_b m) k b j = zq_up L k b j := by
  by_cases e : j = k
  · rw [e, zq_up_s, zq_up_s]
  · rw [zq_up_n _ _ e, zq_up_n _ _ e, h j hj]
theorem zq_law (hN : N ≤ 260) (hp : post 1) (n : Nat) : ∀ (i : Nat) (L A : Nat → Bool) (P F G : Nat → Nat) (x4 : Int64) (u : St1), i ≤ N → N + 5 - i < n → zq_hL L → zq_I L A P F G u → (∀ j, j < 36 → zq_b x4 j = L j) →
    zq_lw post N xs kc ks n (nI (zq_c L 36)) (nI (zq_c A 4)) x4 (nI i) u := by
  induction n with
  | zero =>
    intro i L A P F G x4 u _ h
    omega
  | succ n ih =>
    rintro i L A P F G x4 ⟨fr, fa, fd, fs, fe, a1, a2, a3, a4, a5, a6, a7, a8, a9, a10, a11, a12, a13, a14⟩ hi hn hL hI hb
    obtain ⟨k, hk, ek⟩ := pk_andE (xs i) (m := 15) 4 (by decide)
    obtain ⟨r, hr, er⟩ := pk_andE (xs (i + 1)) (m := 3) 2 (by decide)
    obtain ⟨a, ha, ea⟩ := pk_andE (xs (i + 2)) (m := 255) 8 (by decide)
    obtain ⟨b, hb', eb⟩ := pk_andE (xs (i + 3)) (m := 255) 8 (by decide)
    obtain ⟨w, hw, ew⟩ := pk_andE (xs (i + 4)) (m := 15) 4 (by decide)
    have i1 : nI i + 1 = nI (i + 1) := nI_add i 1
    have i2 : nI i + 2 = nI (i + 2) := nI_add i 2
    have i3 : nI i + 3 = nI (i + 3) := nI_add i 3
    have i4 : nI i + 4 = nI (i + 4) := nI_add i 4
    have i5 : nI i + 5 = nI (i + 5) := nI_add i 5
    have ra : nI a - nI a / 3 * 3 = nI (a % 3) := pk_rem (d := 3) (by omega) (by omega) (by omega)
    have rb : nI b - nI b / 3 * 3 = nI (b % 3) := pk_rem (d := 3) (by omega) (by omega) (by omega)
    show wL_law_18 post N xs kc ks (n + 1) (nI (zq_c L 36)) (nI (zq_c A 4)) x4 (nI i) fr fa fd fs fe a1 a2 a3 a4 a5 a6 a7 a8 a9 a10 a11 a12 a13 a14
    refine pk_lt N (i + 5) (fun _ => hp) (fun hiN => ?_) rfl i5
    have next : ∀ (L' A' : Nat → Bool) (P' F' G' : Nat → Nat) (y4 : Int64), zq_hL L' → (∀ j, j < 36 → zq_b y4 j = L' j) → ∀ u', zq_I L' A' P' F' G' u' → zq_lw post N xs kc ks n (nI (zq_c L' 36)) (nI (zq_c A' 4)) y4 (nI (i + 5)) u' :=
      fun L' A' P' F' G' y4 hL' hb4 u' hu' => ih (i + 5) L' A' P' F' G' y4 u' (by omega) (by omega) hL' hu' hb4
    rw [i1, i2, i3, i4, nI_clamp (show i < 2 ^ 31 by omega), nI_clamp (show i + 1 < 2 ^ 31 by omega), nI_clamp (show i + 2 < 2 ^ 31 by omega), nI_clamp (show i + 3 < 2 ^ 31 by omega), nI_clamp (show i + 4 < 2 ^ 31 by omega), ek, er, ea, eb, ew, ra, rb]
    refine ⟨pk_in i N (by omega), nm_e ⟨pk_in (i + 1) N (by omega), nm_e ⟨pk_in (i + 2) N (by omega), by decide, nm_e ⟨pk_in (i + 3) N (by omega), by decide, nm_e ?_⟩⟩⟩⟩
    rw [zq_gri]
    refine nm_e ?_
    have h3a : a % 3 < 3 := by omega
    have h3b : b % 3 < 3 := by omega
    have hr4 : r < 4 := hr
    have hid : 9 * r + 3 * (a % 3) + b % 3 < 36 := by omega
    refine pk_lt 8 k (fun _ => pk_lt 12 k (fun _ => pk_lt 14 k (fun _ => ?_) (fun _ => ?_)) (fun _ => ?_)) (fun _ => ⟨pk_in (i + 4) N (by omega), ?_⟩)
    · refine zq_w_cq hI ?_
      rintro ⟨fr, fa, fd, fs, fe, a1, a2, a3, a4, a5, a6, a7, a8, a9, a10, a11, a12, a13, a14⟩ h
      exact zq_w_214 hN (by omega) hL h hb (next _ _ _ _ _ _ hL hb)
    · refine zq_w_drop hr4 h3a h3b hL hI ?_ ?_
      · exact br_t zq_neg0 (zq_w_214 hN (by omega) hL hI hb (next _ _ _ _ _ _ hL hb))
      · rintro ⟨fr, fa, fd, fs, fe, a1, a2, a3, a4, a5, a6, a7, a8, a9, a10, a11, a12, a13, a14⟩ hL' h
        have hb4 : ∀ j, j < 36 → zq_b (x4 &&& (((1 : Int64) <<< ((nI (9 * r + 3 * (a % 3) + b % 3)).toInt64 &&& 63)) ^^^ (-1))) j = zq_up L (9 * r + 3 * (a % 3) + b % 3) false j := fun j hj => (zq_b_an x4 hid hj).trans (zq_up_c hb hj)
        exact br_f (nI_pos (by have := hL'.2; omega)) (nm_e (zq_w_214 hN (by omega) hL' h hb4 (next _ _ _ _ _ _ hL' hb4)))
    · refine zq_w_atom hr4 h3a h3b hI ?_ ?_
      · exact br_t zq_neg0 (zq_w_214 hN (by omega) hL hI hb (next _ _ _ _ _ _ hL hb))
      · rintro ⟨fr, fa, fd, fs, fe, a1, a2, a3, a4, a5, a6, a7, a8, a9, a10, a11, a12, a13, a14⟩ h
        refine br_f (nI_pos ?_) (zq_w_214 hN (by omega) hL h hb (next _ _ _ _ _ _ hL hb))
        have : ∀ (R : Nat → Bool) k, zq_c R k ≤ k := by
          intro R k
          induction k with
          | zero => exact Nat.le_refl _
          | succ k ih =>
            cases e : R k
            · rw [zq_c_f e]
              omega
            · rw [zq_c_t e]
              omega
        have := this (zq_up A r true) 4
        omega
    · refine zq_w_row hr4 h3a h3b hw hL hI ?_ ?_
      · exact br_t zq_neg0 (zq_w_214 hN (by omega) hL hI hb (next _ _ _ _ _ _ hL hb))
      · rintro ⟨fr, fa, fd, fs, fe, a1, a2, a3, a4, a5, a6, a7, a8, a9, a10, a11, a12, a13, a14⟩ hL' h
        have hb4 : ∀ j, j < 36 → zq_b (x4 ||| ((1 : Int64) <<< ((nI (9 * r + 3 * (a % 3) + b % 3)).toInt64 &&& 63))) j = zq_up L (9 * r + 3 * (a % 3) + b % 3) true j := fun j hj => (zq_b_or x4 hid hj).trans (zq_up_c hb hj)
        exact br_f (nI_pos (by have := hL'.2; omega)) (nm_e (zq_w_214 hN (by omega) hL' h hb4 (next _ _ _ _ _ _ hL' hb4)))
end
theorem i_vc (xs : Nat → Int32) (L : Nat) (hL : L ≤ 260) : wpL_law (fun r => r = 1) L xs := by
  unfold wpL_law
  refine ⟨14, 560, by omega, by omega, zq_w_init ?_⟩
  rintro ⟨fr, fa, fd, fs, fe, a1, a2, a3, a4, a5, a6, a7, a8, a9, a10, a11, a12, a13, a14⟩ h
  exact ⟨L + 6, zq_law (post := fun r => r = 1) hL rfl (L + 6) 0 (fun _ => false) (fun _ => false) (fun _ => 0) (fun _ => 0) (fun _ => 0) 0 (fr, fa, fd, fs, fe, a1, a2, a3, a4, a5, a6, a7, a8, a9, a10, a11, a12, a13, a14) (by omega) (by omega) ⟨fun i hi => absurd hi Bool.false_ne_true, by decide⟩ h (fun j _ => by unfold zq_b; simp)⟩
end
