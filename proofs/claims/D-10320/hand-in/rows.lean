section
/-! counting -/
noncomputable def ej_ct (P : Nat → Prop) : Nat → Nat
  | 0 => 0
  | n + 1 => ej_ct P n + @ite Nat (P n) (Classical.propDecidable (P n)) 1 0
theorem ej_ct_t {P : Nat → Prop} {n : Nat} (h : P n) : ej_ct P (n + 1) = ej_ct P n + 1 := by
  show ej_ct P n + @ite Nat (P n) (Classical.propDecidable (P n)) 1 0 = _
  rw [if_pos h]
theorem ej_ct_f {P : Nat → Prop} {n : Nat} (h : ¬ P n) : ej_ct P (n + 1) = ej_ct P n := by
  show ej_ct P n + @ite Nat (P n) (Classical.propDecidable (P n)) 1 0 = _
  rw [if_neg h, Nat.add_zero]
theorem ej_ct_mono {P Q : Nat → Prop} : ∀ n : Nat, (∀ i, i < n → P i → Q i) → ej_ct P n ≤ ej_ct Q n := by
  intro n
  induction n with
  | zero => intro _; exact Nat.le_refl 0
  | succ n ih =>
    intro h
    have h1 := ih (fun i hi => h i (by omega))
    by_cases hp : P n
    · rw [ej_ct_t hp, ej_ct_t (h n (by omega) hp)]
      omega
    · rw [ej_ct_f hp]
      by_cases hq : Q n
      · rw [ej_ct_t hq]; omega
      · rw [ej_ct_f hq]; exact h1
theorem ej_ct_congr {P Q : Nat → Prop} {n : Nat} (h : ∀ i, i < n → (P i ↔ Q i)) : ej_ct P n = ej_ct Q n :=
  Nat.le_antisymm (ej_ct_mono n (fun i hi => (h i hi).mp)) (ej_ct_mono n (fun i hi => (h i hi).mpr))
theorem ej_ct_le (P : Nat → Prop) : ∀ n : Nat, ej_ct P n ≤ n := by
  intro n
  induction n with
  | zero => exact Nat.le_refl 0
  | succ n ih =>
    by_cases hp : P n
    · rw [ej_ct_t hp]; omega
    · rw [ej_ct_f hp]; omega
theorem ej_ct_all {P : Nat → Prop} : ∀ n : Nat, (∀ i, i < n → P i) → ej_ct P n = n := by
  intro n
  induction n with
  | zero => intro _; rfl
  | succ n ih =>
    intro h
    rw [ej_ct_t (h n (by omega)), ih (fun i hi => h i (by omega))]
theorem ej_ct_0 {P : Nat → Prop} : ∀ n : Nat, (∀ i, i < n → ¬ P i) → ej_ct P n = 0 := by
  intro n
  induction n with
  | zero => intro _; rfl
  | succ n ih =>
    intro h
    rw [ej_ct_f (h n (by omega)), ih (fun i hi => h i (by omega))]
theorem ej_ct_ex {P : Nat → Prop} {n : Nat} (h : 1 ≤ ej_ct P n) : ∃ i, i < n ∧ P i := by
  apply Classical.byContradiction
  intro hn
  have := ej_ct_0 (P := P) n (fun i hi hp => hn ⟨i, hi, hp⟩)
  omega
theorem ej_ct_full {P : Nat → Prop} : ∀ n : Nat, n ≤ ej_ct P n → ∀ i, i < n → P i := by
  intro n
  induction n with
  | zero => intro _ i hi; omega
  | succ n ih =>
    intro h i hi
    have hl := ej_ct_le P n
    by_cases hp : P n
    · rw [ej_ct_t hp] at h
      by_cases e : i = n
      · rw [e]; exact hp
      · exact ih (by omega) i (by omega)
    · rw [ej_ct_f hp] at h
      omega
theorem ej_ct_add {P Q : Nat → Prop} {j : Nat} (hj : ¬ P j) : ∀ n : Nat, j < n → (∀ i, i < n → (Q i ↔ (P i ∨ i = j))) → ej_ct Q n = ej_ct P n + 1 := by
  intro n
  induction n with
  | zero => intro h; omega
  | succ n ih =>
    intro hn h
    by_cases e : j = n
    · have hq : Q n := (h n (by omega)).mpr (Or.inr e.symm)
      have hp : ¬ P n := by rw [← e]; exact hj
      rw [ej_ct_t hq, ej_ct_f hp]
      have : ej_ct Q n = ej_ct P n := ej_ct_congr (fun i hi => by
        rw [h i (by omega)]
        exact ⟨fun z => z.elim id (fun z => by omega), Or.inl⟩)
      omega
    · have h1 := ih (by omega) (fun i hi => h i (by omega))
      by_cases hp : P n
      · rw [ej_ct_t hp, ej_ct_t ((h n (by omega)).mpr (Or.inl hp))]
        omega
      · have hq : ¬ Q n := fun z => ((h n (by omega)).mp z).elim hp (fun z => e z.symm)
        rw [ej_ct_f hp, ej_ct_f hq]
        exact h1
theorem ej_ct_pos {P : Nat → Prop} {n i : Nat} (hi : i < n) (h : P i) : 1 ≤ ej_ct P n := by
  have h1 : ej_ct (fun k => k = i) n = ej_ct (fun _ => False) n + 1 := ej_ct_add (j := i) (fun z => z) n hi (fun k _ => ⟨Or.inr, fun z => z.elim False.elim id⟩)
  have h2 : ej_ct (fun k => k = i) n ≤ ej_ct P n := ej_ct_mono n (fun k _ hk => by rw [hk]; exact h)
  omega
/-- one more in Q than in P -/
theorem ej_ct_lt {P Q : Nat → Prop} {n j : Nat} (hj : j < n) (hq : Q j) (h : ∀ i, i < n → P i → Q i ∧ i ≠ j) : ej_ct P n + 1 ≤ ej_ct Q n := by
  have h1 : ej_ct (fun i => (Q i ∧ i ≠ j) ∨ i = j) n = ej_ct (fun i => Q i ∧ i ≠ j) n + 1 := ej_ct_add (j := j) (fun z => z.2 rfl) n hj (fun i _ => Iff.rfl)
  have h2 : ej_ct (fun i => (Q i ∧ i ≠ j) ∨ i = j) n ≤ ej_ct Q n := ej_ct_mono n (fun i _ z => z.elim (fun z => z.1) (fun z => by rw [z]; exact hq))
  have h3 : ej_ct P n ≤ ej_ct (fun i => Q i ∧ i ≠ j) n := ej_ct_mono n h
  omega
theorem ej_ct_rm {P : Nat → Prop} {n j : Nat} (hj : j < n) (hp : P j) : ej_ct P n = ej_ct (fun i => P i ∧ i ≠ j) n + 1 :=
  ej_ct_add (j := j) (fun z => z.2 rfl) n hj (fun i _ => ⟨fun z => by
    by_cases e : i = j
    · exact Or.inr e
    · exact Or.inl ⟨z, e⟩, fun z => z.elim (fun z => z.1) (fun z => by rw [z]; exact hp)⟩)
theorem ej_min {P : Nat → Prop} {n : Nat} (f : Nat → Nat) (h : ∃ i, i < n ∧ P i) : ∃ l, l < n ∧ P l ∧ ∀ i, i < n → P i → f l ≤ f i := by
  obtain ⟨i, hi, hp⟩ := h
  obtain ⟨v, ⟨l, hl, pl, e⟩, hv⟩ := pk_least (fun v => ∃ i, i < n ∧ P i ∧ f i = v) ⟨f i, i, hi, hp, rfl⟩
  refine ⟨l, hl, pl, fun k hk pk => ?_⟩
  rw [e]
  rcases Nat.lt_or_ge (f k) v with z | z
  · exact absurd ⟨k, hk, pk, rfl⟩ (hv (f k) z)
  · exact z
theorem ej_max {P : Nat → Prop} (f : Nat → Nat) : ∀ n : Nat, (∃ i, i < n ∧ P i) → ∃ l, l < n ∧ P l ∧ ∀ i, i < n → P i → f i ≤ f l := by
  intro n
  induction n with
  | zero => intro h; obtain ⟨i, hi, _⟩ := h; omega
  | succ n ih =>
    intro h
    by_cases hn : P n
    · by_cases hx : ∃ i, i < n ∧ P i
      · obtain ⟨l, hl, pl, hm⟩ := ih hx
        by_cases hf : f l ≤ f n
        · refine ⟨n, by omega, hn, fun i hi pi => ?_⟩
          by_cases e : i = n
          · rw [e]; exact Nat.le_refl _
          · exact Nat.le_trans (hm i (by omega) pi) hf
        · refine ⟨l, by omega, pl, fun i hi pi => ?_⟩
          by_cases e : i = n
          · rw [e]; omega
          · exact hm i (by omega) pi
      · refine ⟨n, by omega, hn, fun i hi pi => ?_⟩
        by_cases e : i = n
        · rw [e]; exact Nat.le_refl _
        · exact absurd ⟨i, by omega, pi⟩ hx
    · obtain ⟨i, hi, pi⟩ := h
      have hi' : i ≠ n := fun e => hn (by rw [← e]; exact pi)
      obtain ⟨l, hl, pl, hm⟩ := ih ⟨i, by omega, pi⟩
      refine ⟨l, by omega, pl, fun k hk pk => ?_⟩
      have : k ≠ n := fun e => hn (by rw [← e]; exact pk)
      exact hm k (by omega) pk
/-! m free starts, p apart, from x on, done by d -/
def ej_Fit (op : Nat → Prop) (p d : Nat) : Nat → Nat → Prop
  | 0 => fun x => x ≤ d
  | m + 1 => fun x => ∃ s, x ≤ s ∧ op s ∧ ej_Fit op p d m (s + p)
theorem ej_fit_le {op : Nat → Prop} {p d : Nat} : ∀ m x : Nat, ej_Fit op p d m x → x ≤ d := by
  intro m
  induction m with
  | zero => intro x h; exact h
  | succ m ih =>
    intro x h
    obtain ⟨s, hs, _, hf⟩ := h
    have := ih _ hf
    omega
theorem ej_fit_mono {op : Nat → Prop} {p d : Nat} : ∀ (m : Nat) {x y : Nat}, x ≤ y → ej_Fit op p d m y → ej_Fit op p d m x := by
  intro m x y hxy h
  cases m with
  | zero => exact Nat.le_trans hxy h
  | succ m =>
    obtain ⟨s, hs, ho, hf⟩ := h
    exact ⟨s, by omega, ho, hf⟩
theorem ej_fit_dec {op : Nat → Prop} {p d x m : Nat} : ∀ k : Nat, ej_Fit op p d (m + k) x → ej_Fit op p d m x := by
  intro k
  induction k with
  | zero => intro h; exact h
  | succ k ih =>
    intro h
    obtain ⟨s, hs, ho, hf⟩ := h
    exact ih (ej_fit_mono _ (by omega) hf)
theorem ej_fit_dec' {op : Nat → Prop} {p d x m M : Nat} (hm : m ≤ M) (h : ej_Fit op p d M x) : ej_Fit op p d m x := by
  obtain ⟨k, rfl⟩ : ∃ k, M = m + k := ⟨M - m, by omega⟩
  exact ej_fit_dec k h
theorem ej_fit_greedy {op : Nat → Prop} {p d x t m : Nat} (h : ej_Fit op p d (m + 1) x) (hn : ∀ s, x ≤ s → s < t → ¬ op s) : ej_Fit op p d m (t + p) := by
  obtain ⟨s, hs, ho, hf⟩ := h
  have : t ≤ s := by
    rcases Nat.lt_or_ge s t with z | z
    · exact absurd ho (hn s hs z)
    · exact z
  exact ej_fit_mono m (by omega) hf
theorem ej_fit_congr {op op' : Nat → Prop} {p d : Nat} : ∀ m x : Nat, (∀ s, x ≤ s → op s → op' s) → ej_Fit op p d m x → ej_Fit op' p d m x := by
  intro m
  induction m with
  | zero => intro x _ h; exact h
  | succ m ih =>
    intro x hc h
    obtain ⟨s, hs, ho, hf⟩ := h
    exact ⟨s, hs, hc s hs ho, ih _ (fun s' hs' => hc s' (by omega)) hf⟩
/-- jobs of a plan, all of them from x on and done by d, at free starts: they fit -/
theorem ej_fitq {op : Nat → Prop} {p d n : Nat} {q : Nat → Nat} (hp : 1 ≤ p) : ∀ (m : Nat) (P : Nat → Prop) (x : Nat), ej_ct P n = m → (∀ i, i < n → P i → x ≤ q i ∧ op (q i) ∧ q i + p ≤ d) → (∀ i j, i < n → j < n → i ≠ j → q i + p ≤ q j ∨ q j + p ≤ q i) → x ≤ d → ej_Fit op p d m x := by
  intro m
  induction m with
  | zero => intro P x _ _ _ h; exact h
  | succ m ih =>
    intro P x hm h hd _
    obtain ⟨l, hl, pl, hmin⟩ := ej_min q (ej_ct_ex (P := P) (n := n) (by omega))
    have hr := ej_ct_rm hl pl
    obtain ⟨h1, h2, h3⟩ := h l hl pl
    refine ⟨q l, h1, h2, ih (fun i => P i ∧ i ≠ l) (q l + p) (by omega) (fun i hi pi => ?_) hd h3⟩
    obtain ⟨g1, g2, g3⟩ := h i hi pi.1
    have g4 := hmin i hi pi.1
    have g5 := hd i l hi hl pi.2
    exact ⟨by omega, g2, g3⟩
end
section
/-- q is a good plan of the jobs J: windows r, d, length p, no start in B, no two that run into each other -/
def ej_G (J : Nat → Prop) (r d : Nat → Nat) (p : Nat) (B : Nat → Prop) (q : Nat → Nat) : Prop :=
  (∀ i, J i → r i ≤ q i ∧ q i + p ≤ d i ∧ ¬ B (q i)) ∧ ∀ i j, J i → J j → i ≠ j → q i + p ≤ q j ∨ q j + p ≤ q i
/-- how many of the n asked lie within r, d -/
noncomputable def ej_cw (n : Nat) (R D : Nat → Nat) (r d : Nat) : Nat := ej_ct (fun i => r ≤ R i ∧ D i ≤ d) n
/-- the regions are done for all releases from a on -/
def ej_Reg (n : Nat) (R D : Nat → Nat) (p : Nat) (op : Nat → Prop) (a : Nat) : Prop :=
  ∀ j, j < n → a ≤ R j → ∀ i, i < n → 1 ≤ ej_cw n R D (R j) (D i) → ej_Fit op p (D i) (ej_cw n R D (R j) (D i)) (R j) ∧ ∀ t, t < R j → op t → ej_Fit op p (D i) (ej_cw n R D (R j) (D i)) (t + p)
/-- good plans start at free times alone -/
def ej_Av (n : Nat) (R D : Nat → Nat) (p : Nat) (B op : Nat → Prop) : Prop := ∀ q, ej_G (fun i => i < n) R D p B q → ∀ i, i < n → op (q i)
theorem ej_plan_fit {n p r x : Nat} {R D q : Nat → Nat} {B op : Nat → Prop} (hp : 1 ≤ p) (hav : ej_Av n R D p B op) (hq : ej_G (fun i => i < n) R D p B q) {d : Nat} (hc : 1 ≤ ej_cw n R D r d) (hx : ∀ i, i < n → r ≤ R i → x ≤ q i) : ej_Fit op p d (ej_cw n R D r d) x := by
  obtain ⟨l, hl, h1, h2⟩ := ej_ct_ex hc
  have hl2 := hq.1 l hl
  have hl3 := hx l hl h1
  refine ej_fitq hp _ (fun i => r ≤ R i ∧ D i ≤ d) x rfl (fun i hi pi => ?_) (fun i j hi hj e => hq.2 i j hi hj e) (by omega)
  have := hq.1 i hi
  exact ⟨hx i hi pi.1, hav q hq i hi, by omega⟩
theorem ej_reg_fail {n p r i : Nat} {R D q : Nat → Nat} {B op : Nat → Prop} (hp : 1 ≤ p) (hav : ej_Av n R D p B op) (hc : 1 ≤ ej_cw n R D r (D i)) (hf : ¬ ej_Fit op p (D i) (ej_cw n R D r (D i)) r) (hq : ej_G (fun i => i < n) R D p B q) : False :=
  hf (ej_plan_fit hp hav hq hc (fun l hl h => Nat.le_trans h (hq.1 l hl).1))
theorem ej_reg_step {n p r a : Nat} {R D : Nat → Nat} {B op op' : Nat → Prop} (hp : 1 ≤ p)
    (hav : ej_Av n R D p B op) (hreg : ej_Reg n R D p op a) (hra : ∀ j, j < n → R j < a → R j ≤ r) (hlt : r < a)
    (hf : ∀ i, i < n → 1 ≤ ej_cw n R D r (D i) → ej_Fit op p (D i) (ej_cw n R D r (D i)) r)
    (hop : ∀ t, op' t ↔ op t ∧ ¬ (t < r ∧ ∃ i, i < n ∧ 1 ≤ ej_cw n R D r (D i) ∧ ¬ ej_Fit op p (D i) (ej_cw n R D r (D i)) (t + p))) :
    ej_Av n R D p B op' ∧ ej_Reg n R D p op' r := by
  have up : ∀ s, r ≤ s → op s → op' s := fun s hs ho => (hop s).mpr ⟨ho, fun z => absurd z.1 (by omega)⟩
  constructor
  · intro q hq i hi
    refine (hop _).mpr ⟨hav q hq i hi, fun z => ?_⟩
    obtain ⟨hlt', k, hk, hc, hn⟩ := z
    refine hn (ej_plan_fit hp hav hq hc (fun l hl h => ?_))
    have h1 := hq.1 l hl
    have h2 : l ≠ i := fun e => by rw [e] at h h1; omega
    have h3 := hq.2 l i hl hi h2
    omega
  · intro j hj hrj i hi hc
    by_cases ha : a ≤ R j
    · obtain ⟨h1, h2⟩ := hreg j hj ha i hi hc
      have h1' : ej_Fit op' p (D i) (ej_cw n R D (R j) (D i)) (R j) := ej_fit_congr _ _ (fun s hs => up s (by omega)) h1
      refine ⟨h1', fun t ht ho => ?_⟩
      by_cases hx : r ≤ t + p
      · exact ej_fit_congr _ _ (fun s hs => up s (by omega)) (h2 t ht ((hop t).mp ho).1)
      · exact ej_fit_mono _ (by omega) h1'
    · have e : R j = r := by have := hra j hj (by omega); omega
      rw [e] at hc ⊢
      have h1 := hf i hi hc
      have h1' : ej_Fit op' p (D i) (ej_cw n R D r (D i)) r := ej_fit_congr _ _ (fun s hs => up s (by omega)) h1
      refine ⟨h1', fun t ht ho => ?_⟩
      by_cases hx : r ≤ t + p
      · refine ej_fit_congr _ _ (fun s hs => up s (by omega)) ?_
        apply Classical.byContradiction
        intro hn
        exact ((hop t).mp ho).2 ⟨ht, i, hi, hc, hn⟩
      · exact ej_fit_mono _ (by omega) h1'
/-! working forwards -/
/-- the waiting jobs U fit from t on -/
def ej_Dp (n : Nat) (R D : Nat → Nat) (p : Nat) (op U : Nat → Prop) (t : Nat) : Prop :=
  ∀ j, j < n → U j → ∀ i, i < n → 1 ≤ ej_ct (fun l => U l ∧ R j ≤ R l ∧ D l ≤ D i) n → ej_Fit op p (D i) (ej_ct (fun l => U l ∧ R j ≤ R l ∧ D l ≤ D i) n) (max t (R j))
/-- the placed ones have a plan that ends by t -/
def ej_Sd (n : Nat) (R D : Nat → Nat) (p : Nat) (op U : Nat → Prop) (t : Nat) : Prop :=
  ∃ q : Nat → Nat, (∀ i, i < n → ¬ U i → R i ≤ q i ∧ q i + p ≤ D i ∧ op (q i) ∧ q i + p ≤ t) ∧ ∀ i j, i < n → j < n → ¬ U i → ¬ U j → i ≠ j → q i + p ≤ q j ∨ q j + p ≤ q i
/-- no good plan has k jobs done before t -/
def ej_Mn (n : Nat) (R D : Nat → Nat) (p : Nat) (B : Nat → Prop) (k t : Nat) : Prop :=
  ∀ q, ej_G (fun i => i < n) R D p B q → ∀ y, k ≤ ej_ct (fun i => q i + p ≤ y) n → t ≤ y
theorem ej_dp_0 {n p : Nat} {R D : Nat → Nat} {op U : Nat → Prop} (hreg : ej_Reg n R D p op 0) (hU : ∀ i, i < n → U i) : ej_Dp n R D p op U 0 := by
  intro j hj _ i hi hc
  have e : ej_ct (fun l => U l ∧ R j ≤ R l ∧ D l ≤ D i) n = ej_cw n R D (R j) (D i) := ej_ct_congr (fun l hl => ⟨fun z => z.2, fun z => ⟨hU l hl, z⟩⟩)
  rw [e] at hc ⊢
  rw [Nat.zero_max]
  exact (hreg j hj (by omega) i hi hc).1
theorem ej_dp_step {n p t t' rd x : Nat} {R D : Nat → Nat} {op U U' : Nat → Prop} (hp : 1 ≤ p) (hD : ∀ i, i < n → D i ≤ 40)
    (hreg : ej_Reg n R D p op 0) (hdp : ej_Dp n R D p op U t)
    (hrd : ∃ j, j < n ∧ U j ∧ R j = rd) (hrl : ∀ l, l < n → U l → rd ≤ R l)
    (ht : max t rd ≤ t') (hno : ∀ s, max t rd ≤ s → s < t' → ¬ op s) (hend : op t' ∨ 47 ≤ t')
    (hx : x < n) (hUx : U x) (hRx : R x ≤ t') (hmu : ∀ l, l < n → U l → R l ≤ t' → D x ≤ D l) (hU' : ∀ l, U' l ↔ U l ∧ l ≠ x) :
    op t' ∧ t' + p ≤ D x ∧ ej_Dp n R D p op U' (t' + p) := by
  obtain ⟨j0, hj0, hUj0, rfl⟩ := hrd
  have h0 : ∀ i, i < n → ∀ m, m + 1 ≤ ej_ct (fun l => U l ∧ R j0 ≤ R l ∧ D l ≤ D i) n → ej_Fit op p (D i) m (t' + p) := by
    intro i hi m hm
    exact ej_fit_greedy (ej_fit_dec' hm (hdp j0 hj0 hUj0 i hi (by omega))) hno
  have hd1 : t' + p ≤ D x := ej_fit_le 0 _ (h0 x hx 0 (ej_ct_pos hx ⟨hUx, hrl x hx hUx, Nat.le_refl _⟩))
  have hop : op t' := by
    rcases hend with z | z
    · exact z
    · have := hD x hx; omega
  refine ⟨hop, hd1, ?_⟩
  intro j hj hUj i hi hc
  by_cases hA : t' + p ≤ R j
  · have hm : ej_ct (fun l => U' l ∧ R j ≤ R l ∧ D l ≤ D i) n ≤ ej_ct (fun l => U l ∧ R j ≤ R l ∧ D l ≤ D i) n := ej_ct_mono n (fun l _ z => ⟨((hU' l).mp z.1).1, z.2⟩)
    have h1 := hdp j hj ((hU' j).mp hUj).1 i hi (by omega)
    rw [show max t (R j) = max (t' + p) (R j) by omega] at h1
    exact ej_fit_dec' hm h1
  · rw [show max (t' + p) (R j) = t' + p by omega]
    by_cases hB : ∃ l, l < n ∧ (U' l ∧ R j ≤ R l ∧ D l ≤ D i) ∧ R l ≤ t'
    · obtain ⟨l, hl, ⟨hl1, hl2, hl3⟩, hl4⟩ := hB
      have hdx := hmu l hl ((hU' l).mp hl1).1 hl4
      refine h0 i hi _ (ej_ct_lt (j := x) hx ⟨hUx, hrl x hx hUx, by omega⟩ (fun k hk z => ?_))
      have hk' := (hU' k).mp z.1
      exact ⟨⟨hk'.1, hrl k hk hk'.1, z.2.2⟩, hk'.2⟩
    · obtain ⟨l, hl, hl1, hmin⟩ := ej_min R (ej_ct_ex hc)
      have hlt : t' < R l := by
        rcases Nat.lt_or_ge t' (R l) with z | z
        · exact z
        · exact absurd ⟨l, hl, hl1, z⟩ hB
      have hm : ej_ct (fun l => U' l ∧ R j ≤ R l ∧ D l ≤ D i) n ≤ ej_cw n R D (R l) (D i) := ej_ct_mono n (fun k hk z => ⟨hmin k hk z, z.2.2⟩)
      exact ej_fit_dec' hm ((hreg l hl (by omega) i hi (by omega)).2 t' hlt hop)
theorem ej_sd_0 {n p : Nat} {R D : Nat → Nat} {op U : Nat → Prop} (hU : ∀ i, i < n → U i) : ej_Sd n R D p op U 0 :=
  ⟨fun _ => 0, fun i hi z => absurd (hU i hi) z, fun i _ hi _ z => absurd (hU i hi) z⟩
theorem ej_sd_step {n p t t' x : Nat} {R D : Nat → Nat} {op U U' : Nat → Prop} (h : ej_Sd n R D p op U t) (ht : t ≤ t') (ho : op t') (hR : R x ≤ t') (hd : t' + p ≤ D x) (hU' : ∀ l, U' l ↔ U l ∧ l ≠ x) : ej_Sd n R D p op U' (t' + p) := by
  obtain ⟨q, h1, h2⟩ := h
  have key : ∀ i, ¬ U' i → i ≠ x → ¬ U i := fun i hi e z => hi ((hU' i).mpr ⟨z, e⟩)
  refine ⟨fun i => if i = x then t' else q i, fun i hi hu => ?_, fun i j hi hj hu hv e => ?_⟩
  · dsimp only
    by_cases e : i = x
    · rw [if_pos e, e]; exact ⟨hR, hd, ho, Nat.le_refl _⟩
    · rw [if_neg e]
      have := h1 i hi (key i hu e)
      exact ⟨this.1, this.2.1, this.2.2.1, by omega⟩
  · dsimp only
    by_cases ei : i = x
    · have ej : j ≠ x := fun z => e (by rw [ei, z])
      rw [if_pos ei, if_neg ej]
      have := h1 j hj (key j hv ej)
      omega
    · rw [if_neg ei]
      by_cases ej : j = x
      · rw [if_pos ej]
        have := h1 i hi (key i hu ei)
        omega
      · rw [if_neg ej]
        exact h2 i j hi hj (key i hu ei) (key j hv ej) e
theorem ej_mn_step {n p k t t' rd : Nat} {R D : Nat → Nat} {B op U : Nat → Prop} (hp : 1 ≤ p) (hav : ej_Av n R D p B op) (h : ej_Mn n R D p B k t) (hk : ej_ct (fun i => ¬ U i) n = k) (hrl : ∀ l, l < n → U l → rd ≤ R l) (hno : ∀ s, max t rd ≤ s → s < t' → ¬ op s) : ej_Mn n R D p B (k + 1) (t' + p) := by
  intro q hq y hy
  obtain ⟨l, hl, pl, hmax⟩ := ej_max q n (ej_ct_ex (P := fun i => q i + p ≤ y) (n := n) (by omega))
  have hr := ej_ct_rm (P := fun i => q i + p ≤ y) hl pl
  have h1 : t ≤ q l := by
    refine h q hq (q l) ?_
    have : ej_ct (fun i => q i + p ≤ y ∧ i ≠ l) n ≤ ej_ct (fun i => q i + p ≤ q l) n := by
      refine ej_ct_mono n (fun i hi z => ?_)
      have g1 := hmax i hi z.1
      have g2 := hq.2 i l hi hl z.2
      omega
    omega
  have h2 : ∃ i, i < n ∧ U i ∧ q i + p ≤ y := by
    apply Classical.byContradiction
    intro hn
    have : ej_ct (fun i => q i + p ≤ y) n ≤ ej_ct (fun i => ¬ U i) n := ej_ct_mono n (fun i hi z hu => hn ⟨i, hi, hu, z⟩)
    omega
  obtain ⟨i, hi, hu, hy'⟩ := h2
  have h3 := hrl i hi hu
  have h4 := (hq.1 i hi).1
  have h5 := hmax i hi hy'
  have h6 : t' ≤ q l := by
    rcases Nat.lt_or_ge (q l) t' with z | z
    · exact absurd (hav q hq l hl) (hno (q l) (by omega) z)
    · exact z
  have pl' : q l + p ≤ y := pl
  omega
/-! positions asked about and the jobs they stand for -/
def ej_M (n : Nat) (J : Nat → Prop) (rr dd R D : Nat → Nat) : Prop :=
  ∃ em fm : Nat → Nat, (∀ k, k < n → J (em k) ∧ fm (em k) = k ∧ R k = rr (em k) ∧ D k = dd (em k)) ∧ ∀ j, J j → fm j < n ∧ em (fm j) = j
theorem ej_M_0 {J : Nat → Prop} {rr dd R D : Nat → Nat} (h : ∀ j, ¬ J j) : ej_M 0 J rr dd R D :=
  ⟨fun _ => 0, fun _ => 0, fun k hk => absurd hk (by omega), fun j hj => absurd hj (h j)⟩
theorem ej_M_congr {n : Nat} {J J' : Nat → Prop} {rr dd R D : Nat → Nat} (h : ej_M n J rr dd R D) (hJ : ∀ j, J' j ↔ J j) : ej_M n J' rr dd R D := by
  obtain ⟨em, fm, h1, h2⟩ := h
  exact ⟨em, fm, fun k hk => ⟨(hJ _).mpr (h1 k hk).1, (h1 k hk).2⟩, fun j hj => h2 j ((hJ j).mp hj)⟩
theorem ej_M_add {n x : Nat} {J J' : Nat → Prop} {rr dd rr' dd' R D R' D' : Nat → Nat} (h : ej_M n J rr dd R D) (hx : ¬ J x) (hR : ∀ k, k < n → R' k = R k) (hD : ∀ k, k < n → D' k = D k) (hRn : R' n = rr' x) (hDn : D' n = dd' x) (hrr : ∀ j, J j → rr' j = rr j ∧ dd' j = dd j) (hJ : ∀ j, J' j ↔ J j ∨ j = x) : ej_M (n + 1) J' rr' dd' R' D' := by
  obtain ⟨em, fm, h1, h2⟩ := h
  refine ⟨fun k => if k = n then x else em k, fun j => if j = x then n else fm j, fun k hk => ?_, fun j hj => ?_⟩
  · dsimp only
    by_cases e : k = n
    · rw [if_pos e, if_pos rfl, e]
      exact ⟨(hJ x).mpr (Or.inr rfl), rfl, hRn, hDn⟩
    · have hk' : k < n := by omega
      obtain ⟨g1, g2, g3, g4⟩ := h1 k hk'
      have gx : em k ≠ x := fun z => hx (by rw [← z]; exact g1)
      rw [if_neg e, if_neg gx, hR k hk', hD k hk', (hrr _ g1).1, (hrr _ g1).2]
      exact ⟨(hJ _).mpr (Or.inl g1), g2, g3, g4⟩
  · dsimp only
    by_cases e : j = x
    · rw [if_pos e, if_pos rfl, e]
      exact ⟨by omega, rfl⟩
    · have hj' : J j := ((hJ j).mp hj).elim id (fun z => absurd z e)
      obtain ⟨g1, g2⟩ := h2 j hj'
      rw [if_neg e, if_neg (by omega)]
      exact ⟨by omega, g2⟩
theorem ej_M_down {n p : Nat} {J B : Nat → Prop} {rr dd R D q : Nat → Nat} (h : ej_M n J rr dd R D) (hq : ej_G J rr dd p B q) : ∃ q', ej_G (fun i => i < n) R D p B q' ∧ ∀ y, (∀ j, J j → q j + p ≤ y) → ∀ i, i < n → q' i + p ≤ y := by
  obtain ⟨em, fm, h1, h2⟩ := h
  refine ⟨fun k => q (em k), ⟨fun k hk => ?_, fun i j hi hj e => ?_⟩, fun y hy i hi => hy _ (h1 i hi).1⟩
  · obtain ⟨g1, _, g3, g4⟩ := h1 k hk
    rw [g3, g4]
    exact hq.1 _ g1
  · refine hq.2 _ _ (h1 i hi).1 (h1 j hj).1 (fun z => e ?_)
    rw [← (h1 i hi).2.1, ← (h1 j hj).2.1, z]
theorem ej_M_up {n p : Nat} {J B : Nat → Prop} {rr dd R D q : Nat → Nat} (h : ej_M n J rr dd R D) (hq : ej_G (fun i => i < n) R D p B q) : ∃ q', ej_G J rr dd p B q' := by
  obtain ⟨em, fm, h1, h2⟩ := h
  refine ⟨fun j => q (fm j), fun j hj => ?_, fun i j hi hj e => ?_⟩
  · obtain ⟨g1, g2⟩ := h2 j hj
    obtain ⟨_, _, g3, g4⟩ := h1 _ g1
    rw [g2] at g3 g4
    rw [← g3, ← g4]
    exact hq.1 _ g1
  · refine hq.2 _ _ (h2 i hi).1 (h2 j hj).1 (fun z => e ?_)
    rw [← (h2 i hi).2, ← (h2 j hj).2, z]
end
section
/-! small ints, negative ones too -/
def ej_i (z : Int) : Int32 := Int32.ofInt z
theorem ej_n (n : Nat) : nI n = ej_i (n : Int) := Int32.ofInt_eq_ofNat.symm
theorem ej_m1 : (-1 : Int32) = ej_i (-1) := by decide
theorem ej_z0 : (0 : Int32) = ej_i 0 := by decide
theorem ej_add (a b : Int) : ej_i a + ej_i b = ej_i (a + b) := (Int32.ofInt_add a b).symm
theorem ej_sub (a b : Int) : ej_i a - ej_i b = ej_i (a - b) := (Int32.ofInt_sub a b).symm
theorem ej_dec (z : Int) : ej_i z + (-1) = ej_i (z - 1) := by
  rw [ej_m1, ej_add]
  rfl
theorem ej_inc (z : Int) : ej_i z + 1 = ej_i (z + 1) := by
  rw [show (1 : Int32) = ej_i 1 by decide, ej_add]
theorem ej_toInt {z : Int} (h : -1000 ≤ z ∧ z ≤ 1000) : (ej_i z).toInt = z := Int32.toInt_ofInt_of_le (by omega) (by omega)
theorem ej_cl {z : Int} (h : -1000 ≤ z ∧ z ≤ 1000) : (ej_i z).toNatClampNeg = z.toNat := Int32.toNatClampNeg_ofInt_of_le (by omega) (by omega)
theorem ej_vin {z : Int} {N : Nat} (h0 : 0 ≤ z) (h : z < N) (hN : N ≤ 1000) : vp_in (ej_i z) N := by
  rw [vp_in_iff, ej_toInt (by omega)]
  exact ⟨h0, h⟩
theorem ej_ble {x y : Int32} {A B : Prop} (a b : Int) (f : a ≤ b → A) (g : b < a → B) (hx : x = ej_i a := by rfl) (hy : y = ej_i b := by rfl) (ha : -1000 ≤ a ∧ a ≤ 1000 := by omega) (hb : -1000 ≤ b ∧ b ≤ 1000 := by omega) : (x ≤ y → A) ∧ (¬ x ≤ y → B) := by
  subst hx hy
  rw [Int32.le_iff_toInt_le, ej_toInt ha, ej_toInt hb]
  exact ⟨f, fun z => g (by omega)⟩
theorem ej_blt {x y : Int32} {A B : Prop} (a b : Int) (f : a < b → A) (g : b ≤ a → B) (hx : x = ej_i a := by rfl) (hy : y = ej_i b := by rfl) (ha : -1000 ≤ a ∧ a ≤ 1000 := by omega) (hb : -1000 ≤ b ∧ b ≤ 1000 := by omega) : (x < y → A) ∧ (¬ x < y → B) := by
  subst hx hy
  rw [Int32.lt_iff_toInt_lt, ej_toInt ha, ej_toInt hb]
  exact ⟨f, fun z => g (by omega)⟩
theorem ej_nlm (n : Nat) (h : n ≤ 1000) : ¬ nI n ≤ -1 := by
  rw [ej_n, ej_m1, Int32.le_iff_toInt_le, ej_toInt (by omega), ej_toInt (by omega)]
  omega
theorem ej_b8 : ∀ n, n < 128 → (nI n).toInt8.toInt32 = nI n := by decide +kernel
/-! small arrays -/
def ej_v (a : Nat → Int32) (i : Nat) : Nat := (a i).toNatClampNeg
def ej_S (N : Nat) (a : Nat → Int32) : Prop := ∀ i, i < N → a i = nI (ej_v a i) ∧ ej_v a i ≤ 40
theorem ej_rd {a : Nat → Int32} {N i : Nat} (h : ej_S N a) (hi : i < N) (hN : N ≤ 1000 := by omega) : a (nI i).toNatClampNeg = nI (ej_v a i) := by
  rw [nI_clamp (by omega)]
  exact (h i hi).1
theorem ej_v40 {a : Nat → Int32} {N i : Nat} (h : ej_S N a) (hi : i < N) : ej_v a i ≤ 40 := (h i hi).2
theorem ej_S0 {a : Nat → Int32} : ej_S 0 a := fun i hi => absurd hi (by omega)
theorem ej_Sz (N : Nat) : ej_S N (fun _ => 0) := fun i _ => ⟨rfl, Nat.zero_le _⟩
theorem ej_vs {a : Nat → Int32} {k x : Nat} (hx : x < 2 ^ 31) : ej_v (upd a k (nI x)) k = x := by
  unfold ej_v
  rw [pk_us, nI_clamp hx]
theorem ej_vn {a : Nat → Int32} {k j : Nat} {x : Int32} (h : j ≠ k) : ej_v (upd a k x) j = ej_v a j := by
  unfold ej_v
  rw [pk_un h]
theorem ej_Su {a : Nat → Int32} {N k x : Nat} (h : ej_S N a) (hx : x ≤ 40) : ej_S N (upd a k (nI x)) := by
  intro i hi
  by_cases e : i = k
  · rw [e, ej_vs (by omega), pk_us]
    exact ⟨rfl, hx⟩
  · rw [ej_vn e, pk_un e]
    exact h i hi
theorem ej_Sa {a : Nat → Int32} {N x : Nat} (h : ej_S N a) (hx : x ≤ 40) : ej_S (N + 1) (upd a N (nI x)) := by
  intro i hi
  by_cases e : i = N
  · rw [e, ej_vs (by omega), pk_us]
    exact ⟨rfl, hx⟩
  · rw [ej_vn e, pk_un e]
    exact h i (by omega)
/-- the starts that would run into a block -/
def ej_B (p : Nat) (a4 a5 a6 : Nat → Int32) (t : Nat) : Prop := ∃ k, k < 4 ∧ ¬ a4 k = 0 ∧ ej_v a5 k < t + p ∧ t < ej_v a6 k
end
section
theorem ej_w_count {post : Int32 → Prop} {l c e g : Int32} {a1 a2 a3 a4 a5 a6 a7 a8 a9 a10 a11 : Nat → Int32} {n r d : Nat} (hn : n ≤ 7) (h7 : ej_S n a7) (h8 : ej_S n a8) (hr : r ≤ 100) (hd : d ≤ 100) (H : post (nI (ej_cw n (ej_v a7) (ej_v a8) r d))) : wpX_countWithin post (l, c, nI n, e, g, a1, a2, a3, a4, a5, a6, a7, a8, a9, a10, a11) (nI r) (nI d) :=
  pk_loop (fun m i (s : Nat) => wX_countWithin_5 post (nI r) (nI d) l c (nI n) e g a1 a2 a3 a4 a5 a6 a7 a8 a9 a10 a11 m (nI s) (nI i)) (fun i s => s = ej_ct (fun i => r ≤ ej_v a7 i ∧ ej_v a8 i ≤ d) i) n 0 0 (by omega) rfl
    (fun m s h => pk_le n n (fun _ => by rw [h]; exact H) (fun z => absurd z (by omega)))
    (fun m i s hi h hw => pk_le n i (fun z => absurd z (by omega)) (fun _ => ⟨pk_in i 8 (by omega),
      pk_lt (ej_v a7 i) r (fun z => nm_r (nI_1 i) (hw s (by rw [ej_ct_f (fun q => absurd q.1 (by omega))]; exact h)))
        (fun z => ⟨pk_in i 8 (by omega), pk_lt d (ej_v a8 i) (fun z' => nm_r (nI_1 i) (hw s (by rw [ej_ct_f (fun q => absurd q.2 (by omega))]; exact h)))
          (fun z' => nm_r (nI_1 s) (nm_r (nI_1 i) (hw (s + 1) (by rw [ej_ct_t ⟨z, z'⟩, h])))) rfl (ej_rd h8 hi) (by omega) (by have := ej_v40 h8 hi; omega)⟩) (ej_rd h7 hi) rfl (by have := ej_v40 h7 hi; omega) (by omega)⟩))
theorem ej_w_oab {post : Int32 → Prop} {l c k e g : Int32} {a1 a2 a3 a4 a5 a6 a7 a8 a9 a10 a11 : Nat → Int32} : ∀ (n : Nat) (z : Int), -10 ≤ z → z < 48 → z + 11 < n →
    (∀ y : Int, -1 ≤ y → (0 ≤ y → y ≤ z ∧ a10 y.toNat = 0) → (∀ s : Nat, a10 s = 0 → (s : Int) ≤ z → (s : Int) ≤ y) → post (ej_i y)) → wX_openAtOrBefore_2 post l c k e g a1 a2 a3 a4 a5 a6 a7 a8 a9 a10 a11 n (ej_i z) := by
  intro n
  induction n with
  | zero => intro z h1 h2 h3; omega
  | succ n ih =>
    intro z h1 h2 h3 H
    refine ej_blt z 0 (fun hz => ?_) (fun hz => ⟨ej_vin hz (by omega) (by omega), ?_⟩) rfl ej_z0
    · refine ej_ble 0 z (fun hz' => absurd hz' (by omega)) (fun _ => ?_) ej_z0 rfl
      rw [ej_m1]
      exact H (-1) (by omega) (fun q => absurd q (by omega)) (fun s _ hs => by omega)
    · rw [ej_cl (by omega)]
      refine br_c (fun ho => ?_) (fun ho => nm_r (ej_dec z) (ih (z - 1) (by omega) (by omega) (by omega) (fun y g1 g2 g3 => H y g1 (fun q => ?_) (fun s hs hsz => ?_))))
      · refine ej_ble 0 z (fun hz' => ?_) (fun hz' => absurd hz' (by omega)) ej_z0 rfl
        exact H z (by omega) (fun _ => ⟨by omega, ho⟩) (fun s _ hs => hs)
      · obtain ⟨q1, q2⟩ := g2 q
        exact ⟨by omega, q2⟩
      · by_cases e : (s : Int) = z
        · have : z.toNat = s := by omega
          rw [this] at ho
          exact absurd hs ho
        · exact g3 s hs (by omega)
theorem ej_w_back {post : Int32 → Prop} {c k e g : Int32} {a1 a2 a3 a4 a5 a6 a7 a8 a9 a10 a11 : Nat → Int32} {p d m : Nat} (hp1 : 1 ≤ p) (hp6 : p ≤ 6) (hd : d ≤ 40) (hm : m ≤ 100)
    (H : ∀ y : Int, -1 ≤ y → y ≤ 41 → (m = 0 → y = 41) → (1 ≤ m → ∀ x : Nat, ej_Fit (fun t => a10 t = 0) p d m x ↔ (x : Int) ≤ y) → post (ej_i y)) :
    wpX_backFrom post (nI p, c, k, e, g, a1, a2, a3, a4, a5, a6, a7, a8, a9, a10, a11) (nI d) (nI m) := by
  refine pk_eq m 0 (fun em => ?_) (fun em => ?_)
  · rw [show (41 : Int32) = ej_i 41 by decide]
    exact H 41 (by omega) (by omega) (fun _ => rfl) (fun q => absurd q (by omega))
  · have h : ∃ f, wX_backFrom_12 post (nI m) (nI p) c k e g a1 a2 a3 a4 a5 a6 a7 a8 a9 a10 a11 f (ej_i (d : Int)) (nI 0) := pk_loop (fun f i (s : Int) => wX_backFrom_12 post (nI m) (nI p) c k e g a1 a2 a3 a4 a5 a6 a7 a8 a9 a10 a11 f (ej_i s) (nI i)) (fun i s => -1 ≤ s ∧ s ≤ 40 ∧ ∀ x : Nat, ej_Fit (fun t => a10 t = 0) p d i x ↔ (x : Int) ≤ s) m 0 (d : Int) (by omega) ⟨by omega, by omega, fun x => ⟨fun q => Int.ofNat_le.mpr q, fun q => Int.ofNat_le.mp q⟩⟩
      (fun f s h => pk_le m m (fun _ => H s h.1 (by omega) (fun q => absurd q em) (fun _ => h.2.2)) (fun z => absurd z (by omega)))
      (fun f i s hi h hw => pk_le m i (fun z => absurd z (by omega)) (fun _ => ?_))
    · rw [← ej_n] at h
      exact h
    · obtain ⟨h1, h2, h3⟩ := h
      rw [ej_n p, ej_sub]
      refine ⟨60, ej_w_oab 60 (s - (p : Int)) (by omega) (by omega) (by omega) (fun y g1 g2 g3 => nm_r (nI_1 i) ?_)⟩
      have t := hw y ⟨g1, by
        by_cases q : 0 ≤ y
        · have := (g2 q).1; omega
        · omega, fun x => ⟨fun q => ?_, fun q => ?_⟩⟩
      · rw [ej_n p] at t
        exact t
      · obtain ⟨s', q1, q2, q3⟩ := q
        have q4 := (h3 _).mp q3
        have q5 := g3 s' q2 (by omega)
        omega
      · obtain ⟨r1, r2⟩ := g2 (by omega)
        exact ⟨y.toNat, by omega, r2, (h3 _).mpr (by omega)⟩
theorem ej_w_grb {post : Int32 → Prop} {l c e g : Int32} {a1 a2 a3 a4 a5 a6 a7 a8 a9 a10 a11 : Nat → Int32} {n a : Nat} (hn : n ≤ 7) (h7 : ej_S n a7) (ha : a ≤ 100)
    (H0 : (∀ j, j < n → a ≤ ej_v a7 j) → post (-1))
    (H1 : ∀ j, j < n → ej_v a7 j < a → (∀ i, i < n → ej_v a7 i < a → ej_v a7 i ≤ ej_v a7 j) → post (nI (ej_v a7 j))) :
    wpX_greatestReleaseBelow post (l, c, nI n, e, g, a1, a2, a3, a4, a5, a6, a7, a8, a9, a10, a11) (nI a) :=
  pk_loop (fun m i (s : Int32) => wX_greatestReleaseBelow_4 post (nI a) l c (nI n) e g a1 a2 a3 a4 a5 a6 a7 a8 a9 a10 a11 m s (nI i)) (fun i s => (s = -1 ∧ ∀ j, j < i → a ≤ ej_v a7 j) ∨ (∃ j, j < i ∧ s = nI (ej_v a7 j) ∧ ej_v a7 j < a ∧ ∀ i', i' < i → ej_v a7 i' < a → ej_v a7 i' ≤ ej_v a7 j)) n 0 (-1) (by omega) (Or.inl ⟨rfl, fun j hj => absurd hj (by omega)⟩)
    (fun m s h => pk_le n n (fun _ => by
      rcases h with ⟨rfl, h⟩ | ⟨j, hj, rfl, h1, h2⟩
      · exact H0 h
      · exact H1 j hj h1 h2) (fun z => absurd z (by omega)))
    (fun m i s hi h hw => pk_le n i (fun z => absurd z (by omega)) (fun _ => ⟨pk_in i 8 (by omega),
      pk_le a (ej_v a7 i) (fun z => nm_r (nI_1 i) (hw s (by
          rcases h with ⟨rfl, h⟩ | ⟨j, hj, rfl, h1, h2⟩
          · exact Or.inl ⟨rfl, lt_s h z⟩
          · exact Or.inr ⟨j, by omega, rfl, h1, lt_s h2 (fun q => absurd q (by omega))⟩)))
        (fun z => ⟨pk_in i 8 (by omega), by
          have hv := ej_v40 h7 hi
          rw [ej_rd h7 hi]
          rcases h with ⟨rfl, h⟩ | ⟨j, hj, rfl, h1, h2⟩
          · exact br_f (ej_nlm _ (by omega)) ⟨pk_in i 8 (by omega), nm_e (nm_r (nI_1 i) (hw _ (Or.inr ⟨i, by omega, rfl, z, lt_s (fun i' hi' q => absurd (h i' hi') (by omega)) (fun _ => Nat.le_refl _)⟩)))⟩
          · have hv' := ej_v40 h7 (show j < n by omega)
            exact pk_le (ej_v a7 i) (ej_v a7 j) (fun q => nm_r (nI_1 i) (hw _ (Or.inr ⟨j, by omega, rfl, h1, lt_s h2 (fun _ => q)⟩)))
              (fun q => ⟨pk_in i 8 (by omega), nm_e (nm_r (nI_1 i) (hw _ (Or.inr ⟨i, by omega, rfl, z, lt_s (fun i' hi' q' => Nat.le_trans (h2 i' hi' q') (by omega)) (fun _ => Nat.le_refl _)⟩)))⟩)⟩) rfl (ej_rd h7 hi) (by omega) (by have := ej_v40 h7 hi; omega)⟩))
theorem ej_w_lwr {post : Int32 → Prop} {l c e g : Int32} {a1 a2 a3 a4 a5 a6 a7 a8 a9 a10 a11 : Nat → Int32} {n : Nat} (hn : n ≤ 7) (h7 : ej_S n a7)
    (H : ∀ r, r ≤ 41 → (∀ j, j < n → a9 j = 0 → r ≤ ej_v a7 j) → (r = 41 ∨ ∃ j, j < n ∧ a9 j = 0 ∧ ej_v a7 j = r) → post (nI r)) :
    wpX_leastWaitingRelease post (l, c, nI n, e, g, a1, a2, a3, a4, a5, a6, a7, a8, a9, a10, a11) :=
  pk_loop (fun m i (s : Nat) => wX_leastWaitingRelease_5 post l c (nI n) e g a1 a2 a3 a4 a5 a6 a7 a8 a9 a10 a11 m (nI s) (nI i)) (fun i s => s ≤ 41 ∧ (∀ j, j < i → a9 j = 0 → s ≤ ej_v a7 j) ∧ (s = 41 ∨ ∃ j, j < i ∧ a9 j = 0 ∧ ej_v a7 j = s)) n 0 41 (by omega) ⟨by omega, fun j hj => absurd hj (by omega), Or.inl rfl⟩
    (fun m s h => pk_le n n (fun _ => H s h.1 h.2.1 h.2.2) (fun z => absurd z (by omega)))
    (fun m i s hi h hw => pk_le n i (fun z => absurd z (by omega)) (fun _ => ⟨pk_in i 8 (by omega), by
      obtain ⟨h1, h2, h3⟩ := h
      have hv := ej_v40 h7 hi
      have h3' : s = 41 ∨ ∃ j, j < i + 1 ∧ a9 j = 0 ∧ ej_v a7 j = s := h3.imp id (fun ⟨j, q, q'⟩ => ⟨j, by omega, q'⟩)
      rw [ej_rd h7 hi, nI_clamp (show i < 2 ^ 31 by omega)]
      refine br_c (fun ho => ⟨pk_in i 8 (by omega), pk_le s (ej_v a7 i) (fun z => nm_r (nI_1 i) (hw s ⟨h1, lt_s h2 (fun _ => z), h3'⟩)) (fun z => ⟨pk_in i 8 (by omega), nm_e (nm_r (nI_1 i) (hw _ ⟨by omega, lt_s (fun j hj q => Nat.le_trans (by omega) (h2 j hj q)) (fun _ => Nat.le_refl _), Or.inr ⟨i, by omega, ho, rfl⟩⟩))⟩)⟩) (fun ho => nm_r (nI_1 i) (hw s ⟨h1, lt_s h2 (fun q => absurd q ho), h3'⟩))⟩))
theorem ej_w_oaa {post : Int32 → Prop} {l c k e g : Int32} {a1 a2 a3 a4 a5 a6 a7 a8 a9 a10 a11 : Nat → Int32} {z : Nat} (hz : z ≤ 47)
    (H : ∀ t, z ≤ t → t ≤ 47 → (∀ s, z ≤ s → s < t → ¬ a10 s = 0) → (a10 t = 0 ∨ 47 ≤ t) → post (nI t)) :
    wpX_openAtOrAfter post (l, c, k, e, g, a1, a2, a3, a4, a5, a6, a7, a8, a9, a10, a11) (nI z) := by
  have key : ∀ (f i : Nat), z ≤ i → i ≤ 47 → 47 - i < f → (∀ s, z ≤ s → s < i → ¬ a10 s = 0) → wX_openAtOrAfter_2 post l c k e g a1 a2 a3 a4 a5 a6 a7 a8 a9 a10 a11 f (nI i) := by
    intro f
    induction f with
    | zero => intro i _ _ h; omega
    | succ f ih =>
      intro i h1 h2 h3 h4
      refine pk_le 47 i (fun q => H i h1 h2 h4 (Or.inr q)) (fun q => ⟨pk_in i 48 (by omega), ?_⟩)
      rw [nI_clamp (show i < 2 ^ 31 by omega)]
      refine br_c (fun ho => H i h1 h2 h4 (Or.inl ho)) (fun ho => nm_r (nI_1 i) (ih (i + 1) (by omega) (by omega) (by omega) (fun s hs hs' => ?_)))
      by_cases e : s = i
      · rw [e]; exact ho
      · exact h4 s hs (by omega)
  exact ⟨48, key 48 z (Nat.le_refl z) hz (by omega) (fun s h1 h2 => absurd h1 (by omega))⟩
theorem ej_w_mu {post : Int32 → Prop} {l c e g : Int32} {a1 a2 a3 a4 a5 a6 a7 a8 a9 a10 a11 : Nat → Int32} {n t : Nat} (hn : n ≤ 7) (h7 : ej_S n a7) (h8 : ej_S n a8) (ht : t ≤ 100)
    (H0 : (∀ j, j < n → a9 j = 0 → ¬ ej_v a7 j ≤ t) → post (-1))
    (H1 : ∀ b, b < n → a9 b = 0 → ej_v a7 b ≤ t → (∀ j, j < n → a9 j = 0 → ej_v a7 j ≤ t → ej_v a8 b ≤ ej_v a8 j) → post (nI b)) :
    wpX_mostUrgent post (l, c, nI n, e, g, a1, a2, a3, a4, a5, a6, a7, a8, a9, a10, a11) (nI t) :=
  pk_loop (fun m i (s : Int32) => wX_mostUrgent_4 post (nI t) l c (nI n) e g a1 a2 a3 a4 a5 a6 a7 a8 a9 a10 a11 m s (nI i)) (fun i s => (s = -1 ∧ ∀ j, j < i → a9 j = 0 → ¬ ej_v a7 j ≤ t) ∨ (∃ b, b < i ∧ s = nI b ∧ a9 b = 0 ∧ ej_v a7 b ≤ t ∧ ∀ j, j < i → a9 j = 0 → ej_v a7 j ≤ t → ej_v a8 b ≤ ej_v a8 j)) n 0 (-1) (by omega) (Or.inl ⟨rfl, fun j hj => absurd hj (by omega)⟩)
    (fun m s h => pk_le n n (fun _ => by
      rcases h with ⟨rfl, h⟩ | ⟨b, hb, rfl, h1, h2, h3⟩
      · exact H0 h
      · exact H1 b hb h1 h2 h3) (fun z => absurd z (by omega)))
    (fun m i s hi h hw => pk_le n i (fun z => absurd z (by omega)) (fun _ => ⟨pk_in i 8 (by omega), by
      have hv := ej_v40 h7 hi
      have hv8 := ej_v40 h8 hi
      have skip : (a9 i = 0 → ¬ ej_v a7 i ≤ t) → wX_mostUrgent_4 post (nI t) l c (nI n) e g a1 a2 a3 a4 a5 a6 a7 a8 a9 a10 a11 m s (nI (i + 1)) := fun hs => hw s (by
        rcases h with ⟨rfl, h⟩ | ⟨b, hb, rfl, h1, h2, h3⟩
        · exact Or.inl ⟨rfl, lt_s h hs⟩
        · exact Or.inr ⟨b, by omega, rfl, h1, h2, lt_s h3 (fun q q' => absurd q' (hs q))⟩)
      rw [ej_rd h7 hi, ej_rd h8 hi, nI_clamp (show i < 2 ^ 31 by omega)]
      refine br_c (fun ho => ⟨pk_in i 8 (by omega), pk_lt t (ej_v a7 i) (fun z => nm_r (nI_1 i) (skip (fun _ => by omega))) (fun z => ?_)⟩) (fun ho => nm_r (nI_1 i) (skip (fun q => absurd q ho)))
      rcases h with ⟨rfl, h⟩ | ⟨b, hb, rfl, h1, h2, h3⟩
      · exact br_t (by decide) (nm_r (nI_1 i) (hw _ (Or.inr ⟨i, by omega, rfl, ho, z, lt_s (fun j hj q q' => absurd q' (h j hj q)) (fun _ _ => Nat.le_refl _)⟩)))
      · have hvb := ej_v40 h8 (show b < n by omega)
        rw [ej_rd h8 (show b < n by omega)]
        exact br_f (nI_pos (by omega)) ⟨pk_in i 8 (by omega), pk_in b 8 (by omega), pk_le (ej_v a8 b) (ej_v a8 i) (fun q => nm_r (nI_1 i) (hw _ (Or.inr ⟨b, by omega, rfl, h1, h2, lt_s h3 (fun _ _ => q)⟩)))
          (fun q => nm_r (nI_1 i) (hw _ (Or.inr ⟨i, by omega, rfl, ho, z, lt_s (fun j hj q1 q2 => Nat.le_trans (by omega) (h3 j hj q1 q2)) (fun _ _ => Nat.le_refl _)⟩)))⟩⟩))
end
section
theorem ej_w_sb {post : St2 → Prop} {l c k e g : Int32} {a1 a2 a3 a4 a5 a6 a7 a8 a9 a10 a11 : Nat → Int32} {z : Int} {h : Nat} (hz : -10 ≤ z) (hz' : z ≤ 60) (hh : h ≤ 48)
    (H : ∀ b : Nat → Int32, (∀ t : Nat, b t = 0 ↔ a10 t = 0 ∧ ¬ (z < (t : Int) ∧ t < h)) → post (l, c, k, e, g, a1, a2, a3, a4, a5, a6, a7, a8, a9, b, a11)) : wpX_shutBetween post (l, c, k, e, g, a1, a2, a3, a4, a5, a6, a7, a8, a9, a10, a11) (ej_i z) (nI h) := by
  have key : ∀ i0 : Nat, ((i0 : Int) = z + 1 ∨ (z < 0 ∧ i0 = 0)) → ∃ f, wX_shutBetween_12 post (nI h) l c k e g f (nI i0) a1 a2 a3 a4 a5 a6 a7 a8 a9 a10 a11 := fun i0 hi0 =>
    pk_loop (fun f i s => wX_shutBetween_12 post (nI h) l c k e g f (nI i) a1 a2 a3 a4 a5 a6 a7 a8 a9 s a11) (fun i s => i0 ≤ i ∧ ∀ t : Nat, s t = 0 ↔ a10 t = 0 ∧ ¬ (z < (t : Int) ∧ t < i)) (max h i0) i0 a10 (by omega) ⟨Nat.le_refl _, fun t => ⟨fun q => ⟨q, by omega⟩, fun q => q.1⟩⟩
      (fun f s hs => pk_le h (max h i0) (fun _ => H s (fun t => by
        rw [hs.2 t]
        exact ⟨fun q => ⟨q.1, by have := q.2; omega⟩, fun q => ⟨q.1, by have := q.2; omega⟩⟩)) (fun q => absurd q (by omega)))
      (fun f i s hi hs hw => pk_le h i (fun q => absurd hs.1 (by omega)) (fun q => pk_le 48 i (fun q' => absurd q' (by omega)) (fun _ => ⟨pk_in i 48 (by omega), nm_e (nm_r (nI_1 i) (hw _ ⟨by omega, fun t => by
        rw [nI_clamp (show i < 2 ^ 31 by omega)]
        by_cases e : t = i
        · rw [e, pk_us]
          have := hs.1
          exact ⟨fun q => absurd q (by decide), fun q => absurd q.2 (by omega)⟩
        · rw [pk_un e, hs.2 t]
          exact ⟨fun q => ⟨q.1, by have := q.2; omega⟩, fun q => ⟨q.1, by have := q.2; omega⟩⟩⟩))⟩)))
  refine ej_ble 0 z (fun q => nm_r (e' := nI (z.toNat + 1)) ?_ (key _ (Or.inl (by omega)))) (fun q => ?_) ej_z0 rfl
  · rw [ej_inc, ej_n]
    exact congrArg ej_i (by omega)
  · exact key 0 (Or.inr ⟨q, rfl⟩)
theorem ej_w_sbl {post : St2 → Prop} {c k e g : Int32} {a1 a2 a3 a4 a5 a6 a7 a8 a9 a10 a11 : Nat → Int32} {p : Nat} (hp6 : p ≤ 6) (h5 : ej_S 4 a5) (h6 : ej_S 4 a6)
    (H : ∀ b : Nat → Int32, (∀ t : Nat, t < 48 → (b t = 0 ↔ ¬ ej_B p a4 a5 a6 t)) → post (nI p, c, k, e, g, a1, a2, a3, a4, a5, a6, a7, a8, a9, b, a11)) : wpX_shutBlocks post (nI p, c, k, e, g, a1, a2, a3, a4, a5, a6, a7, a8, a9, a10, a11) :=
  pk_loop (fun f i s => wX_shutBlocks_2 post (nI p) c k e g f (nI i) a1 a2 a3 a4 a5 a6 a7 a8 a9 s a11) (fun i s => ∀ t, t < i → s t = 0) 48 0 a10 (by omega) (fun t ht => absurd ht (by omega))
    (fun f s hs => pk_le 48 48 (fun _ =>
      pk_loop (fun f i b => wX_shutBlocks_23 post f (nI i) (nI p) c k e g a1 a2 a3 a4 a5 a6 a7 a8 a9 b a11) (fun i b => ∀ t : Nat, t < 48 → (b t = 0 ↔ ¬ ∃ k, k < i ∧ ¬ a4 k = 0 ∧ ej_v a5 k < t + p ∧ t < ej_v a6 k)) 4 0 s (by omega) (fun t ht => ⟨fun _ z => by obtain ⟨k, hk, _⟩ := z; omega, fun _ => hs t ht⟩)
        (fun f b hb => pk_le 4 4 (fun _ => H b hb) (fun q => absurd q (by omega)))
        (fun f i b hi hb hw => pk_le 4 i (fun q => absurd q (by omega)) (fun _ => ⟨pk_in i 4 hi, by
          have v5 := ej_v40 h5 hi
          have v6 := ej_v40 h6 hi
          rw [ej_rd h5 hi, ej_rd h6 hi, nI_clamp (show i < 2 ^ 31 by omega)]
          refine br_c (fun ho => nm_r (nI_1 i) (hw b (fun t ht => ?_))) (fun ho => ⟨pk_in i 4 hi, pk_in i 4 hi, ?_⟩)
          · rw [hb t ht]
            refine not_congr ⟨fun ⟨k, hk, q⟩ => ⟨k, by omega, q⟩, fun ⟨k, hk, q⟩ => ⟨k, ?_, q⟩⟩
            have : k ≠ i := fun e => q.1 (by rw [e]; exact ho)
            omega
          · rw [ej_n (ej_v a5 i), ej_n p, ej_sub]
            refine ej_w_sb (by omega) (by omega) (by omega) (fun b' hb' => nm_r (nI_1 i) ?_)
            have t := hw b' (fun t ht => ?_)
            · rw [ej_n p] at t
              exact t
            · rw [hb' t, hb t ht]
              constructor
              · rintro ⟨q1, q2⟩ ⟨k, hk, q3, q4, q5⟩
                by_cases e : k = i
                · rw [e] at q4 q5
                  omega
                · exact q1 ⟨k, by omega, q3, q4, q5⟩
              · intro q
                refine ⟨fun ⟨k, hk, q3⟩ => q ⟨k, by omega, q3⟩, fun ⟨q4, q5⟩ => q ⟨i, by omega, ho, by omega, q5⟩⟩⟩))) (fun q => absurd q (by omega)))
    (fun f i s hi hs hw => pk_le 48 i (fun q => absurd q (by omega)) (fun _ => ⟨pk_in i 48 hi, nm_e (nm_r (nI_1 i) (hw _ (by
      rw [nI_clamp (show i < 2 ^ 31 by omega)]
      refine lt_s (fun t ht => ?_) pk_us
      rw [pk_un (by omega)]
      exact hs t ht)))⟩))
theorem ej_w_sbf {post : Int32 → St2 → Prop} {c e g : Int32} {a1 a2 a3 a4 a5 a6 a7 a8 a9 a10 a11 : Nat → Int32} {p n r : Nat} (hp1 : 1 ≤ p) (hp6 : p ≤ 6) (hn : n ≤ 7) (h7 : ej_S n a7) (h8 : ej_S n a8) (hr : r ≤ 40) (hj : ∃ j, j < n ∧ ej_v a7 j = r)
    (H0 : (∃ i, i < n ∧ 1 ≤ ej_cw n (ej_v a7) (ej_v a8) r (ej_v a8 i) ∧ ¬ ej_Fit (fun t => a10 t = 0) p (ej_v a8 i) (ej_cw n (ej_v a7) (ej_v a8) r (ej_v a8 i)) r) → post 0 (nI p, c, nI n, e, g, a1, a2, a3, a4, a5, a6, a7, a8, a9, a10, a11))
    (H1 : ∀ b : Nat → Int32, (∀ i, i < n → 1 ≤ ej_cw n (ej_v a7) (ej_v a8) r (ej_v a8 i) → ej_Fit (fun t => a10 t = 0) p (ej_v a8 i) (ej_cw n (ej_v a7) (ej_v a8) r (ej_v a8 i)) r) →
      (∀ t, b t = 0 ↔ a10 t = 0 ∧ ¬ (t < r ∧ ∃ i, i < n ∧ 1 ≤ ej_cw n (ej_v a7) (ej_v a8) r (ej_v a8 i) ∧ ¬ ej_Fit (fun t => a10 t = 0) p (ej_v a8 i) (ej_cw n (ej_v a7) (ej_v a8) r (ej_v a8 i)) (t + p))) → post 1 (nI p, c, nI n, e, g, a1, a2, a3, a4, a5, a6, a7, a8, a9, b, a11)) :
    wpX_shutBefore post (nI p, c, nI n, e, g, a1, a2, a3, a4, a5, a6, a7, a8, a9, a10, a11) (nI r) := by
  have h : ∃ f, wX_shutBefore_5 post (nI r) (nI p) c (nI n) e g a1 a2 a3 a4 a5 a6 a7 a8 a9 a10 a11 f (ej_i 41) (nI 0) :=
    pk_loop (fun f i (s : Int) => wX_shutBefore_5 post (nI r) (nI p) c (nI n) e g a1 a2 a3 a4 a5 a6 a7 a8 a9 a10 a11 f (ej_i s) (nI i))
      (fun i s => -1 ≤ s ∧ s ≤ 41 ∧ ∀ x : Nat, x ≤ 41 → ((x : Int) ≤ s ↔ ∀ j, j < i → 1 ≤ ej_cw n (ej_v a7) (ej_v a8) r (ej_v a8 j) → ej_Fit (fun t => a10 t = 0) p (ej_v a8 j) (ej_cw n (ej_v a7) (ej_v a8) r (ej_v a8 j)) x)) n 0 41 (by omega)
      ⟨by omega, by omega, fun x hx => ⟨fun _ j hj => absurd hj (by omega), fun _ => by omega⟩⟩
      (fun f s h => pk_le n n (fun _ => ?_) (fun z => absurd z (by omega)))
      (fun f i s hi h hw => pk_le n i (fun z => absurd z (by omega)) (fun _ => ⟨pk_in i 8 (by omega), nm_r (ej_rd h8 hi) ?_⟩))
  · rw [← show (41 : Int32) = ej_i 41 by decide] at h
    exact h
  · obtain ⟨h1, h2, h3⟩ := h
    have h4 : ∀ x : Nat, ((x : Int) ≤ s ↔ ∀ j, j < n → 1 ≤ ej_cw n (ej_v a7) (ej_v a8) r (ej_v a8 j) → ej_Fit (fun t => a10 t = 0) p (ej_v a8 j) (ej_cw n (ej_v a7) (ej_v a8) r (ej_v a8 j)) x) := by
      intro x
      by_cases hx : x ≤ 41
      · exact h3 x hx
      · refine ⟨fun q => absurd q (by omega), fun q => ?_⟩
        obtain ⟨j, hj1, hj2⟩ := hj
        have := ej_fit_le _ _ (q j hj1 (ej_ct_pos hj1 ⟨by omega, Nat.le_refl _⟩))
        have := ej_v40 h8 hj1
        omega
    refine ej_ble r s (fun q => ?_) (fun q => H0 ?_) (ej_n r) rfl
    · have hf := (h4 r).mp q
      have nx : ∀ t : Nat, ¬ ((t + p : Nat) : Int) ≤ s ↔ ∃ i, i < n ∧ 1 ≤ ej_cw n (ej_v a7) (ej_v a8) r (ej_v a8 i) ∧ ¬ ej_Fit (fun t => a10 t = 0) p (ej_v a8 i) (ej_cw n (ej_v a7) (ej_v a8) r (ej_v a8 i)) (t + p) := by
        intro t
        rw [h4 (t + p)]
        constructor
        · intro hn'
          apply Classical.byContradiction
          intro hx
          refine hn' (fun j hj1 hj2 => ?_)
          apply Classical.byContradiction
          intro hz
          exact hx ⟨j, hj1, hj2, hz⟩
        · rintro ⟨i, hi1, hi2, hi3⟩ hx
          exact hi3 (hx i hi1 hi2)
      refine ej_ble ((r : Int) + p) s (fun q' => H1 a10 hf (fun t => ?_)) (fun q' => ?_) (by rw [ej_n, ej_n, ej_add]) rfl
      · refine ⟨fun z => ⟨z, fun ⟨z1, z2⟩ => (nx t).mpr z2 (by omega)⟩, fun z => z.1⟩
      · have t0 : wpX_shutBetween (fun u => post 1 u) (nI p, c, nI n, e, g, a1, a2, a3, a4, a5, a6, a7, a8, a9, a10, a11) (ej_i (s - p)) (nI r) := by
          refine ej_w_sb (by omega) (by omega) (by omega) (fun b hb => H1 b hf (fun t => ?_))
          rw [hb t]
          refine and_congr_right (fun _ => not_congr ?_)
          rw [← nx t]
          constructor
          · rintro ⟨z1, z2⟩
            exact ⟨z2, by omega⟩
          · rintro ⟨z1, z2⟩
            exact ⟨by omega, z1⟩
        rw [← ej_sub, ← ej_n p] at t0
        exact t0
    · apply Classical.byContradiction
      intro hx
      have := (h4 r).mpr (fun j hj1 hj2 => by
        apply Classical.byContradiction
        intro hz
        exact hx ⟨j, hj1, hj2, hz⟩)
      omega
  · obtain ⟨h1, h2, h3⟩ := h
    have v8 := ej_v40 h8 hi
    have hcw : ej_cw n (ej_v a7) (ej_v a8) r (ej_v a8 i) ≤ n := ej_ct_le _ n
    refine ej_w_count hn h7 h8 (by omega) (by omega) (ej_w_back hp1 hp6 v8 (by omega) (fun y g1 g2 g3 g4 => ?_))
    refine ej_ble s y (fun q => nm_r (nI_1 i) (hw s ⟨h1, h2, fun x hx => ?_⟩)) (fun q => nm_r (nI_1 i) (hw y ⟨g1, g2, fun x hx => ?_⟩))
    · rw [h3 x hx]
      constructor
      · intro z
        refine lt_s z (fun z' => (g4 z' x).mpr ?_)
        have := (h3 x hx).mpr z
        omega
      · intro z j hj1
        exact z j (by omega)
    · constructor
      · intro z
        refine lt_s ((h3 x hx).mp (by omega)) (fun z' => (g4 z' x).mpr z)
      · intro z
        by_cases hc : 1 ≤ ej_cw n (ej_v a7) (ej_v a8) r (ej_v a8 i)
        · exact (g4 hc x).mp (z i (by omega) hc)
        · have := g3 (by omega)
          omega
end
section
theorem ej_w_dp {post : Int32 → St2 → Prop} {c e g : Int32} {a1 a2 a3 a4 a5 a6 a7 a8 a9 a10 a11 : Nat → Int32} {p n : Nat} {B : Nat → Prop} (hp1 : 1 ≤ p) (hp6 : p ≤ 6) (hn : n ≤ 7) (h7 : ej_S n a7) (h8 : ej_S n a8)
    (hreg : ej_Reg n (ej_v a7) (ej_v a8) p (fun t => a10 t = 0) 0) (hav : ej_Av n (ej_v a7) (ej_v a8) p B (fun t => a10 t = 0))
    (H : ∀ (t : Nat) (b : Nat → Int32), t ≤ 40 → ej_Sd n (ej_v a7) (ej_v a8) p (fun t => a10 t = 0) (fun _ => False) t → ej_Mn n (ej_v a7) (ej_v a8) p B n t → post 1 (nI p, c, nI n, nI t, g, a1, a2, a3, a4, a5, a6, a7, a8, b, a10, a11)) :
    wpX_dispatch post (nI p, c, nI n, e, g, a1, a2, a3, a4, a5, a6, a7, a8, a9, a10, a11) := by
  have second : ∀ b : Nat → Int32, (∀ j, j < n → b j = 0) → ∃ f, wX_dispatch_27 post (nI p) c (nI n) e g f (nI 0) (nI 0) a1 a2 a3 a4 a5 a6 a7 a8 b a10 a11 := by
    intro b hb
    refine pk_loop (fun f i (s : Nat × (Nat → Int32)) => wX_dispatch_27 post (nI p) c (nI n) e g f (nI s.1) (nI i) a1 a2 a3 a4 a5 a6 a7 a8 s.2 a10 a11)
      (fun i s => s.1 ≤ 40 ∧ ej_ct (fun j => ¬ s.2 j = 0) n = i ∧ ej_Dp n (ej_v a7) (ej_v a8) p (fun t => a10 t = 0) (fun j => s.2 j = 0) s.1 ∧ ej_Sd n (ej_v a7) (ej_v a8) p (fun t => a10 t = 0) (fun j => s.2 j = 0) s.1 ∧ ej_Mn n (ej_v a7) (ej_v a8) p B i s.1)
      n 0 (0, b) (by omega) ⟨Nat.zero_le _, ej_ct_0 n (fun i hi z => z (hb i hi)), ej_dp_0 hreg hb, ej_sd_0 hb, fun _ _ y _ => Nat.zero_le y⟩ ?_ ?_
    · intro f s h
      obtain ⟨h1, h2, h3, ⟨q, h4, h5⟩, h6⟩ := h
      have hall := ej_ct_full (P := fun j => ¬ s.2 j = 0) n (by omega)
      exact pk_le n n (fun _ => H s.1 s.2 h1 ⟨q, fun i hi _ => h4 i hi (hall i hi), fun i j hi hj _ _ e => h5 i j hi hj (hall i hi) (hall j hj) e⟩ h6) (fun z => absurd z (by omega))
    · intro f i s hi h hw
      obtain ⟨t, u⟩ := s
      obtain ⟨h1, h2, h3, h4, h6⟩ := h
      dsimp only at h1 h2 h3 h4 h6
      refine pk_le n i (fun z => absurd z (by omega)) (fun _ => ?_)
      refine ej_w_lwr hn h7 (fun rd q1 q2 q3 => ?_)
      have hex : ∃ j, j < n ∧ u j = 0 := by
        apply Classical.byContradiction
        intro hx
        have := ej_ct_all (P := fun j => ¬ u j = 0) n (fun j hj z => hx ⟨j, hj, z⟩)
        omega
      have q3' : ∃ j, j < n ∧ u j = 0 ∧ ej_v a7 j = rd := by
        rcases q3 with z | z
        · obtain ⟨j, hj, hz⟩ := hex
          have := q2 j hj hz
          have := ej_v40 h7 hj
          omega
        · exact z
      have hrd : rd ≤ 40 := by
        obtain ⟨j, hj, _, hz⟩ := q3'
        have := ej_v40 h7 hj
        omega
      have tail : wX_dispatch_51 post (wX_dispatch_27 post (nI p) c (nI n) e g f) (nI i) (nI (max t rd)) (nI p) c (nI n) e g a1 a2 a3 a4 a5 a6 a7 a8 u a10 a11 := by
        unfold wX_dispatch_51
        refine ej_w_oaa (by omega) (fun t' g1 g2 g3 g4 => ?_)
        refine ej_w_mu hn h7 h8 (by omega) (fun no => ?_) (fun x hx hx9 hxR hxD => ?_)
        · obtain ⟨j, hj, hz, hz'⟩ := q3'
          exact absurd (no j hj hz) (fun z => z (by omega))
        · have v8 := ej_v40 h8 hx
          have hU' : ∀ l, upd u x 1 l = 0 ↔ u l = 0 ∧ l ≠ x := by
            intro l
            by_cases e : l = x
            · rw [e, pk_us]
              exact ⟨fun z => absurd z (by decide), fun z => absurd rfl z.2⟩
            · rw [pk_un e]
              exact ⟨fun z => ⟨z, e⟩, fun z => z.1⟩
          obtain ⟨ho, hd, hdp⟩ := ej_dp_step (U' := fun l => upd u x 1 l = 0) hp1 (fun i hi => ej_v40 h8 hi) hreg h3 q3' q2 g1 g3 g4 hx hx9 hxR hxD hU'
          refine br_f (nI_pos (by omega)) ⟨pk_in x 8 (by omega), pk_le (t' + p) (ej_v a8 x) (fun _ => ⟨pk_in x 8 (by omega), nm_r (e' := upd u x 1) (by rw [nI_clamp (show x < 2 ^ 31 by omega)]) (nm_r (nI_add t' p) (nm_r (nI_1 i) (hw (t' + p, upd u x 1) ⟨by show t' + p ≤ 40; omega, ?_, hdp, ?_, ?_⟩)))⟩) (fun z => absurd hd (by omega)) (nI_add t' p) (ej_rd h8 hx)⟩
          · rw [← h2]
            refine ej_ct_add (P := fun j => ¬ u j = 0) (j := x) (fun z => z hx9) n hx (fun k hk => ?_)
            show ¬ upd u x 1 k = 0 ↔ _
            rw [hU' k]
            constructor
            · intro z
              by_cases e : k = x
              · exact Or.inr e
              · exact Or.inl (fun z' => z ⟨z', e⟩)
            · rintro (z | z) z'
              · exact z z'.1
              · exact z'.2 z
          · exact ej_sd_step h4 (by omega) ho hxR hd hU'
          · exact ej_mn_step hp1 hav h6 h2 q2 g3
      refine pk_le rd t (fun z => ?_) (fun z => ?_)
      · rw [show max t rd = t by omega] at tail
        exact tail
      · rw [show max t rd = rd by omega] at tail
        exact tail
  exact pk_loop (fun f i s => wX_dispatch_2 post (nI p) c (nI n) e g f (nI i) a1 a2 a3 a4 a5 a6 a7 a8 s a10 a11) (fun i s => ∀ j, j < i → s j = 0) n 0 a9 (by omega) (fun t ht => absurd ht (by omega))
    (fun f s hs => pk_le n n (fun _ => second s hs) (fun q => absurd q (by omega)))
    (fun f i s hi hs hw => pk_le n i (fun q => absurd q (by omega)) (fun _ => ⟨pk_in i 8 (by omega), nm_e (nm_r (nI_1 i) (hw _ (by
      rw [nI_clamp (show i < 2 ^ 31 by omega)]
      refine lt_s (fun t ht => ?_) pk_us
      rw [pk_un (by omega)]
      exact hs t ht)))⟩))
theorem ej_w_fe {post : Int32 → St2 → Prop} {c e g : Int32} {a1 a2 a3 a4 a5 a6 a7 a8 a9 a10 a11 : Nat → Int32} {p n : Nat} (hp1 : 1 ≤ p) (hp6 : p ≤ 6) (hn : n ≤ 7) (h5 : ej_S 4 a5) (h6 : ej_S 4 a6) (h7 : ej_S n a7) (h8 : ej_S n a8)
    (H1 : ∀ (t : Nat) (b b' : Nat → Int32), t ≤ 40 → (∃ q, ej_G (fun i => i < n) (ej_v a7) (ej_v a8) p (ej_B p a4 a5 a6) q) → (∀ q, ej_G (fun i => i < n) (ej_v a7) (ej_v a8) p (ej_B p a4 a5 a6) q → ∀ y, (∀ i, i < n → q i + p ≤ y) → t ≤ y) → post 1 (nI p, c, nI n, nI t, g, a1, a2, a3, a4, a5, a6, a7, a8, b, b', a11))
    (H0 : ∀ b' : Nat → Int32, (∀ q, ¬ ej_G (fun i => i < n) (ej_v a7) (ej_v a8) p (ej_B p a4 a5 a6) q) → post 0 (nI p, c, nI n, e, g, a1, a2, a3, a4, a5, a6, a7, a8, a9, b', a11)) :
    wpX_feasible post (nI p, c, nI n, e, g, a1, a2, a3, a4, a5, a6, a7, a8, a9, a10, a11) := by
  refine ej_w_sbl hp6 h5 h6 (fun s0 hs0 => ?_)
  refine pk_loop (fun f i (s : Nat × (Nat → Int32)) => wX_feasible_9 post f (nI s.1) (nI i) (nI p) c (nI n) e g a1 a2 a3 a4 a5 a6 a7 a8 a9 s.2 a11)
    (fun i s => s.1 ≤ 41 ∧ i ≤ ej_ct (fun j => s.1 ≤ ej_v a7 j) n ∧ ej_Reg n (ej_v a7) (ej_v a8) p (fun t => s.2 t = 0) s.1 ∧ ej_Av n (ej_v a7) (ej_v a8) p (ej_B p a4 a5 a6) (fun t => s.2 t = 0) ∧ ∀ t, t < 48 → s.2 t = 0 → ¬ ej_B p a4 a5 a6 t)
    8 0 (41, s0) (by omega) ⟨Nat.le_refl _, Nat.zero_le _, ?_, ?_, fun t ht => (hs0 t ht).mp⟩ ?_ ?_
  · intro j hj hx
    have := ej_v40 h7 hj
    dsimp only at hx
    omega
  · intro q hq i hi
    have h1 := hq.1 i hi
    have := ej_v40 h8 hi
    exact (hs0 (q i) (by omega)).mpr h1.2.2
  · intro f s h
    have := ej_ct_le (fun j => s.1 ≤ ej_v a7 j) n
    exact absurd h.2.1 (by omega)
  · intro f i s hi h hw
    obtain ⟨a, u⟩ := s
    obtain ⟨g1, g2, g3, g4, g5⟩ := h
    dsimp only at g1 g2 g3 g4 g5
    refine pk_le 8 i (fun z => absurd z (by omega)) (fun _ => ?_)
    refine ej_w_grb hn h7 (by omega) (fun hall => ?_) (fun j hj hlt hmax => ?_)
    · refine br_f (by decide) (ej_w_dp (B := ej_B p a4 a5 a6) hp1 hp6 hn h7 h8 (fun j hj _ => g3 j hj (hall j hj)) g4 (fun t b ht hsd hmn => ⟨rfl, H1 t b u ht ?_ (fun q hq y hy => hmn q hq y ?_)⟩))
      · obtain ⟨q, q1, q2⟩ := hsd
        refine ⟨q, fun i hi => ?_, fun i j hi hj e => q2 i j hi hj (fun z => z) (fun z => z) e⟩
        obtain ⟨r1, r2, r3, r4⟩ := q1 i hi (fun z => z)
        exact ⟨r1, r2, g5 _ (by omega) r3⟩
      · rw [ej_ct_all (P := fun i => q i + p ≤ y) n hy]
        exact Nat.le_refl n
    · have v7 := ej_v40 h7 hj
      refine br_t (nI_pos' (by omega)) (ej_w_sbf hp1 hp6 hn h7 h8 v7 ⟨j, hj, rfl⟩ (fun hf => ?_) (fun b hf hop => ?_))
      · refine br_t rfl (H0 u (fun q hq => ?_))
        obtain ⟨k, hk, hk1, hk2⟩ := hf
        exact ej_reg_fail hp1 g4 hk1 hk2 hq
      · obtain ⟨r1, r2⟩ := ej_reg_step (op' := fun t => b t = 0) hp1 g4 g3 hmax hlt hf hop
        refine br_f (by decide) (nm_r (nI_1 i) (hw (ej_v a7 j, b) ⟨by show ej_v a7 j ≤ 41; omega, ?_, r2, r1, fun t ht hz => g5 t ht ((hop t).mp hz).1⟩))
        show i + 1 ≤ ej_ct (fun j' => ej_v a7 j ≤ ej_v a7 j') n
        have := ej_ct_lt (P := fun j' => a ≤ ej_v a7 j') (Q := fun j' => ej_v a7 j ≤ ej_v a7 j') hj (Nat.le_refl _) (fun k hk z => ⟨by omega, fun e => by rw [e] at z; omega⟩)
        omega
end
section
theorem ej_tw_ask : wpX_ask_2 = wpX_ask := rfl
theorem ej_tw_ap88 : wX_askPinned_2_88 = wX_askPinned_88 := rfl
theorem ej_tw_ap61 : wX_askPinned_2_61 = wX_askPinned_61 := rfl
theorem ej_tw_ap39 : wX_askPinned_2_39 = wX_askPinned_39 := rfl
theorem ej_tw_ap7 : wX_askPinned_2_7 = wX_askPinned_7 := by
  delta wX_askPinned_2_7 wX_askPinned_7
  rfl
theorem ej_tw_ap : wpX_askPinned_2 = wpX_askPinned := by
  delta wpX_askPinned_2 wpX_askPinned
  rw [ej_tw_ap7]
theorem ej_tw_sb12 : wX_shutBetween_2_12 = wX_shutBetween_12 := by
  delta wX_shutBetween_2_12 wX_shutBetween_12
  rfl
theorem ej_tw_sb : wpX_shutBetween_2 = wpX_shutBetween := by
  delta wpX_shutBetween_2 wpX_shutBetween
  rw [ej_tw_sb12]
theorem ej_tw_sbl23 : wX_shutBlocks_2_23 = wX_shutBlocks_23 := by
  delta wX_shutBlocks_2_23 wX_shutBlocks_23 wX_shutBlocks_2_23._f wX_shutBlocks_23._f
  rw [ej_tw_sb]
theorem ej_tw_sbl2 : wX_shutBlocks_2_2 = wX_shutBlocks_2 := by
  delta wX_shutBlocks_2_2 wX_shutBlocks_2 wX_shutBlocks_2_2._f wX_shutBlocks_2._f
  rw [ej_tw_sbl23]
theorem ej_tw_sbl : wpX_shutBlocks_2 = wpX_shutBlocks := by
  delta wpX_shutBlocks_2 wpX_shutBlocks
  rw [ej_tw_sbl2]
theorem ej_tw_dp51 : wX_dispatch_2_51 = wX_dispatch_51 := rfl
theorem ej_tw_dp27 : wX_dispatch_2_27 = wX_dispatch_27 := by
  delta wX_dispatch_2_27 wX_dispatch_27 wX_dispatch_2_27._f wX_dispatch_27._f
  rw [ej_tw_dp51]
theorem ej_tw_dp2 : wX_dispatch_2_2 = wX_dispatch_2 := by
  delta wX_dispatch_2_2 wX_dispatch_2 wX_dispatch_2_2._f wX_dispatch_2._f
  rw [ej_tw_dp27]
theorem ej_tw_dp : wpX_dispatch_2 = wpX_dispatch := by
  delta wpX_dispatch_2 wpX_dispatch
  rw [ej_tw_dp2]
theorem ej_tw_sbf5 : wX_shutBefore_2_5 = wX_shutBefore_5 := by
  delta wX_shutBefore_2_5 wX_shutBefore_5 wX_shutBefore_2_5._f wX_shutBefore_5._f
  rw [ej_tw_sb]
theorem ej_tw_sbf : wpX_shutBefore_2 = wpX_shutBefore := by
  delta wpX_shutBefore_2 wpX_shutBefore
  rw [ej_tw_sbf5]
theorem ej_tw_fe9 : wX_feasible_2_9 = wX_feasible_9 := by
  delta wX_feasible_2_9 wX_feasible_9 wX_feasible_2_9._f wX_feasible_9._f
  rw [ej_tw_sbf, ej_tw_dp]
theorem ej_tw_fe : wpX_feasible_2 = wpX_feasible := by
  delta wpX_feasible_2 wpX_feasible
  rw [ej_tw_sbl, ej_tw_fe9]
theorem ej_tw_eo23 : wX_earliestOf_23 = wX_earliestOf_2_23 := by
  delta wX_earliestOf_23 wX_earliestOf_2_23 wX_earliestOf_23._f wX_earliestOf_2_23._f
  rw [ej_tw_fe, ej_tw_ap, ej_tw_ask]
theorem ej_tw_eo : wpX_earliestOf = wpX_earliestOf_2 := by
  delta wpX_earliestOf wpX_earliestOf_2
  rw [ej_tw_eo23]
end
section
/-- the jobs there are -/
def ej_J (C : Nat) (a1 : Nat → Int32) (j : Nat) : Prop := j < C ∧ ¬ a1 j = 0
def ej_rr (pins : Nat) (a2 a11 : Nat → Int32) (j : Nat) : Nat := if j < pins then ej_v a11 j else ej_v a2 j
def ej_dd (p pins : Nat) (a3 a11 : Nat → Int32) (j : Nat) : Nat := if j < pins then ej_v a11 j + p else ej_v a3 j
theorem ej_rr0 (a2 a11 : Nat → Int32) : ej_rr 0 a2 a11 = ej_v a2 := funext (fun j => if_neg (by omega))
theorem ej_dd0 (p : Nat) (a3 a11 : Nat → Int32) : ej_dd p 0 a3 a11 = ej_v a3 := funext (fun j => if_neg (by omega))
theorem ej_w_ask {post : St2 → Prop} {l c e g : Int32} {a1 a2 a3 a4 a5 a6 a7 a8 a9 a10 a11 : Nat → Int32} {n r d : Nat} (hn : n < 8) (hr : r < 128) (hd : d < 128) (H : post (l, c, nI (n + 1), e, g, a1, a2, a3, a4, a5, a6, upd a7 n (nI r), upd a8 n (nI d), a9, a10, a11)) : wpX_ask post (l, c, nI n, e, g, a1, a2, a3, a4, a5, a6, a7, a8, a9, a10, a11) (nI r) (nI d) :=
  pk_le 8 n (fun z => absurd z (by omega)) (fun _ => ⟨pk_in n 8 hn, nm_r (e' := upd a7 n (nI r)) (by rw [nI_clamp (by omega), ej_b8 r hr]) ⟨pk_in n 8 hn, nm_r (e' := upd a8 n (nI d)) (by rw [nI_clamp (by omega), ej_b8 d hd]) (nm_r (nI_1 n) H)⟩⟩)
theorem ej_w_ap {post : St2 → Prop} {k e g : Int32} {a1 a2 a3 a4 a5 a6 a7 a8 a9 a10 a11 : Nat → Int32} {p C pins : Nat} {x : Int32} (hC : C ≤ 6) (hp6 : p ≤ 6) (hpi : pins ≤ 100) (h2 : ej_S 8 a2) (h3 : ej_S 8 a3) (h11 : ej_S 8 a11) (hpin : ∀ j, j < C → j < pins → ¬ a1 j = 0 → ej_v a11 j + p ≤ 40)
    (H : ∀ (n : Nat) (b7 b8 : Nat → Int32), n ≤ C → ej_S n b7 → ej_S n b8 → ej_M n (fun j => ej_J C a1 j ∧ nI j ≠ x) (ej_rr pins a2 a11) (ej_dd p pins a3 a11) (ej_v b7) (ej_v b8) → post (nI p, nI C, nI n, e, g, a1, a2, a3, a4, a5, a6, b7, b8, a9, a10, a11)) :
    wpX_askPinned post (nI p, nI C, k, e, g, a1, a2, a3, a4, a5, a6, a7, a8, a9, a10, a11) x (nI pins) := by
  refine pk_loop (fun f i (s : Nat × (Nat → Int32) × (Nat → Int32)) => wX_askPinned_7 post x (nI pins) f (nI i) (nI p) (nI C) (nI s.1) e g a1 a2 a3 a4 a5 a6 s.2.1 s.2.2 a9 a10 a11)
    (fun i s => s.1 ≤ i ∧ ej_S s.1 s.2.1 ∧ ej_S s.1 s.2.2 ∧ ej_M s.1 (fun j => ej_J i a1 j ∧ nI j ≠ x) (ej_rr pins a2 a11) (ej_dd p pins a3 a11) (ej_v s.2.1) (ej_v s.2.2))
    C 0 (0, a7, a8) (by omega) ⟨Nat.le_refl 0, ej_S0, ej_S0, ej_M_0 (fun j z => absurd z.1.1 (by omega))⟩ ?_ ?_
  · intro f s h
    exact pk_le C C (fun _ => H s.1 s.2.1 s.2.2 h.1 h.2.1 h.2.2.1 h.2.2.2) (fun z => absurd z (by omega))
  · intro f i s hi h hw
    obtain ⟨n, b7, b8⟩ := s
    obtain ⟨g1, g2, g3, g4⟩ := h
    dsimp only at g1 g2 g3 g4
    have skip : (a1 i = 0 ∨ nI i = x) → wX_askPinned_7 post x (nI pins) f (nI (i + 1)) (nI p) (nI C) (nI n) e g a1 a2 a3 a4 a5 a6 b7 b8 a9 a10 a11 := fun hs => hw (n, b7, b8) ⟨by show n ≤ i + 1; omega, g2, g3, ej_M_congr g4 (fun j => by
      constructor
      · rintro ⟨⟨q1, q2⟩, q3⟩
        refine ⟨⟨?_, q2⟩, q3⟩
        have : j ≠ i := fun e => by
          rw [e] at q2 q3
          exact hs.elim q2 q3
        omega
      · rintro ⟨⟨q1, q2⟩, q3⟩
        exact ⟨⟨by omega, q2⟩, q3⟩)⟩
    refine pk_le C i (fun z => absurd z (by omega)) (fun _ => ⟨pk_in i 8 (by omega), ?_⟩)
    rw [nI_clamp (show i < 2 ^ 31 by omega)]
    refine br_c (fun hu => nm_r (nI_1 i) (skip (Or.inl hu))) (fun hu => br_c (fun hx => nm_r (nI_1 i) (skip (Or.inr hx))) (fun hx => ?_))
    have ask : ∀ r d, r ≤ 40 → d ≤ 40 → ej_rr pins a2 a11 i = r → ej_dd p pins a3 a11 i = d → wX_askPinned_88 post (wX_askPinned_7 post x (nI pins) f) x (nI pins) (nI i) (nI r) (nI d) (nI p) (nI C) (nI n) e g a1 a2 a3 a4 a5 a6 b7 b8 a9 a10 a11 := by
      intro r d hr hd er ed
      unfold wX_askPinned_88
      refine ej_w_ask (by omega) (by omega) (by omega) (nm_r (nI_1 i) (hw (n + 1, upd b7 n (nI r), upd b8 n (nI d)) ⟨by show n + 1 ≤ i + 1; omega, ej_Sa g2 hr, ej_Sa g3 hd, ?_⟩))
      refine ej_M_add (x := i) g4 (fun z => absurd z.1.1 (by omega)) (fun k hk => ej_vn (by omega)) (fun k hk => ej_vn (by omega)) (by rw [er]; exact ej_vs (by omega)) (by rw [ed]; exact ej_vs (by omega)) (fun j _ => ⟨rfl, rfl⟩) (fun j => ?_)
      constructor
      · rintro ⟨⟨q1, q2⟩, q3⟩
        by_cases e : j = i
        · exact Or.inr e
        · exact Or.inl ⟨⟨by omega, q2⟩, q3⟩
      · rintro (⟨⟨q1, q2⟩, q3⟩ | e)
        · exact ⟨⟨by omega, q2⟩, q3⟩
        · rw [e]
          exact ⟨⟨by omega, hu⟩, hx⟩
    refine pk_le pins i (fun z => ?_) (fun z => ?_)
    · refine br_t rfl ⟨pk_in i 8 (by omega), br_t rfl ⟨pk_in i 8 (by omega), ?_⟩⟩
      rw [ej_rd h2 (show i < 8 by omega), ej_rd h3 (show i < 8 by omega)]
      exact ask _ _ (ej_v40 h2 (by omega)) (ej_v40 h3 (by omega)) (if_neg (by omega)) (if_neg (by omega))
    · refine br_f (by decide) ⟨pk_in i 8 (by omega), br_f (by decide) ⟨pk_in i 8 (by omega), ?_⟩⟩
      rw [ej_rd h11 (show i < 8 by omega), nI_add]
      exact ask _ _ (ej_v40 h11 (by omega)) (hpin i hi z hu) (if_pos z) (if_pos z)
theorem ej_w_ab {post : St2 → Prop} {k e g : Int32} {a1 a2 a3 a4 a5 a6 a7 a8 a9 a10 a11 : Nat → Int32} {p C : Nat} {x : Int32} (hC : C ≤ 6) (hp6 : p ≤ 6) (h2 : ej_S 8 a2) (h3 : ej_S 8 a3) (h11 : ej_S 8 a11)
    (H : ∀ (n : Nat) (b7 b8 : Nat → Int32), n ≤ C → ej_S n b7 → ej_S n b8 → ej_M n (fun j => ej_J C a1 j ∧ nI j ≠ x) (ej_v a2) (ej_v a3) (ej_v b7) (ej_v b8) → post (nI p, nI C, nI n, e, g, a1, a2, a3, a4, a5, a6, b7, b8, a9, a10, a11)) :
    wpX_askAllBut post (nI p, nI C, k, e, g, a1, a2, a3, a4, a5, a6, a7, a8, a9, a10, a11) x := by
  unfold wpX_askAllBut
  refine ej_w_ap (pins := 0) hC hp6 (by omega) h2 h3 h11 (fun j _ z => absurd z (by omega)) (fun n b7 b8 q1 q2 q3 q4 => ?_)
  rw [ej_rr0, ej_dd0] at q4
  exact H n b7 b8 q1 q2 q3 q4
theorem ej_w_aa {post : St2 → Prop} {k e g : Int32} {a1 a2 a3 a4 a5 a6 a7 a8 a9 a10 a11 : Nat → Int32} {p C : Nat} (hC : C ≤ 6) (hp6 : p ≤ 6) (h2 : ej_S 8 a2) (h3 : ej_S 8 a3) (h11 : ej_S 8 a11)
    (H : ∀ (n : Nat) (b7 b8 : Nat → Int32), n ≤ C → ej_S n b7 → ej_S n b8 → ej_M n (ej_J C a1) (ej_v a2) (ej_v a3) (ej_v b7) (ej_v b8) → post (nI p, nI C, nI n, e, g, a1, a2, a3, a4, a5, a6, b7, b8, a9, a10, a11)) :
    wpX_askAll post (nI p, nI C, k, e, g, a1, a2, a3, a4, a5, a6, a7, a8, a9, a10, a11) := by
  unfold wpX_askAll
  refine ej_w_ab hC hp6 h2 h3 h11 (fun n b7 b8 q1 q2 q3 q4 => ?_)
  refine H n b7 b8 q1 q2 q3 (ej_M_congr q4 (fun j => ⟨fun z => ⟨z, fun e => ?_⟩, fun z => z.1⟩))
  have := ej_nlm j (by have := z.1; omega)
  rw [e] at this
  exact this (by decide)
/-- feasible, said of the jobs asked about -/
theorem ej_w_fq {post : Int32 → St2 → Prop} {c e g : Int32} {a1 a2 a3 a4 a5 a6 a7 a8 a9 a10 a11 : Nat → Int32} {p n : Nat} {J : Nat → Prop} {rr dd : Nat → Nat} (hp1 : 1 ≤ p) (hp6 : p ≤ 6) (hn : n ≤ 7) (h5 : ej_S 4 a5) (h6 : ej_S 4 a6) (h7 : ej_S n a7) (h8 : ej_S n a8) (hM : ej_M n J rr dd (ej_v a7) (ej_v a8))
    (H1 : ∀ (t : Nat) (b b' : Nat → Int32), t ≤ 40 → (∃ q, ej_G J rr dd p (ej_B p a4 a5 a6) q) → (∀ q, ej_G J rr dd p (ej_B p a4 a5 a6) q → ∀ y, (∀ j, J j → q j + p ≤ y) → t ≤ y) → post 1 (nI p, c, nI n, nI t, g, a1, a2, a3, a4, a5, a6, a7, a8, b, b', a11))
    (H0 : ∀ b' : Nat → Int32, (∀ q, ¬ ej_G J rr dd p (ej_B p a4 a5 a6) q) → post 0 (nI p, c, nI n, e, g, a1, a2, a3, a4, a5, a6, a7, a8, a9, b', a11)) :
    wpX_feasible post (nI p, c, nI n, e, g, a1, a2, a3, a4, a5, a6, a7, a8, a9, a10, a11) :=
  ej_w_fe hp1 hp6 hn h5 h6 h7 h8 (fun t b b' ht ⟨q, hq⟩ hmin => H1 t b b' ht (ej_M_up hM hq) (fun q' hq' y hy => by
    obtain ⟨q2, hq2, hq3⟩ := ej_M_down hM hq'
    exact hmin q2 hq2 y (hq3 y hy))) (fun b' hno => H0 b' (fun q hq => by
    obtain ⟨q2, hq2, _⟩ := ej_M_down hM hq
    exact hno q2 hq2))
end
section
theorem ej_half {lo hi i : Nat} (h : lo < hi) (hi8 : i < 8) (hm : hi - lo < 2 ^ (8 - i)) : lo ≤ (lo + hi) / 2 ∧ (lo + hi) / 2 < hi ∧ (lo + hi) / 2 - lo < 2 ^ (8 - (i + 1)) ∧ hi - ((lo + hi) / 2 + 1) < 2 ^ (8 - (i + 1)) := by
  have e : 2 ^ (8 - i) = 2 * 2 ^ (8 - (i + 1)) := by
    rw [show 8 - i = (8 - (i + 1)) + 1 by omega, Nat.pow_succ, Nat.mul_comm]
  rw [e] at hm
  generalize 2 ^ (8 - (i + 1)) = M at *
  omega
theorem ej_halfU {lo hi i : Nat} (h : lo < hi) (hi8 : i < 8) (hm : hi - lo < 2 ^ (8 - i)) : lo < (lo + hi + 1) / 2 ∧ (lo + hi + 1) / 2 ≤ hi ∧ hi - (lo + hi + 1) / 2 < 2 ^ (8 - (i + 1)) ∧ (lo + hi + 1) / 2 - 1 - lo < 2 ^ (8 - (i + 1)) := by
  have e : 2 ^ (8 - i) = 2 * 2 ^ (8 - (i + 1)) := by
    rw [show 8 - i = (8 - (i + 1)) + 1 by omega, Nat.pow_succ, Nat.mul_comm]
  rw [e] at hm
  generalize 2 ^ (8 - (i + 1)) = M at *
  omega
theorem ej_shr1 {n : Nat} (h : n < 2 ^ 31) : nI n >>> ((1 : Int32) &&& 31) = nI (n / 2) := pk_shrN h ((1 : Int32) &&& 31) 1 (by decide)
/-- a window changed at one job -/
def ej_at (f : Nat → Nat) (x v : Nat) (j : Nat) : Nat := if j = x then v else f j
theorem ej_at_s {f : Nat → Nat} {x v : Nat} : ej_at f x v x = v := if_pos rfl
theorem ej_at_n {f : Nat → Nat} {x v j : Nat} (h : j ≠ x) : ej_at f x v j = f j := if_neg h
theorem ej_but {C id : Nat} {a1 : Nat → Int32} (hC : C ≤ 6) (hid : ej_J C a1 id) (j : Nat) : ej_J C a1 j ↔ (ej_J C a1 j ∧ nI j ≠ nI id) ∨ j = id := by
  constructor
  · intro z
    by_cases e : j = id
    · exact Or.inr e
    · refine Or.inl ⟨z, fun q => e ?_⟩
      exact (nI_eq (by have := z.1; omega) (by have := hid.1; omega)).mp q
  · rintro (z | z)
    · exact z.1
    · rw [z]; exact hid
/-- a narrower window at one job -/
theorem ej_G_wide {J B : Nat → Prop} {rr dd q : Nat → Nat} {p x r d : Nat} (h : ej_G J (ej_at rr x r) (ej_at dd x d) p B q) (hr : rr x ≤ r) (hd : d ≤ dd x) : ej_G J rr dd p B q := by
  refine ⟨fun j hj => ?_, h.2⟩
  have g := h.1 j hj
  by_cases e : j = x
  · subst e
    rw [ej_at_s, ej_at_s] at g
    exact ⟨by omega, by omega, g.2.2⟩
  · rw [ej_at_n e, ej_at_n e] at g
    exact g
theorem ej_G_tight {J B : Nat → Prop} {rr dd q : Nat → Nat} {p x r d : Nat} (h : ej_G J rr dd p B q) (hr : J x → r ≤ q x) (hd : J x → q x + p ≤ d) : ej_G J (ej_at rr x r) (ej_at dd x d) p B q := by
  refine ⟨fun j hj => ?_, h.2⟩
  have g := h.1 j hj
  by_cases e : j = x
  · subst e
    rw [ej_at_s, ej_at_s]
    exact ⟨hr hj, hd hj, g.2.2⟩
  · rw [ej_at_n e, ej_at_n e]
    exact g
theorem ej_w_eo {post : Int32 → St2 → Prop} {k e g : Int32} {a1 a2 a3 a4 a5 a6 a7 a8 a9 a10 a11 : Nat → Int32} {p C id pins : Nat} (hp1 : 1 ≤ p) (hp6 : p ≤ 6) (hC : C ≤ 6) (h2 : ej_S 8 a2) (h3 : ej_S 8 a3) (h5 : ej_S 4 a5) (h6 : ej_S 4 a6) (h11 : ej_S 8 a11) (hpin : ∀ j, j < C → j < pins → ¬ a1 j = 0 → ej_v a11 j + p ≤ 40)
    (hid : ej_J C a1 id) (hip : pins ≤ id) (hG : ∃ q, ej_G (ej_J C a1) (ej_rr pins a2 a11) (ej_dd p pins a3 a11) p (ej_B p a4 a5 a6) q)
    (H : ∀ (lo : Nat) (k' e' : Int32) (b7 b8 b9 b10 : Nat → Int32), lo ≤ 40 → (∃ q, ej_G (ej_J C a1) (ej_rr pins a2 a11) (ej_dd p pins a3 a11) p (ej_B p a4 a5 a6) q ∧ q id = lo) → (∀ q, ej_G (ej_J C a1) (ej_rr pins a2 a11) (ej_dd p pins a3 a11) p (ej_B p a4 a5 a6) q → lo ≤ q id) → post (nI lo) (nI p, nI C, k', e', g, a1, a2, a3, a4, a5, a6, b7, b8, b9, b10, a11)) :
    wpX_earliestOf_2 post (nI p, nI C, k, e, g, a1, a2, a3, a4, a5, a6, a7, a8, a9, a10, a11) (nI id) (nI pins) := by
  have i6 : id < 6 := by have := hid.1; omega
  have er : ej_rr pins a2 a11 id = ej_v a2 id := if_neg (by omega)
  have ed : ej_dd p pins a3 a11 id = ej_v a3 id := if_neg (by omega)
  obtain ⟨q0, hq0⟩ := hG
  have w0 := hq0.1 id hid
  rw [er, ed] at w0
  have v2 := ej_v40 h2 (show id < 8 by omega)
  have v3 := ej_v40 h3 (show id < 8 by omega)
  refine ⟨pk_in id 8 (by omega), nm_r (ej_rd h2 (by omega)) ⟨pk_in id 8 (by omega), nm_r (e' := nI (ej_v a3 id - p)) (by rw [ej_rd h3 (show id < 8 by omega), pk_sub (by omega)]) ?_⟩⟩
  refine pk_loop (fun f i (s : Nat × Nat × Int32 × Int32 × (Nat → Int32) × (Nat → Int32) × (Nat → Int32) × (Nat → Int32)) => wX_earliestOf_2_23 post (nI id) (nI pins) f (nI s.1) (nI s.2.1) (nI i) (nI p) (nI C) s.2.2.1 s.2.2.2.1 g a1 a2 a3 a4 a5 a6 s.2.2.2.2.1 s.2.2.2.2.2.1 s.2.2.2.2.2.2.1 s.2.2.2.2.2.2.2 a11)
    (fun i s => s.1 ≤ s.2.1 ∧ s.2.1 + p ≤ ej_v a3 id ∧ ej_v a2 id ≤ s.1 ∧ s.2.1 - s.1 < 2 ^ (8 - i) ∧ (∃ q, ej_G (ej_J C a1) (ej_rr pins a2 a11) (ej_dd p pins a3 a11) p (ej_B p a4 a5 a6) q ∧ q id ≤ s.2.1) ∧ ∀ q, ej_G (ej_J C a1) (ej_rr pins a2 a11) (ej_dd p pins a3 a11) p (ej_B p a4 a5 a6) q → s.1 ≤ q id)
    8 0 (ej_v a2 id, ej_v a3 id - p, k, e, a7, a8, a9, a10) (by omega) ⟨?_, ?_, Nat.le_refl _, ?_, ⟨q0, hq0, ?_⟩, fun q hq => ?_⟩ ?_ ?_
  · show ej_v a2 id ≤ ej_v a3 id - p
    omega
  · show ej_v a3 id - p + p ≤ ej_v a3 id
    omega
  · show ej_v a3 id - p - ej_v a2 id < 256
    omega
  · show q0 id ≤ ej_v a3 id - p
    omega
  · have := (hq.1 id hid).1
    rw [er] at this
    exact this
  · intro f s h
    obtain ⟨lo, hi, k', e', b7, b8, b9, b10⟩ := s
    obtain ⟨g1, g2, g3, g4, ⟨q, g5, g6⟩, g7⟩ := h
    dsimp only at g1 g2 g3 g4 g5 g6 g7
    have g8 := g7 q g5
    have g9 : hi - lo < 1 := g4
    exact pk_le 8 8 (fun _ => H lo k' e' b7 b8 b9 b10 (by omega) ⟨q, g5, by omega⟩ g7) (fun z => absurd z (by omega))
  · intro f i s hi8 h hw
    obtain ⟨lo, hi, k', e', b7, b8, b9, b10⟩ := s
    obtain ⟨g1, g2, g3, g4, ⟨q, g5, g6⟩, g7⟩ := h
    dsimp only at g1 g2 g3 g4 g5 g6 g7
    show wX_earliestOf_2_23 post (nI id) (nI pins) (f + 1) (nI lo) (nI hi) (nI i) (nI p) (nI C) k' e' g a1 a2 a3 a4 a5 a6 b7 b8 b9 b10 a11
    refine pk_le 8 i (fun z => absurd z (by omega)) (fun _ => pk_le hi lo (fun z => ?_) (fun z => nm_r (e' := nI ((lo + hi) / 2)) (by rw [nI_add, ej_shr1 (by omega)]) ?_))
    · have g8 := g7 q g5
      exact H lo k' e' b7 b8 b9 b10 (by omega) ⟨q, g5, by omega⟩ g7
    · obtain ⟨m1, m2, m3, m4⟩ := ej_half z hi8 g4
      generalize (lo + hi) / 2 = mid at *
      refine ej_w_ap hC hp6 (by omega) h2 h3 h11 hpin (fun n c7 c8 r1 r2 r3 r4 => ⟨pk_in id 8 (by omega), ?_⟩)
      rw [ej_rd h2 (show id < 8 by omega), nI_add]
      refine ej_w_ask (by omega) (by omega) (by omega) ?_
      have hM := ej_M_add (x := id) (J' := ej_J C a1) (rr' := ej_at (ej_rr pins a2 a11) id (ej_v a2 id)) (dd' := ej_at (ej_dd p pins a3 a11) id (mid + p)) (R' := ej_v (upd c7 n (nI (ej_v a2 id)))) (D' := ej_v (upd c8 n (nI (mid + p)))) r4 (fun z => z.2 rfl) (fun k hk => ej_vn (by omega)) (fun k hk => ej_vn (by omega)) (by rw [ej_at_s]; exact ej_vs (by omega)) (by rw [ej_at_s]; exact ej_vs (by omega)) (fun j hj => by
        have : j ≠ id := fun e => hj.2 (by rw [e])
        exact ⟨ej_at_n this, ej_at_n this⟩) (ej_but hC hid)
      refine ej_w_fq hp1 hp6 (by omega) h5 h6 (ej_Sa r2 v2) (ej_Sa r3 (by omega)) hM (fun t b b' ht hex _ => ?_) (fun b' hno => ?_)
      · refine br_f (by decide) (nm_r (nI_1 i) (hw (lo, mid, nI (n + 1), nI t, upd c7 n (nI (ej_v a2 id)), upd c8 n (nI (mid + p)), b, b') ⟨m1, ?_, g3, m3, ?_, g7⟩))
        · show mid + p ≤ ej_v a3 id
          omega
        · obtain ⟨q', hq'⟩ := hex
          refine ⟨q', ej_G_wide hq' (by rw [er]; exact Nat.le_refl _) (by rw [ed]; omega), ?_⟩
          have := (hq'.1 id hid).2.1
          rw [ej_at_s] at this
          show q' id ≤ mid
          omega
      · refine br_t rfl (nm_r (nI_1 mid) (nm_r (nI_1 i) (hw (mid + 1, hi, nI (n + 1), e', upd c7 n (nI (ej_v a2 id)), upd c8 n (nI (mid + p)), b9, b') ⟨?_, g2, ?_, m4, ⟨q, g5, g6⟩, fun q' hq' => ?_⟩)))
        · show mid + 1 ≤ hi
          omega
        · show ej_v a2 id ≤ mid + 1
          omega
        · show mid + 1 ≤ q' id
          apply Classical.byContradiction
          intro hx
          refine hno q' (ej_G_tight hq' (fun _ => ?_) (fun _ => by omega))
          have := (hq'.1 id hid).1
          rw [er] at this
          exact this
theorem ej_w_ho {post : Int32 → Prop} {l k e g : Int32} {a1 a2 a3 a4 a5 a6 a7 a8 a9 a10 a11 : Nat → Int32} {C i : Nat} (hC : C ≤ 6) (hi : i < 8) (H1 : ej_J C a1 i → post 1) (H0 : ¬ ej_J C a1 i → post 0) : wpX_holds post (l, nI C, k, e, g, a1, a2, a3, a4, a5, a6, a7, a8, a9, a10, a11) (nI i) := by
  refine br_f (nI_pos (by omega)) (pk_le C i (fun z => H0 (fun q => absurd q.1 (by omega))) (fun z => ⟨pk_in i 8 hi, ?_⟩))
  rw [nI_clamp (show i < 2 ^ 31 by omega)]
  exact br_c (fun q => H0 (fun q' => q'.2 q)) (fun q => H1 ⟨z, q⟩)
theorem ej_w_ls {post : Int32 → St2 → Prop} {k e g : Int32} {a1 a2 a3 a4 a5 a6 a7 a8 a9 a10 a11 : Nat → Int32} {p C id : Nat} (hp1 : 1 ≤ p) (hp6 : p ≤ 6) (hC : C ≤ 6) (h2 : ej_S 8 a2) (h3 : ej_S 8 a3) (h5 : ej_S 4 a5) (h6 : ej_S 4 a6) (h11 : ej_S 8 a11)
    (hid : ej_J C a1 id) (hG : ∃ q, ej_G (ej_J C a1) (ej_v a2) (ej_v a3) p (ej_B p a4 a5 a6) q)
    (H : ∀ (hi : Nat) (k' e' : Int32) (b7 b8 b9 b10 : Nat → Int32), hi ≤ 40 → (∀ q, ej_G (ej_J C a1) (ej_v a2) (ej_v a3) p (ej_B p a4 a5 a6) q → q id ≤ hi) → post (nI hi) (nI p, nI C, k', e', g, a1, a2, a3, a4, a5, a6, b7, b8, b9, b10, a11)) :
    wpX_latestStart post (nI p, nI C, k, e, g, a1, a2, a3, a4, a5, a6, a7, a8, a9, a10, a11) (nI id) := by
  have i6 : id < 6 := by have := hid.1; omega
  obtain ⟨q0, hq0⟩ := hG
  have w0 := hq0.1 id hid
  have v2 := ej_v40 h2 (show id < 8 by omega)
  have v3 := ej_v40 h3 (show id < 8 by omega)
  unfold wpX_latestStart
  refine ej_w_ho hC (by omega) (fun _ => br_f (by decide) ?_) (fun z => absurd hid z)
  refine ⟨pk_in id 8 (by omega), nm_r (ej_rd h2 (by omega)) ⟨pk_in id 8 (by omega), nm_r (e' := nI (ej_v a3 id - p)) (by rw [ej_rd h3 (show id < 8 by omega), pk_sub (by omega)]) ?_⟩⟩
  refine pk_loop (fun f i (s : Nat × Nat × Int32 × Int32 × (Nat → Int32) × (Nat → Int32) × (Nat → Int32) × (Nat → Int32)) => wX_latestStart_32 post (nI id) f (nI s.1) (nI s.2.1) (nI i) (nI p) (nI C) s.2.2.1 s.2.2.2.1 g a1 a2 a3 a4 a5 a6 s.2.2.2.2.1 s.2.2.2.2.2.1 s.2.2.2.2.2.2.1 s.2.2.2.2.2.2.2 a11)
    (fun i s => s.1 ≤ s.2.1 ∧ s.2.1 + p ≤ ej_v a3 id ∧ ej_v a2 id ≤ s.1 ∧ s.2.1 - s.1 < 2 ^ (8 - i) ∧ ∀ q, ej_G (ej_J C a1) (ej_v a2) (ej_v a3) p (ej_B p a4 a5 a6) q → q id ≤ s.2.1)
    8 0 (ej_v a2 id, ej_v a3 id - p, k, e, a7, a8, a9, a10) (by omega) ⟨?_, ?_, Nat.le_refl _, ?_, fun q hq => ?_⟩ ?_ ?_
  · show ej_v a2 id ≤ ej_v a3 id - p
    omega
  · show ej_v a3 id - p + p ≤ ej_v a3 id
    omega
  · show ej_v a3 id - p - ej_v a2 id < 256
    omega
  · have := (hq.1 id hid).2.1
    show q id ≤ ej_v a3 id - p
    omega
  · intro f s h
    obtain ⟨lo, hi, k', e', b7, b8, b9, b10⟩ := s
    obtain ⟨g1, g2, g3, g4, g7⟩ := h
    dsimp only at g1 g2 g3 g4 g7
    have g9 : hi - lo < 1 := g4
    have e : hi = lo := by omega
    rw [e] at g7
    exact pk_le 8 8 (fun _ => H lo k' e' b7 b8 b9 b10 (by omega) g7) (fun z => absurd z (by omega))
  · intro f i s hi8 h hw
    obtain ⟨lo, hi, k', e', b7, b8, b9, b10⟩ := s
    obtain ⟨g1, g2, g3, g4, g7⟩ := h
    dsimp only at g1 g2 g3 g4 g7
    show wX_latestStart_32 post (nI id) (f + 1) (nI lo) (nI hi) (nI i) (nI p) (nI C) k' e' g a1 a2 a3 a4 a5 a6 b7 b8 b9 b10 a11
    refine pk_le 8 i (fun z => absurd z (by omega)) (fun _ => pk_le hi lo (fun z => ?_) (fun z => nm_r (e' := nI ((lo + hi + 1) / 2)) (by rw [nI_add, nI_1, ej_shr1 (by omega)]) ?_))
    · have e : hi = lo := by omega
      rw [e] at g7
      exact H lo k' e' b7 b8 b9 b10 (by omega) g7
    · obtain ⟨m1, m2, m3, m4⟩ := ej_halfU z hi8 g4
      generalize (lo + hi + 1) / 2 = mid at *
      refine ej_w_ab hC hp6 h2 h3 h11 (fun n c7 c8 r1 r2 r3 r4 => ⟨pk_in id 8 (by omega), ?_⟩)
      rw [ej_rd h3 (show id < 8 by omega)]
      refine ej_w_ask (by omega) (by omega) (by omega) ?_
      have hM := ej_M_add (x := id) (J' := ej_J C a1) (rr' := ej_at (ej_v a2) id mid) (dd' := ej_at (ej_v a3) id (ej_v a3 id)) (R' := ej_v (upd c7 n (nI mid))) (D' := ej_v (upd c8 n (nI (ej_v a3 id)))) r4 (fun z => z.2 rfl) (fun k hk => ej_vn (by omega)) (fun k hk => ej_vn (by omega)) (by rw [ej_at_s]; exact ej_vs (by omega)) (by rw [ej_at_s]; exact ej_vs (by omega)) (fun j hj => by
        have : j ≠ id := fun e => hj.2 (by rw [e])
        exact ⟨ej_at_n this, ej_at_n this⟩) (ej_but hC hid)
      refine ej_w_fq hp1 hp6 (by omega) h5 h6 (ej_Sa r2 (by omega)) (ej_Sa r3 v3) hM (fun t b b' ht hex _ => ?_) (fun b' hno => ?_)
      · refine br_f (by decide) (nm_r (nI_1 i) (hw (mid, hi, nI (n + 1), nI t, upd c7 n (nI mid), upd c8 n (nI (ej_v a3 id)), b, b') ⟨m2, g2, ?_, m3, g7⟩))
        show ej_v a2 id ≤ mid
        omega
      · refine br_t rfl (nm_r (e' := nI (mid - 1)) (pk_sub (b := 1) (by omega)) (nm_r (nI_1 i) (hw (lo, mid - 1, nI (n + 1), e', upd c7 n (nI mid), upd c8 n (nI (ej_v a3 id)), b9, b') ⟨?_, ?_, g3, m4, fun q' hq' => ?_⟩)))
        · show lo ≤ mid - 1
          omega
        · show mid - 1 + p ≤ ej_v a3 id
          omega
        · show q' id ≤ mid - 1
          apply Classical.byContradiction
          intro hx
          exact hno q' (ej_G_tight hq' (fun _ => by omega) (fun _ => (hq'.1 id hid).2.1))
end
section
/-- what holds between two calls -/
def ej_Inv (p C : Nat) (g : Int32) (a1 a2 a3 a4 a5 a6 a11 : Nat → Int32) : Prop :=
  ej_S 8 a2 ∧ ej_S 8 a3 ∧ ej_S 4 a5 ∧ ej_S 4 a6 ∧ ej_S 8 a11 ∧ (∃ q, ej_G (ej_J C a1) (ej_v a2) (ej_v a3) p (ej_B p a4 a5 a6) q) ∧ (¬ g = 0 → ej_G (ej_J C a1) (ej_v a2) (ej_v a3) p (ej_B p a4 a5 a6) (ej_v a11))
theorem ej_w_mp {post : St2 → Prop} {k e g : Int32} {a1 a2 a3 a4 a5 a6 a7 a8 a9 a10 a11 : Nat → Int32} {p C : Nat} (hp1 : 1 ≤ p) (hp6 : p ≤ 6) (hC : C ≤ 6) (hI : ej_Inv p C g a1 a2 a3 a4 a5 a6 a11)
    (H : ∀ (k' e' : Int32) (b7 b8 b9 b10 b11 : Nat → Int32), ej_Inv p C 1 a1 a2 a3 a4 a5 a6 b11 → post (nI p, nI C, k', e', 1, a1, a2, a3, a4, a5, a6, b7, b8, b9, b10, b11)) :
    wpX_makePlan post (nI p, nI C, k, e, g, a1, a2, a3, a4, a5, a6, a7, a8, a9, a10, a11) := by
  obtain ⟨h2, h3, h5, h6, h11, ⟨q0, hq0⟩, _⟩ := hI
  refine pk_loop (fun f i (s : Int32 × Int32 × (Nat → Int32) × (Nat → Int32) × (Nat → Int32) × (Nat → Int32) × (Nat → Int32)) => wX_makePlan_7 post f (nI i) (nI p) (nI C) s.1 s.2.1 1 a1 a2 a3 a4 a5 a6 s.2.2.1 s.2.2.2.1 s.2.2.2.2.1 s.2.2.2.2.2.1 s.2.2.2.2.2.2)
    (fun i s => ej_S 8 s.2.2.2.2.2.2 ∧ ∃ q, ej_G (ej_J C a1) (ej_v a2) (ej_v a3) p (ej_B p a4 a5 a6) q ∧ ∀ j, j < i → ej_J C a1 j → q j = ej_v s.2.2.2.2.2.2 j)
    C 0 (k, e, a7, a8, a9, a10, a11) (by omega) ⟨h11, q0, hq0, fun j hj => absurd hj (by omega)⟩ ?_ ?_
  · intro f s h
    obtain ⟨k', e', b7, b8, b9, b10, b11⟩ := s
    obtain ⟨g1, q, g2, g3⟩ := h
    dsimp only at g1 g2 g3
    refine pk_le C C (fun _ => H k' e' b7 b8 b9 b10 b11 ⟨h2, h3, h5, h6, g1, ⟨q, g2⟩, fun _ => ⟨fun j hj => ?_, fun i j hi hj e => ?_⟩⟩) (fun z => absurd z (by omega))
    · rw [← g3 j hj.1 hj]
      exact g2.1 j hj
    · rw [← g3 j hj.1 hj, ← g3 i hi.1 hi]
      exact g2.2 i j hi hj e
  · intro f i s hi h hw
    obtain ⟨k', e', b7, b8, b9, b10, b11⟩ := s
    obtain ⟨g1, q, g2, g3⟩ := h
    dsimp only at g1 g2 g3
    show wX_makePlan_7 post (f + 1) (nI i) (nI p) (nI C) k' e' 1 a1 a2 a3 a4 a5 a6 b7 b8 b9 b10 b11
    refine pk_le C i (fun z => absurd z (by omega)) (fun _ => ⟨pk_in i 8 (by omega), ?_⟩)
    rw [nI_clamp (show i < 2 ^ 31 by omega)]
    refine br_c (fun hu => nm_r (nI_1 i) (hw (k', e', b7, b8, b9, b10, b11) ⟨g1, q, g2, fun j hj hJ => ?_⟩)) (fun hu => ?_)
    · have : j ≠ i := fun e => hJ.2 (by rw [e]; exact hu)
      exact g3 j (by omega) hJ
    · rw [ej_tw_eo]
      refine ej_w_eo (pins := i) (id := i) hp1 hp6 hC h2 h3 h5 h6 g1 (fun j hj hji hju => ?_) ⟨hi, hu⟩ (Nat.le_refl i) ⟨q, fun j hj => ?_, g2.2⟩ (fun lo k'' e'' c7 c8 c9 c10 hlo hex _ => ⟨pk_in i 8 (by omega), nm_r (e' := upd b11 i (nI lo)) (by rw [ej_b8 lo (by omega)]) (nm_r (nI_1 i) (hw (k'', e'', c7, c8, c9, c10, upd b11 i (nI lo)) ?_))⟩)
      · have r1 := g3 j hji ⟨hj, hju⟩
        have r2 := g2.1 j ⟨hj, hju⟩
        have r3 := ej_v40 h3 (show j < 8 by omega)
        omega
      · have r2 := g2.1 j hj
        unfold ej_rr ej_dd
        by_cases hji : j < i
        · rw [if_pos hji, if_pos hji, g3 j hji hj]
          rw [g3 j hji hj] at r2
          exact ⟨Nat.le_refl _, Nat.le_refl _, r2.2.2⟩
        · rw [if_neg hji, if_neg hji]
          exact r2
      · obtain ⟨q', hq', he⟩ := hex
        have old : ∀ j, j < i → ej_J C a1 j → q' j = ej_v b11 j := fun j hji hj => by
          have r := hq'.1 j hj
          unfold ej_rr ej_dd at r
          rw [if_pos hji, if_pos hji] at r
          omega
        refine ⟨ej_Su g1 hlo, q', ⟨fun j hj => ?_, hq'.2⟩, fun j hj hJ => ?_⟩
        · have r := hq'.1 j hj
          by_cases hji : j < i
          · have r2 := g2.1 j hj
            rw [g3 j hji hj, ← old j hji hj] at r2
            exact r2
          · unfold ej_rr ej_dd at r
            rw [if_neg hji, if_neg hji] at r
            exact r
        · show q' j = ej_v (upd b11 i (nI lo)) j
          by_cases e : j = i
          · rw [e, ej_vs (by omega)]
            exact he
          · rw [ej_vn e]
            exact old j (by omega) hJ
theorem ej_w_psK {post : Int32 → St2 → Prop} {l k e g : Int32} {a1 a2 a3 a4 a5 a6 a7 a8 a9 a10 a11 : Nat → Int32} {C i : Nat} (hC : C ≤ 6) (hi : i < 8) (h11 : ej_S 8 a11) (hg : ¬ g = 0)
    (H1 : ej_J C a1 i → post (nI (ej_v a11 i)) (l, nI C, k, e, g, a1, a2, a3, a4, a5, a6, a7, a8, a9, a10, a11)) (H0 : ¬ ej_J C a1 i → post (-1) (l, nI C, k, e, g, a1, a2, a3, a4, a5, a6, a7, a8, a9, a10, a11)) : wpX_plannedStart post (l, nI C, k, e, g, a1, a2, a3, a4, a5, a6, a7, a8, a9, a10, a11) (nI i) := by
  unfold wpX_plannedStart
  refine ej_w_ho hC hi (fun hJ => br_f (by decide) (br_f hg ⟨pk_in i 8 hi, ?_⟩)) (fun hJ => br_t rfl (H0 hJ))
  rw [ej_rd h11 hi]
  exact H1 hJ
theorem ej_w_ps {post : Int32 → St2 → Prop} {k e g : Int32} {a1 a2 a3 a4 a5 a6 a7 a8 a9 a10 a11 : Nat → Int32} {p C i : Nat} (hp1 : 1 ≤ p) (hp6 : p ≤ 6) (hC : C ≤ 6) (hi : i < 8) (hI : ej_Inv p C g a1 a2 a3 a4 a5 a6 a11)
    (H1 : ej_J C a1 i → ∀ (k' e' g' : Int32) (b7 b8 b9 b10 b11 : Nat → Int32), ¬ g' = 0 → ej_Inv p C g' a1 a2 a3 a4 a5 a6 b11 → (¬ g = 0 → b11 = a11) → post (nI (ej_v b11 i)) (nI p, nI C, k', e', g', a1, a2, a3, a4, a5, a6, b7, b8, b9, b10, b11))
    (H0 : ¬ ej_J C a1 i → post (-1) (nI p, nI C, k, e, g, a1, a2, a3, a4, a5, a6, a7, a8, a9, a10, a11)) : wpX_plannedStart post (nI p, nI C, k, e, g, a1, a2, a3, a4, a5, a6, a7, a8, a9, a10, a11) (nI i) := by
  unfold wpX_plannedStart
  refine ej_w_ho hC hi (fun hJ => br_f (by decide) (br_c (fun hg => ?_) (fun hg => ⟨pk_in i 8 hi, ?_⟩))) (fun hJ => br_t rfl (H0 hJ))
  · refine ej_w_mp hp1 hp6 hC hI (fun k' e' b7 b8 b9 b10 b11 hI' => ⟨pk_in i 8 hi, ?_⟩)
    have h11 := hI'.2.2.2.2.1
    rw [ej_rd h11 hi]
    exact H1 hJ k' e' 1 b7 b8 b9 b10 b11 (by decide) hI' (fun z => absurd hg z)
  · have h11 := hI.2.2.2.2.1
    rw [ej_rd h11 hi]
    exact H1 hJ k e g a7 a8 a9 a10 a11 hg hI (fun _ => rfl)
theorem ej_w_es {post : Int32 → St2 → Prop} {k e g : Int32} {a1 a2 a3 a4 a5 a6 a7 a8 a9 a10 a11 : Nat → Int32} {p C id : Nat} (hp1 : 1 ≤ p) (hp6 : p ≤ 6) (hC : C ≤ 6) (hI : ej_Inv p C g a1 a2 a3 a4 a5 a6 a11) (hid : ej_J C a1 id)
    (H : ∀ (lo : Nat) (k' e' : Int32) (b7 b8 b9 b10 : Nat → Int32), lo ≤ 40 → (∀ q, ej_G (ej_J C a1) (ej_v a2) (ej_v a3) p (ej_B p a4 a5 a6) q → lo ≤ q id) → post (nI lo) (nI p, nI C, k', e', g, a1, a2, a3, a4, a5, a6, b7, b8, b9, b10, a11)) :
    wpX_earliestStart post (nI p, nI C, k, e, g, a1, a2, a3, a4, a5, a6, a7, a8, a9, a10, a11) (nI id) := by
  obtain ⟨h2, h3, h5, h6, h11, hG, _⟩ := hI
  unfold wpX_earliestStart
  refine ej_w_ho hC (by have := hid.1; omega) (fun _ => br_f (by decide) ?_) (fun z => absurd hid z)
  refine ej_w_eo (pins := 0) hp1 hp6 hC h2 h3 h5 h6 h11 (fun j _ z => absurd z (by omega)) hid (Nat.zero_le _) (by rw [ej_rr0, ej_dd0]; exact hG) (fun lo k' e' b7 b8 b9 b10 q1 _ q3 => ?_)
  rw [ej_rr0, ej_dd0] at q3
  exact H lo k' e' b7 b8 b9 b10 q1 q3
theorem ej_w_re {post : Int32 → Prop} {l k e g : Int32} {a1 a2 a3 a4 a5 a6 a7 a8 a9 a10 a11 : Nat → Int32} {C i : Nat} (hC : C ≤ 6) (h2 : ej_S 8 a2) (hid : ej_J C a1 i) (H : post (nI (ej_v a2 i))) : wpX_release post (l, nI C, k, e, g, a1, a2, a3, a4, a5, a6, a7, a8, a9, a10, a11) (nI i) := by
  have hi : i < 8 := by have := hid.1; omega
  unfold wpX_release
  refine ej_w_ho hC hi (fun _ => br_f (by decide) ⟨pk_in i 8 hi, ?_⟩) (fun z => absurd hid z)
  rw [ej_rd h2 hi]
  exact H
theorem ej_w_de {post : Int32 → Prop} {l k e g : Int32} {a1 a2 a3 a4 a5 a6 a7 a8 a9 a10 a11 : Nat → Int32} {C i : Nat} (hC : C ≤ 6) (h3 : ej_S 8 a3) (hid : ej_J C a1 i) (H : post (nI (ej_v a3 i))) : wpX_deadline post (l, nI C, k, e, g, a1, a2, a3, a4, a5, a6, a7, a8, a9, a10, a11) (nI i) := by
  have hi : i < 8 := by have := hid.1; omega
  unfold wpX_deadline
  refine ej_w_ho hC hi (fun _ => br_f (by decide) ⟨pk_in i 8 hi, ?_⟩) (fun z => absurd hid z)
  rw [ej_rd h3 hi]
  exact H
theorem ej_w_al {post : Int32 → St2 → Prop} {k e g : Int32} {a1 a2 a3 a4 a5 a6 a7 a8 a9 a10 a11 : Nat → Int32} {p C i : Nat} (hp1 : 1 ≤ p) (hp6 : p ≤ 6) (hC : C ≤ 6) (hI : ej_Inv p C g a1 a2 a3 a4 a5 a6 a11) (hid : ej_J C a1 i) (hg : ¬ g = 0)
    (H : ∀ (k' e' : Int32) (b7 b8 b9 b10 : Nat → Int32), post 1 (nI p, nI C, k', e', g, a1, a2, a3, a4, a5, a6, b7, b8, b9, b10, a11)) :
    wpL_alone post (nI p, nI C, k, e, g, a1, a2, a3, a4, a5, a6, a7, a8, a9, a10, a11) (nI i) (nI p) := by
  have hi : i < 8 := by have := hid.1; omega
  obtain ⟨h2, h3, h5, h6, h11, hG, hP⟩ := id hI
  have w := (hP hg).1 i hid
  have v3 := ej_v40 h3 hi
  unfold wpL_alone
  refine ej_w_psK hC hi h11 hg (fun _ => ?_) (fun z => absurd hid z)
  refine ej_w_re hC h2 hid (ej_w_de hC h3 hid ?_)
  refine ej_w_es hp1 hp6 hC hI hid (fun lo k' e' b7 b8 b9 b10 q1 q2 => ?_)
  refine ej_w_ls hp1 hp6 hC h2 h3 h5 h6 h11 hid hG (fun hi' k'' e'' c7 c8 c9 c10 r1 r2 => ?_)
  have u1 := q2 _ (hP hg)
  have u2 := r2 _ (hP hg)
  refine pk_lt (ej_v a11 i) (ej_v a2 i) (fun z => absurd z (by omega)) (fun _ => ?_)
  refine pk_lt (ej_v a3 i) (ej_v a11 i + p) (fun z => absurd z (by omega)) (fun _ => ?_) rfl (nI_add _ _)
  refine pk_lt (ej_v a11 i) lo (fun z => absurd z (by omega)) (fun _ => ?_)
  refine pk_lt hi' (ej_v a11 i) (fun z => absurd z (by omega)) (fun _ => ?_)
  exact pk_lt 40 (ej_v a11 i + p) (fun z => absurd z (by omega)) (fun _ => H k'' e'' c7 c8 c9 c10) rfl (nI_add _ _)
theorem ej_w_apt {post : Int32 → St2 → Prop} {k e g : Int32} {a1 a2 a3 a4 a5 a6 a7 a8 a9 a10 a11 : Nat → Int32} {p C i : Nat} (hp1 : 1 ≤ p) (hp6 : p ≤ 6) (hC : C ≤ 6) (hI : ej_Inv p C g a1 a2 a3 a4 a5 a6 a11) (hid : ej_J C a1 i) (hg : ¬ g = 0)
    (H : post 1 (nI p, nI C, k, e, g, a1, a2, a3, a4, a5, a6, a7, a8, a9, a10, a11)) : wpL_apart post (nI p, nI C, k, e, g, a1, a2, a3, a4, a5, a6, a7, a8, a9, a10, a11) (nI i) (nI p) := by
  have hi : i < 6 := by have := hid.1; omega
  obtain ⟨h2, h3, h5, h6, h11, hG, hP⟩ := hI
  have w := hP hg
  have v11 := ej_v40 h11 (show i < 8 by omega)
  unfold wpL_apart
  refine ej_w_psK hC (by omega) h11 hg (fun _ => ?_) (fun z => absurd hid z)
  refine pk_loop (σ := Unit) (fun f j _ => wL_apart_9 post (nI i) (nI p) (nI (ej_v a11 i)) f (nI j) (nI p) (nI C) k e g a1 a2 a3 a4 a5 a6 a7 a8 a9 a10 a11) (fun _ _ => True) i 0 () (by omega) trivial
    (fun f _ _ => pk_le i i (fun _ => H) (fun z => absurd z (by omega))) (fun f j _ hj _ hw => pk_le i j (fun z => absurd z (by omega)) (fun _ => ?_))
  refine ej_w_psK hC (by omega) h11 hg (fun hJ => ?_) (fun _ => br_t (by decide) (nm_r (nI_1 j) (hw () trivial)))
  have u := w.2 i j hid hJ (by omega)
  have v11' := ej_v40 h11 (show j < 8 by omega)
  refine br_f (nI_pos (by omega)) ?_
  refine pk_le (ej_v a11 j + p) (ej_v a11 i) (fun _ => nm_r (nI_1 j) (hw () trivial)) (fun _ => ?_) (nI_add _ _)
  exact pk_le (ej_v a11 i + p) (ej_v a11 j) (fun _ => nm_r (nI_1 j) (hw () trivial)) (fun z => absurd u (by omega)) (nI_add _ _)
theorem ej_w_ee {post : Int32 → St2 → Prop} {k e g : Int32} {a1 a2 a3 a4 a5 a6 a7 a8 a9 a10 a11 : Nat → Int32} {p C : Nat} (hp1 : 1 ≤ p) (hp6 : p ≤ 6) (hC : C ≤ 6) (hI : ej_Inv p C g a1 a2 a3 a4 a5 a6 a11)
    (H : ∀ (t : Nat) (k' : Int32) (b7 b8 b9 b10 : Nat → Int32), t ≤ 40 → (∀ q, ej_G (ej_J C a1) (ej_v a2) (ej_v a3) p (ej_B p a4 a5 a6) q → ∀ y, (∀ j, ej_J C a1 j → q j + p ≤ y) → t ≤ y) → post (nI t) (nI p, nI C, k', nI t, g, a1, a2, a3, a4, a5, a6, b7, b8, b9, b10, a11)) :
    wpX_earliestEnd post (nI p, nI C, k, e, g, a1, a2, a3, a4, a5, a6, a7, a8, a9, a10, a11) := by
  obtain ⟨h2, h3, h5, h6, h11, ⟨q, hG⟩, hP⟩ := hI
  unfold wpX_earliestEnd
  refine ej_w_aa hC hp6 h2 h3 h11 (fun n b7 b8 r1 r2 r3 r4 => ?_)
  exact ej_w_fq hp1 hp6 (by omega) h5 h6 r2 r3 r4 (fun t b b' ht _ hmin => H t _ b7 b8 b b' ht hmin) (fun b' hno => absurd hG (hno q))
end
section
theorem ej_w_wo {post : Int32 → Prop} {c k e g : Int32} {a1 a2 a3 a4 a5 a6 a7 a8 a9 a10 a11 : Nat → Int32} {p r d : Nat} (hp6 : p ≤ 6) (hr : r ≤ 100) (hd : d ≤ 100) (H1 : r ≤ 40 → d ≤ 40 → post 1) (H0 : post 0) : wpX_windowOk post (nI p, c, k, e, g, a1, a2, a3, a4, a5, a6, a7, a8, a9, a10, a11) (nI r) (nI d) := by
  refine br_f (nI_pos (by omega)) (pk_lt 40 d (fun _ => H0) (fun z1 => pk_lt 40 r (fun _ => H0) (fun z2 => br_f (nI_pos (by omega)) ?_)))
  exact br_c (fun _ => H0) (fun _ => H1 z2 z1)
theorem ej_w_fn {post : Int32 → Prop} {l k e g : Int32} {a1 a2 a3 a4 a5 a6 a7 a8 a9 a10 a11 : Nat → Int32} {C : Nat} (hC : C ≤ 6) (H1 : ∀ i, i < C → a1 i = 0 → post (nI i)) (H0 : post (-1)) : wpX_freeNumber post (l, nI C, k, e, g, a1, a2, a3, a4, a5, a6, a7, a8, a9, a10, a11) :=
  pk_loop (σ := Unit) (fun f i _ => wX_freeNumber_2 post l (nI C) k e g a1 a2 a3 a4 a5 a6 a7 a8 a9 a10 a11 f (nI i)) (fun _ _ => True) C 0 () (by omega) trivial
    (fun f _ _ => pk_le C C (fun _ => H0) (fun z => absurd z (by omega)))
    (fun f i _ hi _ hw => pk_le C i (fun z => absurd z (by omega)) (fun _ => ⟨pk_in i 8 (by omega), by
      rw [nI_clamp (show i < 2 ^ 31 by omega)]
      exact br_c (fun z => H1 i hi z) (fun _ => nm_r (nI_1 i) (hw () trivial))⟩))
theorem ej_J_add {C id : Nat} {a1 : Nat → Int32} (hid : id < C) (j : Nat) : ej_J C (upd a1 id 1) j ↔ ej_J C a1 j ∨ j = id := by
  unfold ej_J
  by_cases e : j = id
  · rw [e, pk_us]
    exact ⟨fun _ => Or.inr rfl, fun _ => ⟨hid, by decide⟩⟩
  · rw [pk_un e]
    exact ⟨Or.inl, fun z => z.elim (fun z => z) (fun z => absurd z e)⟩
theorem ej_w_pr {post : Int32 → St2 → Prop} {k e g : Int32} {a1 a2 a3 a4 a5 a6 a7 a8 a9 a10 a11 : Nat → Int32} {p C r d : Nat} (hp1 : 1 ≤ p) (hp6 : p ≤ 6) (hC : C ≤ 6) (hI : ej_Inv p C g a1 a2 a3 a4 a5 a6 a11) (hr : r ≤ 100) (hd : d ≤ 100)
    (H1 : ∀ (id : Nat) (k' e' : Int32) (b7 b8 b9 b10 : Nat → Int32), id < C → r ≤ 40 → d ≤ 40 → (∃ q, ej_G (ej_J C (upd a1 id 1)) (ej_v (upd a2 id (nI r))) (ej_v (upd a3 id (nI d))) p (ej_B p a4 a5 a6) q) → post (nI id) (nI p, nI C, k', e', g, a1, a2, a3, a4, a5, a6, b7, b8, b9, b10, a11))
    (H0 : ∀ (x k' e' : Int32) (b7 b8 b9 b10 : Nat → Int32), x < 0 → post x (nI p, nI C, k', e', g, a1, a2, a3, a4, a5, a6, b7, b8, b9, b10, a11)) :
    wpX_probe post (nI p, nI C, k, e, g, a1, a2, a3, a4, a5, a6, a7, a8, a9, a10, a11) (nI r) (nI d) := by
  obtain ⟨h2, h3, h5, h6, h11, hG, hP⟩ := hI
  unfold wpX_probe
  refine ej_w_wo hp6 hr hd (fun hr4 hd4 => br_f (by decide) ?_) (br_t rfl (H0 _ _ _ _ _ _ _ (by decide)))
  refine ej_w_fn hC (fun id hid hu => br_t (nI_pos' (by omega)) ?_) (br_f (by decide) (H0 _ _ _ _ _ _ _ (by decide)))
  refine ej_w_aa hC hp6 h2 h3 h11 (fun n c7 c8 r1 r2 r3 r4 => ?_)
  refine ej_w_ask (by omega) (by omega) (by omega) ?_
  have hM := ej_M_add (x := id) (J' := ej_J C (upd a1 id 1)) (rr' := ej_v (upd a2 id (nI r))) (dd' := ej_v (upd a3 id (nI d))) (R' := ej_v (upd c7 n (nI r))) (D' := ej_v (upd c8 n (nI d))) r4 (fun z => z.2 hu) (fun k hk => ej_vn (by omega)) (fun k hk => ej_vn (by omega)) (by rw [ej_vs (by omega), ej_vs (by omega)]) (by rw [ej_vs (by omega), ej_vs (by omega)]) (fun j hj => by
    have : j ≠ id := fun e => hj.2 (by rw [e]; exact hu)
    exact ⟨ej_vn this, ej_vn this⟩) (ej_J_add hid)
  exact ej_w_fq hp1 hp6 (by omega) h5 h6 (ej_Sa r2 hr4) (ej_Sa r3 hd4) hM (fun t b b' ht hex _ => br_f (by decide) (H1 id _ _ _ _ _ _ hid hr4 hd4 hex)) (fun b' hno => br_t rfl (H0 _ _ _ _ _ _ _ (by decide)))
theorem ej_w_of {post : Int32 → St2 → Prop} {k e g : Int32} {a1 a2 a3 a4 a5 a6 a7 a8 a9 a10 a11 : Nat → Int32} {p C r d : Nat} (hp1 : 1 ≤ p) (hp6 : p ≤ 6) (hC : C ≤ 6) (hI : ej_Inv p C g a1 a2 a3 a4 a5 a6 a11) (hr : r ≤ 100) (hd : d ≤ 100)
    (H : ∀ (x k' e' g' : Int32) (b1 b2 b3 b4 b5 b6 b7 b8 b9 b10 b11 : Nat → Int32), ej_Inv p C g' b1 b2 b3 b4 b5 b6 b11 → post x (nI p, nI C, k', e', g', b1, b2, b3, b4, b5, b6, b7, b8, b9, b10, b11)) :
    wpX_offer post (nI p, nI C, k, e, g, a1, a2, a3, a4, a5, a6, a7, a8, a9, a10, a11) (nI r) (nI d) := by
  unfold wpX_offer
  refine ej_w_pr hp1 hp6 hC hI hr hd (fun id k' e' b7 b8 b9 b10 hid hr4 hd4 hex => ?_) (fun x k' e' b7 b8 b9 b10 hx => br_t hx (H _ _ _ _ _ _ _ _ _ _ _ _ _ _ _ hI))
  obtain ⟨h2, h3, h5, h6, h11, hG, hP⟩ := hI
  refine br_f (nI_pos (by omega)) ⟨pk_in id 8 (by omega), nm_r (e' := upd a1 id 1) (by rw [nI_clamp (by omega)]) ⟨pk_in id 8 (by omega), nm_r (e' := upd a2 id (nI r)) (by rw [nI_clamp (by omega), ej_b8 r (by omega)]) ⟨pk_in id 8 (by omega), nm_r (e' := upd a3 id (nI d)) (by rw [nI_clamp (by omega), ej_b8 d (by omega)]) ?_⟩⟩⟩
  exact H _ _ _ _ _ _ _ _ _ _ _ _ _ _ _ ⟨ej_Su h2 hr4, ej_Su h3 hd4, h5, h6, h11, hex, fun z => absurd rfl z⟩
theorem ej_w_mv {post : Int32 → St2 → Prop} {k e g : Int32} {a1 a2 a3 a4 a5 a6 a7 a8 a9 a10 a11 : Nat → Int32} {p C id r d : Nat} (hp1 : 1 ≤ p) (hp6 : p ≤ 6) (hC : C ≤ 6) (hI : ej_Inv p C g a1 a2 a3 a4 a5 a6 a11) (hid8 : id < 8) (hr : r ≤ 100) (hd : d ≤ 100)
    (H : ∀ (x k' e' g' : Int32) (b1 b2 b3 b4 b5 b6 b7 b8 b9 b10 b11 : Nat → Int32), ej_Inv p C g' b1 b2 b3 b4 b5 b6 b11 → post x (nI p, nI C, k', e', g', b1, b2, b3, b4, b5, b6, b7, b8, b9, b10, b11)) :
    wpX_move post (nI p, nI C, k, e, g, a1, a2, a3, a4, a5, a6, a7, a8, a9, a10, a11) (nI id) (nI r) (nI d) := by
  unfold wpX_move
  refine ej_w_ho hC hid8 (fun hid => br_f (by decide) ?_) (fun _ => br_t rfl (H _ _ _ _ _ _ _ _ _ _ _ _ _ _ _ hI))
  refine ej_w_wo hp6 hr hd (fun hr4 hd4 => br_f (by decide) ?_) (br_t rfl (H _ _ _ _ _ _ _ _ _ _ _ _ _ _ _ hI))
  have hI' := hI
  obtain ⟨h2, h3, h5, h6, h11, hG, hP⟩ := hI'
  refine ej_w_ab hC hp6 h2 h3 h11 (fun n c7 c8 r1 r2 r3 r4 => ?_)
  refine ej_w_ask (by omega) (by omega) (by omega) ?_
  have hM := ej_M_add (x := id) (J' := ej_J C a1) (rr' := ej_v (upd a2 id (nI r))) (dd' := ej_v (upd a3 id (nI d))) (R' := ej_v (upd c7 n (nI r))) (D' := ej_v (upd c8 n (nI d))) r4 (fun z => z.2 rfl) (fun k hk => ej_vn (by omega)) (fun k hk => ej_vn (by omega)) (by rw [ej_vs (by omega), ej_vs (by omega)]) (by rw [ej_vs (by omega), ej_vs (by omega)]) (fun j hj => by
    have : j ≠ id := fun e => hj.2 (by rw [e])
    exact ⟨ej_vn this, ej_vn this⟩) (ej_but hC hid)
  refine ej_w_fq hp1 hp6 (by omega) h5 h6 (ej_Sa r2 hr4) (ej_Sa r3 hd4) hM (fun t b b' ht hex _ => br_f (by decide) ?_) (fun b' hno => br_t rfl (H _ _ _ _ _ _ _ _ _ _ _ _ _ _ _ hI))
  refine ⟨pk_in id 8 hid8, nm_r (e' := upd a2 id (nI r)) (by rw [nI_clamp (by omega), ej_b8 r (by omega)]) ⟨pk_in id 8 hid8, nm_r (e' := upd a3 id (nI d)) (by rw [nI_clamp (by omega), ej_b8 d (by omega)]) ?_⟩⟩
  exact H _ _ _ _ _ _ _ _ _ _ _ _ _ _ _ ⟨ej_Su h2 hr4, ej_Su h3 hd4, h5, h6, h11, hex, fun z => absurd rfl z⟩
theorem ej_w_wd {post : Int32 → St2 → Prop} {k e g : Int32} {a1 a2 a3 a4 a5 a6 a7 a8 a9 a10 a11 : Nat → Int32} {p C id : Nat} (hC : C ≤ 6) (hI : ej_Inv p C g a1 a2 a3 a4 a5 a6 a11) (hid8 : id < 8)
    (H : ∀ (x k' e' g' : Int32) (b1 b2 b3 b4 b5 b6 b7 b8 b9 b10 b11 : Nat → Int32), ej_Inv p C g' b1 b2 b3 b4 b5 b6 b11 → post x (nI p, nI C, k', e', g', b1, b2, b3, b4, b5, b6, b7, b8, b9, b10, b11)) :
    wpX_withdraw post (nI p, nI C, k, e, g, a1, a2, a3, a4, a5, a6, a7, a8, a9, a10, a11) (nI id) := by
  unfold wpX_withdraw
  refine ej_w_ho hC hid8 (fun hid => br_f (by decide) ?_) (fun _ => br_t rfl (H _ _ _ _ _ _ _ _ _ _ _ _ _ _ _ hI))
  obtain ⟨h2, h3, h5, h6, h11, ⟨q, hq⟩, hP⟩ := hI
  have sub : ∀ j, ej_J C (upd a1 id 0) j → ej_J C a1 j := by
    rintro j ⟨z1, z2⟩
    have e : j ≠ id := fun e => z2 (by rw [e, pk_us])
    rw [pk_un e] at z2
    exact ⟨z1, z2⟩
  refine ⟨pk_in id 8 hid8, nm_r (e' := upd a1 id 0) (by rw [nI_clamp (by omega)]) ?_⟩
  exact H _ _ _ _ _ _ _ _ _ _ _ _ _ _ _ ⟨h2, h3, h5, h6, h11, ⟨q, fun j hj => hq.1 j (sub j hj), fun i j hi hj e => hq.2 i j (sub i hi) (sub j hj) e⟩, fun z => absurd rfl z⟩
theorem ej_w_ub {post : Int32 → St2 → Prop} {k e g : Int32} {a1 a2 a3 a4 a5 a6 a7 a8 a9 a10 a11 : Nat → Int32} {p C k0 : Nat} (hI : ej_Inv p C g a1 a2 a3 a4 a5 a6 a11) (hk : k0 < 4)
    (H : ∀ (x k' e' g' : Int32) (b1 b2 b3 b4 b5 b6 b7 b8 b9 b10 b11 : Nat → Int32), ej_Inv p C g' b1 b2 b3 b4 b5 b6 b11 → post x (nI p, nI C, k', e', g', b1, b2, b3, b4, b5, b6, b7, b8, b9, b10, b11)) :
    wpX_unblock post (nI p, nI C, k, e, g, a1, a2, a3, a4, a5, a6, a7, a8, a9, a10, a11) (nI k0) := by
  refine br_f (nI_pos (by omega)) (pk_le 4 k0 (fun z => absurd z (by omega)) (fun _ => ⟨pk_in k0 4 hk, br_c (fun _ => H _ _ _ _ _ _ _ _ _ _ _ _ _ _ _ hI) (fun _ => ⟨pk_in k0 4 hk, nm_r (e' := upd a4 k0 0) (by rw [nI_clamp (by omega)]) ?_⟩)⟩))
  obtain ⟨h2, h3, h5, h6, h11, ⟨q, hq⟩, hP⟩ := hI
  refine H _ _ _ _ _ _ _ _ _ _ _ _ _ _ _ ⟨h2, h3, h5, h6, h11, ⟨q, fun j hj => ?_, hq.2⟩, fun z => absurd rfl z⟩
  obtain ⟨w1, w2, w3⟩ := hq.1 j hj
  refine ⟨w1, w2, fun hB => w3 ?_⟩
  obtain ⟨k1, z1, z2, z3⟩ := hB
  have e : k1 ≠ k0 := fun e => z2 (by rw [e, pk_us])
  rw [pk_un e] at z2
  exact ⟨k1, z1, z2, z3⟩
theorem ej_w_bl {post : Int32 → St2 → Prop} {k e g : Int32} {a1 a2 a3 a4 a5 a6 a7 a8 a9 a10 a11 : Nat → Int32} {p C x y : Nat} (hp1 : 1 ≤ p) (hp6 : p ≤ 6) (hC : C ≤ 6) (hI : ej_Inv p C g a1 a2 a3 a4 a5 a6 a11) (hx : x ≤ 100) (hy : y ≤ 100)
    (H : ∀ (x k' e' g' : Int32) (b1 b2 b3 b4 b5 b6 b7 b8 b9 b10 b11 : Nat → Int32), ej_Inv p C g' b1 b2 b3 b4 b5 b6 b11 → post x (nI p, nI C, k', e', g', b1, b2, b3, b4, b5, b6, b7, b8, b9, b10, b11)) :
    wpX_block post (nI p, nI C, k, e, g, a1, a2, a3, a4, a5, a6, a7, a8, a9, a10, a11) (nI x) (nI y) := by
  have fin : ∀ k0, k0 ≤ 4 → x ≤ 40 → y ≤ 40 → (k0 < 4 → a4 k0 = 0) → wX_block_39 post (nI x) (nI y) (nI k0) (nI p) (nI C) k e g a1 a2 a3 a4 a5 a6 a7 a8 a9 a10 a11 := by
    intro k0 hk4 hx4 hy4 hu
    unfold wX_block_39
    refine pk_lt k0 4 (fun hk => ⟨pk_in k0 4 hk, nm_r (e' := upd a4 k0 1) (by rw [nI_clamp (by omega)]) ⟨pk_in k0 4 hk, nm_r (e' := upd a5 k0 (nI x)) (by rw [nI_clamp (by omega), ej_b8 x (by omega)]) ⟨pk_in k0 4 hk, nm_r (e' := upd a6 k0 (nI y)) (by rw [nI_clamp (by omega), ej_b8 y (by omega)]) ?_⟩⟩⟩) (fun _ => H _ _ _ _ _ _ _ _ _ _ _ _ _ _ _ hI)
    obtain ⟨h2, h3, h5, h6, h11, ⟨q, hq⟩, hP⟩ := hI
    have h5' : ej_S 4 (upd a5 k0 (nI x)) := ej_Su h5 hx4
    have h6' : ej_S 4 (upd a6 k0 (nI y)) := ej_Su h6 hy4
    refine ej_w_aa hC hp6 h2 h3 h11 (fun n c7 c8 r1 r2 r3 r4 => ?_)
    refine ej_w_fq hp1 hp6 (by omega) h5' h6' r2 r3 r4 (fun t b b' ht hex _ => br_f (by decide) ?_) (fun b' hno => br_t rfl ⟨pk_in k0 4 hk, nm_r (e' := upd (upd a4 k0 1) k0 0) (by rw [nI_clamp (by omega)]) ?_⟩)
    · exact H _ _ _ _ _ _ _ _ _ _ _ _ _ _ _ ⟨h2, h3, h5', h6', h11, hex, fun z => absurd rfl z⟩
    · have hB : ∀ t, ej_B p (upd (upd a4 k0 1) k0 0) (upd a5 k0 (nI x)) (upd a6 k0 (nI y)) t → ej_B p a4 a5 a6 t := by
        rintro t ⟨k1, z1, z2, z3, z4⟩
        have e : k1 ≠ k0 := fun e => z2 (by rw [e, pk_us])
        rw [pk_un e, pk_un e] at z2
        rw [ej_vn e] at z3 z4
        exact ⟨k1, z1, z2, z3, z4⟩
      refine H _ _ _ _ _ _ _ _ _ _ _ _ _ _ _ ⟨h2, h3, h5', h6', h11, ⟨q, fun j hj => ?_, hq.2⟩, fun z => ⟨fun j hj => ?_, (hP z).2⟩⟩
      · obtain ⟨w1, w2, w3⟩ := hq.1 j hj
        exact ⟨w1, w2, fun z => w3 (hB _ z)⟩
      · obtain ⟨w1, w2, w3⟩ := (hP z).1 j hj
        exact ⟨w1, w2, fun z => w3 (hB _ z)⟩
  refine br_f (nI_pos (by omega)) (pk_lt 40 y (fun _ => H _ _ _ _ _ _ _ _ _ _ _ _ _ _ _ hI) (fun hy4 => pk_lt x y (fun hxy => ?_) (fun _ => H _ _ _ _ _ _ _ _ _ _ _ _ _ _ _ hI)))
  refine pk_loop (σ := Unit) (fun f i _ => wX_block_19 post (nI x) (nI y) (nI p) (nI C) k e g a1 a2 a3 a4 a5 a6 a7 a8 a9 a10 a11 f (nI i)) (fun _ _ => True) 4 0 () (by omega) trivial
    (fun f _ _ => pk_le 4 4 (fun _ => fin 4 (by omega) (by omega) (by omega) (fun z => absurd z (by omega))) (fun z => absurd z (by omega)))
    (fun f i _ hi _ hw => pk_le 4 i (fun z => absurd z (by omega)) (fun _ => ⟨pk_in i 4 hi, ?_⟩))
  rw [nI_clamp (show i < 2 ^ 31 by omega)]
  exact br_c (fun hu => fin i (by omega) (by omega) (by omega) (fun _ => hu)) (fun _ => nm_r (nI_1 i) (hw () trivial))
theorem ej_w_tu {post : St2 → Prop} {k e g : Int32} {a1 a2 a3 a4 a5 a6 a7 a8 a9 a10 a11 : Nat → Int32} {p C : Nat} {w x y : Int32} (hp1 : 1 ≤ p) (hp6 : p ≤ 6) (hC : C ≤ 6) (hI : ej_Inv p C g a1 a2 a3 a4 a5 a6 a11)
    (H : ∀ (k' e' g' : Int32) (b1 b2 b3 b4 b5 b6 b7 b8 b9 b10 b11 : Nat → Int32), ej_Inv p C g' b1 b2 b3 b4 b5 b6 b11 → post (nI p, nI C, k', e', g', b1, b2, b3, b4, b5, b6, b7, b8, b9, b10, b11)) :
    wpL_turn post (nI p, nI C, k, e, g, a1, a2, a3, a4, a5, a6, a7, a8, a9, a10, a11) (nI p) w x y := by
  obtain ⟨m, hm, em⟩ := pk_andE x 16 (m := 65535) (by decide)
  obtain ⟨j, hj, ej⟩ := pk_andE y 4 (m := 15) (by decide)
  have hm41 : m % 41 < 41 := Nat.mod_lt _ (by omega)
  have fin : ∀ r d, r ≤ 60 → d ≤ 100 → wL_turn_35 post w x y (nI r) (nI d) (nI p) (nI C) k e g a1 a2 a3 a4 a5 a6 a7 a8 a9 a10 a11 := by
    intro r d hr hd
    unfold wL_turn_35
    refine br_c (fun _ => br_c (fun _ => br_c (fun _ => br_c (fun _ => ?_) (fun _ => ?_)) (fun _ => ?_)) (fun _ => ?_)) (fun _ => ?_)
    · obtain ⟨i, hi, ei⟩ := pk_andE x 2 (m := 3) (by decide)
      rw [ei]
      exact ej_w_ub hI hi (fun _ => H)
    · obtain ⟨i, hi, ei⟩ := pk_andE y 3 (m := 7) (by decide)
      rw [ei, nI_1, nI_add]
      exact ej_w_bl hp1 hp6 hC hI (by omega) (by omega) (fun _ => H)
    · obtain ⟨i, hi, ei⟩ := pk_andE x 3 (m := 7) (by decide)
      rw [ei]
      exact ej_w_wd hC hI hi (fun _ => H)
    · obtain ⟨i, hi, ei⟩ := pk_andE (y >>> ((8 : Int32) &&& 31)) 3 (m := 7) (by decide)
      rw [ei]
      exact ej_w_mv hp1 hp6 hC hI hi (by omega) hd (fun _ => H)
    · exact ej_w_of hp1 hp6 hC hI (by omega) hd (fun _ => H)
  refine ⟨by decide, nm_r (e' := nI (m % 41)) ?_ (nm_r (e' := nI (m % 41 + p + j)) ?_ ?_)⟩
  · rw [em]
    exact pk_rem (d := 41) (by omega) (by omega) (by omega)
  · rw [ej, nI_add, nI_add]
  · exact pk_le (m % 41 + p + j) 40 (fun z => fin _ _ (by omega) (by omega)) (fun z => fin _ 40 (by omega) (by omega))
end
section
theorem ej_bit1 : ∀ i, i < 6 → ∀ M, M < 2 ^ i → nI M ||| ((1 : Int32) <<< (nI i &&& 31)) = nI (M + 2 ^ i) := by decide +kernel
theorem ej_bit2 : ∀ i, i < 6 → ∀ M, M < 2 ^ i → ∀ j, j < 6 → (((nI (M + 2 ^ i) >>> (nI j &&& 31)) &&& 1) = 0 ↔ (((nI M >>> (nI j &&& 31)) &&& 1) = 0 ∧ j ≠ i)) := by decide +kernel
theorem ej_bit0 : ∀ j, j < 6 → ((nI 0 >>> (nI j &&& 31)) &&& 1) = 0 := by decide +kernel
theorem ej_w_jo {post : Int32 → Prop} {l k e g : Int32} {a1 a2 a3 a4 a5 a6 a7 a8 a9 a10 a11 : Nat → Int32} {C : Nat} (hC : C ≤ 6) (H : ∀ m : Int32, (∀ j, j < 6 → (((m >>> (nI j &&& 31)) &&& 1) = 0 ↔ ¬ ej_J C a1 j)) → post m) : wpX_jobs post (l, nI C, k, e, g, a1, a2, a3, a4, a5, a6, a7, a8, a9, a10, a11) := by
  refine pk_loop (fun f i (s : Nat) => wX_jobs_4 post l (nI C) k e g a1 a2 a3 a4 a5 a6 a7 a8 a9 a10 a11 f (nI s) (nI i)) (fun i s => s < 2 ^ i ∧ ∀ j, j < 6 → (((nI s >>> (nI j &&& 31)) &&& 1) = 0 ↔ ¬ ej_J i a1 j)) C 0 0 (by omega) ⟨by decide, fun j hj => ⟨fun _ z => absurd z.1 (by omega), fun _ => ej_bit0 j hj⟩⟩
    (fun f s h => pk_le C C (fun _ => H _ h.2) (fun z => absurd z (by omega))) (fun f i s hi h hw => pk_le C i (fun z => absurd z (by omega)) (fun _ => ⟨pk_in i 8 (by omega), ?_⟩))
  rw [nI_clamp (show i < 2 ^ 31 by omega)]
  have hpow : 2 ^ (i + 1) = 2 ^ i + 2 ^ i := by rw [Nat.pow_succ]; omega
  refine br_c (fun hu => nm_r (nI_1 i) (hw s ⟨by have := h.1; omega, fun j hj => ?_⟩)) (fun hu => nm_r (ej_bit1 i (by omega) s h.1) (nm_r (nI_1 i) (hw (s + 2 ^ i) ⟨by have := h.1; omega, fun j hj => ?_⟩)))
  · rw [h.2 j hj]
    refine not_congr ⟨fun z => ⟨by have := z.1; omega, z.2⟩, fun z => ⟨?_, z.2⟩⟩
    have : j ≠ i := fun e => z.2 (by rw [e]; exact hu)
    have := z.1
    omega
  · rw [ej_bit2 i (by omega) s h.1 j hj, h.2 j hj]
    constructor
    · rintro ⟨z1, z2⟩ z3
      exact z1 ⟨by have := z3.1; omega, z3.2⟩
    · intro z
      refine ⟨fun z' => z ⟨by have := z'.1; omega, z'.2⟩, fun e => z ?_⟩
      rw [e]
      exact ⟨by omega, hu⟩
theorem ej_w_hl {post : Int32 → St2 → Prop} {k e g : Int32} {a1 a2 a3 a4 a5 a6 a7 a8 a9 a10 a11 : Nat → Int32} {p C : Nat} (hp1 : 1 ≤ p) (hp6 : p ≤ 6) (hC : C ≤ 6) (hI : ej_Inv p C g a1 a2 a3 a4 a5 a6 a11)
    (H : ∀ (k' e' g' : Int32) (b7 b8 b9 b10 b11 : Nat → Int32), ej_Inv p C g' a1 a2 a3 a4 a5 a6 b11 → post 1 (nI p, nI C, k', e', g', a1, a2, a3, a4, a5, a6, b7, b8, b9, b10, b11)) :
    wpL_holds post (nI p, nI C, k, e, g, a1, a2, a3, a4, a5, a6, a7, a8, a9, a10, a11) (nI p) := by
  unfold wpL_holds
  refine ej_w_jo hC (fun m hm => ?_)
  refine pk_loop (fun f i (s : Nat × Int32 × Int32 × Int32 × (Nat → Int32) × (Nat → Int32) × (Nat → Int32) × (Nat → Int32) × (Nat → Int32)) => wL_holds_10 post (nI p) m f (nI s.1) (nI i) (nI p) (nI C) s.2.1 s.2.2.1 s.2.2.2.1 a1 a2 a3 a4 a5 a6 s.2.2.2.2.1 s.2.2.2.2.2.1 s.2.2.2.2.2.2.1 s.2.2.2.2.2.2.2.1 s.2.2.2.2.2.2.2.2)
    (fun i s => s.1 ≤ 100 ∧ ej_Inv p C s.2.2.2.1 a1 a2 a3 a4 a5 a6 s.2.2.2.2.2.2.2.2 ∧ (s.2.2.2.1 = 0 → ∀ j, j < i → ¬ ej_J C a1 j) ∧ (¬ s.2.2.2.1 = 0 → ∀ j, j < i → ej_J C a1 j → ej_v s.2.2.2.2.2.2.2.2 j + p ≤ s.1))
    6 0 (0, k, e, g, a7, a8, a9, a10, a11) (by omega) ⟨Nat.zero_le _, hI, fun _ j hj => absurd hj (by omega), fun _ j hj => absurd hj (by omega)⟩ ?_ ?_
  · intro f s h
    obtain ⟨la, k', e', g', b7, b8, b9, b10, b11⟩ := s
    obtain ⟨h0, hI', h1, h2⟩ := h
    dsimp only at h0 hI' h1 h2
    show wL_holds_10 post (nI p) m (f + 1) (nI la) (nI 6) (nI p) (nI C) k' e' g' a1 a2 a3 a4 a5 a6 b7 b8 b9 b10 b11
    refine pk_le 6 6 (fun _ => ?_) (fun z => absurd z (by omega))
    refine ej_w_ee hp1 hp6 hC hI' (fun t k'' c7 c8 c9 c10 ht hmin => ?_)
    have hle : t ≤ la := by
      by_cases hg : g' = 0
      · obtain ⟨q, hq⟩ := hI'.2.2.2.2.2.1
        exact hmin q hq la (fun j hj => absurd hj (h1 hg j (by have := hj.1; omega)))
      · exact hmin _ (hI'.2.2.2.2.2.2 hg) la (fun j hj => h2 hg j (by have := hj.1; omega) hj)
    exact pk_lt la t (fun z => absurd z (by omega)) (fun _ => H _ _ _ _ _ _ _ _ hI')
  · intro f i s hi h hw
    obtain ⟨la, k', e', g', b7, b8, b9, b10, b11⟩ := s
    obtain ⟨h0, hI', h1, h2⟩ := h
    dsimp only at h0 hI' h1 h2
    show wL_holds_10 post (nI p) m (f + 1) (nI la) (nI i) (nI p) (nI C) k' e' g' a1 a2 a3 a4 a5 a6 b7 b8 b9 b10 b11
    refine pk_le 6 i (fun z => absurd z (by omega)) (fun _ => ?_)
    refine ej_w_ps hp1 hp6 hC (by omega) hI' (fun hJ k2 e2 g2 c7 c8 c9 c10 c11 hg2 hI2 hsame => ?_) (fun hJ => ?_)
    · refine br_f (fun z => (hm i hi).mp z hJ) ?_
      refine ej_w_al hp1 hp6 hC hI2 hJ hg2 (fun k3 e3 d7 d8 d9 d10 => br_f (by decide) ?_)
      refine ej_w_apt hp1 hp6 hC hI2 hJ hg2 (br_f (by decide) ?_)
      have v11 := ej_v40 hI2.2.2.2.2.1 (show i < 8 by omega)
      have old : ∀ j, j < i → ej_J C a1 j → ej_v c11 j + p ≤ la := by
        intro j hj hj'
        by_cases hg : g' = 0
        · exact absurd hj' (h1 hg j hj)
        · rw [hsame hg]
          exact h2 hg j hj hj'
      refine pk_le (ej_v c11 i + p) la (fun z => nm_r (nI_1 i) (hw (la, k3, e3, g2, d7, d8, d9, d10, c11) ⟨h0, hI2, fun z' => absurd z' hg2, fun _ => lt_s old (fun _ => z)⟩)) (fun z => nm_r (nI_add _ _) (nm_r (nI_1 i) (hw (ej_v c11 i + p, k3, e3, g2, d7, d8, d9, d10, c11) ⟨?_, hI2, fun z' => absurd z' hg2, fun _ => lt_s (fun j hj hj' => Nat.le_trans (old j hj hj') (Nat.le_of_lt z)) (fun _ => Nat.le_refl _)⟩))) (nI_add _ _)
      show ej_v c11 i + p ≤ 100
      omega
    · refine br_t ((hm i hi).mpr hJ) (br_t rfl (nm_r (nI_1 i) (hw (la, k', e', g', b7, b8, b9, b10, b11) ⟨h0, hI', fun z => lt_s (h1 z) hJ, fun z => lt_s (h2 z) (fun z' => absurd z' hJ)⟩)))
theorem ej_w_cell {post : Int32 → Prop} {L k : Nat} {xs : Nat → Int32} (hL : L ≤ 260) (hk : k < 260) (H : ∀ x, post x) : wpL_cell post L xs () (nI k) :=
  pk_le L k (fun _ => H _) (fun z => ⟨pk_in k L z, H _⟩)
end
section
theorem ej_Inv0 {p C : Nat} : ej_Inv p C 0 (fun _ => 0) (fun _ => 0) (fun _ => 0) (fun _ => 0) (fun _ => 0) (fun _ => 0) (fun _ => 0) :=
  ⟨ej_Sz 8, ej_Sz 8, ej_Sz 4, ej_Sz 4, ej_Sz 8, ⟨fun _ => 0, fun _ hj => absurd rfl hj.2, fun _ _ hi => absurd rfl hi.2⟩, fun z => absurd rfl z⟩
theorem ej_w_lp {L p C kc ks : Nat} {xs : Nat → Int32} (hL : L ≤ 260) (hp1 : 1 ≤ p) (hp6 : p ≤ 6) (hC : C ≤ 6) {k e g : Int32} {a1 a2 a3 a4 a5 a6 a7 a8 a9 a10 a11 : Nat → Int32} (hI : ej_Inv p C g a1 a2 a3 a4 a5 a6 a11) :
    ∃ f, wL_law_37 (fun r => r = 1) L xs (nI p) kc ks f (nI 2) (nI p) (nI C) k e g a1 a2 a3 a4 a5 a6 a7 a8 a9 a10 a11 := by
  refine loop_m (fun f (s : Nat × Int32 × Int32 × Int32 × (Nat → Int32) × (Nat → Int32) × (Nat → Int32) × (Nat → Int32) × (Nat → Int32) × (Nat → Int32) × (Nat → Int32) × (Nat → Int32) × (Nat → Int32) × (Nat → Int32) × (Nat → Int32)) => wL_law_37 (fun r => r = 1) L xs (nI p) kc ks f (nI s.1) (nI p) (nI C) s.2.1 s.2.2.1 s.2.2.2.1 s.2.2.2.2.1 s.2.2.2.2.2.1 s.2.2.2.2.2.2.1 s.2.2.2.2.2.2.2.1 s.2.2.2.2.2.2.2.2.1 s.2.2.2.2.2.2.2.2.2.1 s.2.2.2.2.2.2.2.2.2.2.1 s.2.2.2.2.2.2.2.2.2.2.2.1 s.2.2.2.2.2.2.2.2.2.2.2.2.1 s.2.2.2.2.2.2.2.2.2.2.2.2.2.1 s.2.2.2.2.2.2.2.2.2.2.2.2.2.2)
    (fun s => s.1 ≤ 300 ∧ ej_Inv p C s.2.2.2.1 s.2.2.2.2.1 s.2.2.2.2.2.1 s.2.2.2.2.2.2.1 s.2.2.2.2.2.2.2.1 s.2.2.2.2.2.2.2.2.1 s.2.2.2.2.2.2.2.2.2.1 s.2.2.2.2.2.2.2.2.2.2.2.2.2.2)
    (fun s => 300 - s.1) ?_ (2, k, e, g, a1, a2, a3, a4, a5, a6, a7, a8, a9, a10, a11) ⟨by show 2 ≤ 300; omega, hI⟩
  intro f s h hw
  obtain ⟨j, k, e, g, a1, a2, a3, a4, a5, a6, a7, a8, a9, a10, a11⟩ := s
  obtain ⟨hj, hI⟩ := h
  dsimp only at hj hI
  show wL_law_37 (fun r => r = 1) L xs (nI p) kc ks (f + 1) (nI j) (nI p) (nI C) k e g a1 a2 a3 a4 a5 a6 a7 a8 a9 a10 a11
  refine pk_le L (j + 2) (fun _ => rfl) (fun z => ⟨pk_in j L (by omega), pk_in (j + 1) L (by omega) (nI_1 j), pk_in (j + 2) L (by omega) (nI_add j 2), ?_⟩) rfl (nI_add j 2)
  refine ej_w_tu hp1 hp6 hC hI (fun k' e' g' b1 b2 b3 b4 b5 b6 b7 b8 b9 b10 b11 hI' => ?_)
  refine ej_w_hl hp1 hp6 hC hI' (fun k'' e'' g'' c7 c8 c9 c10 c11 hI'' => br_f (by decide) (nm_r (nI_add j 3) ?_))
  exact hw (j + 3, k'', e'', g'', b1, b2, b3, b4, b5, b6, c7, c8, c9, c10, c11) ⟨by show j + 3 ≤ 300; omega, hI''⟩ (by show 300 - (j + 3) < 300 - j; omega)
theorem i_vc (xs : Nat → Int32) (L : Nat) (hL : L ≤ 260) : wpL_law (fun r => r = 1) L xs := by
  unfold wpL_law
  refine ej_w_cell (k := 0) hL (by omega) (fun x => ⟨by decide, ?_⟩)
  obtain ⟨m, hm, em⟩ := pk_andE x 16 (m := 65535) (by decide)
  have hm6 : m % 6 < 6 := Nat.mod_lt _ (by omega)
  refine nm_r (e' := nI (1 + m % 6)) ?_ ?_
  · rw [em]
    have e : nI m - nI m / 6 * 6 = nI (m % 6) := pk_rem (d := 6) (by omega) (by omega) (by omega)
    rw [e]
    exact nI_add 1 _
  refine ej_w_cell (k := 1) hL (by omega) (fun y => ?_)
  obtain ⟨i, hi, ei⟩ := pk_andE y 2 (m := 3) (by decide)
  refine nm_r (e' := nI (3 + i)) ?_ ?_
  · rw [ei]
    exact nI_add 3 i
  refine ⟨11, 116, by omega, by omega, ?_⟩
  refine ⟨by omega, by omega, by omega, by omega, by omega, by omega, by omega, by omega, by omega, by omega, by omega, by omega, by omega, by omega, by omega, by omega, by omega, by omega, by omega, by omega, by omega, by omega, ?_⟩
  refine pk_le 1 (1 + m % 6) (fun _ => pk_le (1 + m % 6) 6 (fun _ => ?_) (fun z => absurd z (by omega))) (fun z => absurd z (by omega))
  unfold wX_init_111
  refine pk_le 1 (3 + i) (fun _ => pk_le (3 + i) 6 (fun _ => ?_) (fun z => absurd z (by omega))) (fun z => absurd z (by omega))
  exact ej_w_lp hL (by omega) (by omega) (by omega) ej_Inv0
end
