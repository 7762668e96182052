section
/-! sets as numbers: parts, the highest place where two differ, loops as folds, lists of those that hold -/
def un {α : Type} (f : Nat → α) (k : Nat) (x : α) : Nat → α := fun j => if j = k then x else f j
theorem un_s {α : Type} {f : Nat → α} {k : Nat} {x : α} : un f k x k = x := by simp [un]
theorem un_n {α : Type} {f : Nat → α} {k j : Nat} {x : α} (h : j ≠ k) : un f k x j = f j := by simp [un, h]
/-- a without the bits of b; the bit i of s as a number -/
def nd (a b : Nat) : Nat := a ^^^ (a &&& b)
def bN (s i : Nat) : Nat := (s.testBit i).toNat
theorem nd_t (a b i : Nat) : (nd a b).testBit i = (a.testBit i && !b.testBit i) := by
  unfold nd
  rw [Nat.testBit_xor, Nat.testBit_and]
  cases a.testBit i <;> cases b.testBit i <;> rfl
theorem nd_le (a b : Nat) : nd a b ≤ a := by
  apply Nat.le_of_testBit
  intro i h
  rw [nd_t] at h
  cases ha : a.testBit i
  · rw [ha] at h; cases h
  · rfl
theorem bN_1 {s i : Nat} : bN s i = 1 ↔ s.testBit i = true := by unfold bN; cases s.testBit i <;> simp
theorem bN_0 {s i : Nat} : bN s i = 0 ↔ s.testBit i = false := by unfold bN; cases s.testBit i <;> simp
theorem bN_le (s i : Nat) : bN s i ≤ 1 := by unfold bN; cases s.testBit i <;> simp
theorem bN_lt (s i : Nat) : bN s i < 2 ^ 31 := Nat.lt_of_le_of_lt (bN_le s i) (by decide)
theorem ff_of {b : Bool} (h : ¬ b = true) : b = false := by cases b <;> simp_all
theorem tt_of {b : Bool} (h : ¬ b = false) : b = true := by cases b <;> simp_all
/-- x is a part of y -/
def ssb (x y : Nat) : Prop := x &&& y = x
theorem ssb_t {x y : Nat} : ssb x y ↔ ∀ i, x.testBit i = true → y.testBit i = true := by
  unfold ssb
  constructor
  · intro h i hi
    have h2 : (x &&& y).testBit i = true := by rw [h]; exact hi
    rw [Nat.testBit_and, hi] at h2
    exact h2
  · intro h
    apply Nat.eq_of_testBit_eq
    intro i
    rw [Nat.testBit_and]
    cases hx : x.testBit i
    · rfl
    · rw [h i hx]; rfl
theorem ssb_le {x y : Nat} (h : ssb x y) : x ≤ y := Nat.le_of_testBit (ssb_t.mp h)
theorem ssb_refl (x : Nat) : ssb x x := Nat.and_self x
theorem ssb_trans {x y z : Nat} (h1 : ssb x y) (h2 : ssb y z) : ssb x z := ssb_t.mpr (fun i h => ssb_t.mp h2 i (ssb_t.mp h1 i h))
theorem ssb_anti {x y : Nat} (h1 : ssb x y) (h2 : ssb y x) : x = y := Nat.le_antisymm (ssb_le h1) (ssb_le h2)
theorem ssb_0 (x : Nat) : ssb 0 x := Nat.zero_and x
theorem ssb_nd {x y : Nat} : nd x y = 0 ↔ ssb x y := by
  constructor
  · intro h
    apply ssb_t.mpr
    intro i hi
    have h2 : (nd x y).testBit i = false := by rw [h]; exact Nat.zero_testBit i
    rw [nd_t, hi] at h2
    cases hy : y.testBit i
    · rw [hy] at h2; cases h2
    · rfl
  · intro h
    apply Nat.eq_of_testBit_eq
    intro i
    rw [nd_t, Nat.zero_testBit]
    cases hx : x.testBit i
    · rfl
    · rw [ssb_t.mp h i hx]; rfl
theorem ssb_full {m x : Nat} (h : x < 2 ^ m) : ssb x (2 ^ m - 1) := Nat.and_two_pow_sub_one_of_lt_two_pow h
theorem bit_lt {m x i : Nat} (h : x < 2 ^ m) (hi : x.testBit i = true) : i < m := by
  rcases Nat.lt_or_ge i m with g | g
  · exact g
  · have := Nat.testBit_lt_two_pow (Nat.lt_of_lt_of_le h (Nat.pow_le_pow_right (by decide) g))
    rw [this] at hi
    cases hi
theorem pow_b {m i : Nat} (h : i < m) : 2 ^ i < 2 ^ m := Nat.pow_lt_pow_right (by decide) h
theorem and_p {A a : Nat} : A &&& 2 ^ a = 0 ↔ A.testBit a = false := by
  constructor
  · intro h
    have h2 : (A &&& 2 ^ a).testBit a = false := by rw [h]; exact Nat.zero_testBit a
    rw [Nat.testBit_and, Nat.testBit_two_pow_self, Bool.and_true] at h2
    exact h2
  · intro h
    apply Nat.eq_of_testBit_eq
    intro i
    rw [Nat.testBit_and, Nat.testBit_two_pow, Nat.zero_testBit]
    by_cases g : a = i
    · subst g; rw [h]; rfl
    · simp [g]
theorem top_diff : ∀ (k : Nat) {A B : Nat}, A < 2 ^ k → B < 2 ^ k → A < B → ∃ b, b < k ∧ A.testBit b = false ∧ B.testBit b = true ∧ ∀ j, b < j → A.testBit j = B.testBit j := by
  intro k
  induction k with
  | zero => intro A B h1 h2 h3; omega
  | succ k ih =>
    intro A B h1 h2 h3
    have lo : ∀ X, X < 2 ^ (k + 1) → X.testBit k = false → X < 2 ^ k := by
      intro X hX h
      apply Nat.lt_pow_two_of_testBit
      intro i hi
      rcases Nat.lt_or_ge k i with g | g
      · exact Nat.testBit_lt_two_pow (Nat.lt_of_lt_of_le hX (Nat.pow_le_pow_right (by decide) g))
      · have : i = k := by omega
        rw [this]; exact h
    have hi : ∀ X j, X < 2 ^ (k + 1) → k < j → X.testBit j = false := fun X j hX hj => Nat.testBit_lt_two_pow (Nat.lt_of_lt_of_le hX (Nat.pow_le_pow_right (by decide) hj))
    cases hA : A.testBit k <;> cases hB : B.testBit k
    · obtain ⟨b, q1, q2⟩ := ih (lo A h1 hA) (lo B h2 hB) h3
      exact ⟨b, by omega, q2⟩
    · exact ⟨k, by omega, hA, hB, fun j hj => by rw [hi A j h1 hj, hi B j h2 hj]⟩
    · have := Nat.ge_two_pow_of_testBit hA
      have := lo B h2 hB
      omega
    · have gA := Nat.ge_two_pow_of_testBit hA
      have gB := Nat.ge_two_pow_of_testBit hB
      have e2 : 2 ^ (k + 1) = 2 ^ k + 2 ^ k := by rw [Nat.pow_succ]; omega
      have mA : A % 2 ^ k = A - 2 ^ k := by rw [Nat.mod_eq_sub_mod gA, Nat.mod_eq_of_lt (by omega)]
      have mB : B % 2 ^ k = B - 2 ^ k := by rw [Nat.mod_eq_sub_mod gB, Nat.mod_eq_of_lt (by omega)]
      obtain ⟨b, q1, q2, q3, q4⟩ := ih (A := A % 2 ^ k) (B := B % 2 ^ k) (by omega) (by omega) (by omega)
      rw [Nat.testBit_mod_two_pow] at q2 q3
      simp [q1] at q2 q3
      refine ⟨b, by omega, q2, q3, fun j hj => ?_⟩
      rcases Nat.lt_trichotomy j k with g | g | g
      · have := q4 j hj
        rw [Nat.testBit_mod_two_pow, Nat.testBit_mod_two_pow] at this
        simpa [g] using this
      · rw [g, hA, hB]
      · rw [hi A j h1 g, hi B j h2 g]
theorem lt_top {A B b : Nat} (h0 : A.testBit b = false) (h1 : B.testBit b = true) (hj : ∀ j, b < j → A.testBit j = B.testBit j) : A < B := by
  rcases Nat.lt_trichotomy A B with g | g | g
  · exact g
  · subst g; rw [h0] at h1; cases h1
  · have hk : A < 2 ^ A := Nat.lt_two_pow_self
    obtain ⟨b', -, q2, q3, q4⟩ := top_diff A (Nat.lt_trans g hk) hk g
    rcases Nat.lt_trichotomy b b' with z | z | z
    · rw [hj b' z, q2] at q3; cases q3
    · subst z; rw [q3] at h0; cases h0
    · rw [← q4 b z, h1] at h0; cases h0
/-- a loop whose counter rises: what it has made after k rounds -/
def fd {α : Type} (f : Nat → α → α) (a : α) : Nat → α
  | 0 => a
  | k + 1 => f k (fd f a k)
/-- those below t that hold, in their order -/
def enm (p : Nat → Bool) (t : Nat) : List Nat := (List.range t).filter p
theorem enm_s (p : Nat → Bool) (t : Nat) : enm p (t + 1) = if p t = true then enm p t ++ [t] else enm p t := by
  unfold enm
  rw [List.range_succ, List.filter_append]
  by_cases h : p t = true <;> simp [h]
theorem enm_mem {p : Nat → Bool} {t s : Nat} : s ∈ enm p t ↔ s < t ∧ p s = true := by
  unfold enm
  rw [List.mem_filter, List.mem_range]
theorem enm_len (p : Nat → Bool) (t : Nat) : (enm p t).length ≤ t := by
  unfold enm
  have := List.length_filter_le p (List.range t)
  rwa [List.length_range] at this
def En (p : Nat → Bool) (t k : Nat) (f : Nat → Nat) : Prop := (enm p t).length = k ∧ ∀ i, i < k → (enm p t)[i]? = some (f i)
theorem En.zero (p : Nat → Bool) (f : Nat → Nat) : En p 0 0 f := ⟨rfl, fun i h => absurd h (by omega)⟩
theorem En.push {p : Nat → Bool} {t k : Nat} {f : Nat → Nat} (h : En p t k f) (hp : p t = true) : En p (t + 1) (k + 1) (un f k t) := by
  obtain ⟨h1, h2⟩ := h
  refine ⟨by rw [enm_s, if_pos hp, List.length_append, h1]; rfl, fun i hi => ?_⟩
  rw [enm_s, if_pos hp]
  rcases Nat.lt_or_ge i k with g | g
  · rw [List.getElem?_append_left (by rw [h1]; exact g), h2 i g, un_n (by omega)]
  · have : i = k := by omega
    subst this
    rw [List.getElem?_append_right (by omega), h1, Nat.sub_self, un_s]
    rfl
theorem En.skip {p : Nat → Bool} {t k : Nat} {f : Nat → Nat} (h : En p t k f) (hp : p t = false) : En p (t + 1) k f := by
  unfold En
  rw [enm_s, if_neg (by rw [hp]; decide)]
  exact h
theorem En.gap {p : Nat → Bool} {t k : Nat} {f : Nat → Nat} (h : En p t k f) : ∀ {X : Nat}, t ≤ X → (∀ j, t ≤ j → j < X → p j = false) → En p X k f := by
  intro X hX hg
  induction X with
  | zero =>
    have : t = 0 := by omega
    subst this; exact h
  | succ X ih =>
    rcases Nat.lt_or_ge X t with g | g
    · have : t = X + 1 := by omega
      subst this; exact h
    · exact (ih g (fun j h1 h2 => hg j h1 (by omega))).skip (hg X g (by omega))
theorem En.le {p : Nat → Bool} {t k : Nat} {f : Nat → Nat} (h : En p t k f) : k ≤ t := by rw [← h.1]; exact enm_len p t
theorem En.mem {p : Nat → Bool} {t k : Nat} {f : Nat → Nat} (h : En p t k f) {i : Nat} (hi : i < k) : f i < t ∧ p (f i) = true := enm_mem.mp (List.mem_of_getElem? (h.2 i hi))
theorem En.ex {p : Nat → Bool} {t k : Nat} {f : Nat → Nat} (h : En p t k f) {s : Nat} (hs : s < t) (hp : p s = true) : ∃ i, i < k ∧ f i = s := by
  obtain ⟨i, hi⟩ := List.getElem?_of_mem (enm_mem.mpr ⟨hs, hp⟩ : s ∈ enm p t)
  have hl := (List.getElem?_eq_some_iff.mp hi).1
  rw [h.1] at hl
  exact ⟨i, hl, by have := h.2 i hl; rw [hi] at this; exact (Option.some.inj this).symm⟩
theorem En.same {p : Nat → Bool} {t k : Nat} {f g : Nat → Nat} (h : En p t k f) (e : ∀ i, i < k → g i = f i) : En p t k g := ⟨h.1, fun i hi => by rw [h.2 i hi, e i hi]⟩
/-- what holds in the list up to a step, by the list up to t -/
theorem En.sum {p : Nat → Bool} (g : Nat → Nat) : ∀ {t k : Nat} {f : Nat → Nat}, En p t k f → fd (fun i r => r + g (f i)) 0 k = fd (fun c r => if p c = true then r + g c else r) 0 t := by
  intro t
  induction t with
  | zero =>
    intro k f h
    have : k = 0 := by have := h.le; omega
    subst this; rfl
  | succ t ih =>
    intro k f h
    by_cases hp : p t = true
    · have e := h.1
      rw [enm_s, if_pos hp, List.length_append] at e
      have hl : (enm p t).length = k - 1 ∧ 0 < k := by
        have : [t].length = 1 := rfl
        omega
      obtain ⟨j, rfl⟩ : ∃ j, k = j + 1 := ⟨k - 1, by omega⟩
      have h2 : En p t j f := by
        refine ⟨by omega, fun i hi => ?_⟩
        have := h.2 i (by omega)
        rw [enm_s, if_pos hp, List.getElem?_append_left (by omega)] at this
        exact this
      have hj : f j = t := by
        have := h.2 j (by omega)
        rw [enm_s, if_pos hp, List.getElem?_append_right (by omega), show j - (enm p t).length = 0 from by omega] at this
        exact (Option.some.inj this).symm
      show fd _ 0 j + g (f j) = (if p t = true then _ else _)
      rw [if_pos hp, ih h2, hj]
    · have h2 : En p t k f := by
        unfold En at h ⊢
        rw [enm_s, if_neg hp] at h
        exact h
      show _ = (if p t = true then _ else _)
      rw [if_neg hp]
      exact ih h2
theorem En.mono {p : Nat → Bool} : ∀ {t k : Nat} {f : Nat → Nat}, En p t k f → ∀ i j, i < j → j < k → f i < f j := by
  intro t
  induction t with
  | zero => intro k f h i j _ hj; have := h.le; omega
  | succ t ih =>
    intro k f h i j hij hj
    by_cases hp : p t = true
    · have e := h.1
      rw [enm_s, if_pos hp, List.length_append] at e
      have e1 : [t].length = 1 := rfl
      have h2 : En p t (k - 1) f := by
        refine ⟨by omega, fun i hi => ?_⟩
        have := h.2 i (by omega)
        rw [enm_s, if_pos hp, List.getElem?_append_left (by omega)] at this
        exact this
      rcases Nat.lt_or_ge j (k - 1) with g | g
      · exact ih h2 i j hij g
      · have hj2 : f j = t := by
          have := h.2 j hj
          rw [enm_s, if_pos hp, List.getElem?_append_right (by omega), show j - (enm p t).length = 0 from by omega] at this
          exact (Option.some.inj this).symm
        rw [hj2]
        exact (h2.mem (by omega)).1
    · have h2 : En p t k f := by
        unfold En at h ⊢
        rw [enm_s, if_neg hp] at h
        exact h
      exact ih h2 i j hij hj
end
section
/-! the closure of a table of rows; the next of a family; pseudo-closed sets -/
/-- the component's extent by columns, the intent by rows, the reference's extent by rows -/
def exC (C : Nat → Nat) (n s k : Nat) : Nat := fd (fun a r => if s.testBit a = true then r &&& C a else r) (2 ^ n - 1) k
def inR (R : Nat → Nat) (m e k : Nat) : Nat := fd (fun g r => if e.testBit g = true then r &&& R g else r) (2 ^ m - 1) k
def exR (R : Nat → Nat) (s k : Nat) : Nat := fd (fun g r => if s &&& R g = s then r ||| 2 ^ g else r) 0 k
def clo (n m : Nat) (R : Nat → Nat) (s : Nat) : Nat := inR R m (exR R s n) n
theorem exC_t (C : Nat → Nat) (n s k g : Nat) : (exC C n s k).testBit g = true ↔ g < n ∧ ∀ a, a < k → s.testBit a = true → (C a).testBit g = true := by
  induction k with
  | zero =>
    show (2 ^ n - 1).testBit g = true ↔ _
    rw [Nat.testBit_two_pow_sub_one, decide_eq_true_iff]
    exact ⟨fun h => ⟨h, fun a ha => absurd ha (by omega)⟩, fun h => h.1⟩
  | succ k ih =>
    show (if s.testBit k = true then exC C n s k &&& C k else exC C n s k).testBit g = true ↔ _
    by_cases h : s.testBit k = true
    · rw [if_pos h, Nat.testBit_and, Bool.and_eq_true, ih]
      constructor
      · rintro ⟨⟨h1, h2⟩, h3⟩
        refine ⟨h1, fun a ha hs => ?_⟩
        rcases Nat.lt_or_ge a k with g | g
        · exact h2 a g hs
        · have : a = k := by omega
          rw [this]; exact h3
      · rintro ⟨h1, h2⟩
        exact ⟨⟨h1, fun a ha => h2 a (by omega)⟩, h2 k (by omega) h⟩
    · rw [if_neg h, ih]
      constructor
      · rintro ⟨h1, h2⟩
        refine ⟨h1, fun a ha hs => ?_⟩
        rcases Nat.lt_or_ge a k with g | g
        · exact h2 a g hs
        · have : a = k := by omega
          rw [this] at hs; exact absurd hs h
      · rintro ⟨h1, h2⟩
        exact ⟨h1, fun a ha => h2 a (by omega)⟩
theorem inR_t (R : Nat → Nat) (m e k a : Nat) : (inR R m e k).testBit a = true ↔ a < m ∧ ∀ g, g < k → e.testBit g = true → (R g).testBit a = true := exC_t R m e k a
theorem exR_t (R : Nat → Nat) (s k g : Nat) : (exR R s k).testBit g = true ↔ g < k ∧ ssb s (R g) := by
  induction k with
  | zero =>
    show (0 : Nat).testBit g = true ↔ _
    rw [Nat.zero_testBit]
    exact ⟨fun h => (by cases h), fun h => absurd h.1 (by omega)⟩
  | succ k ih =>
    show (if s &&& R k = s then exR R s k ||| 2 ^ k else exR R s k).testBit g = true ↔ _
    by_cases h : s &&& R k = s
    · rw [if_pos h, Nat.testBit_or, Bool.or_eq_true, ih, Nat.testBit_two_pow, decide_eq_true_iff]
      constructor
      · rintro (⟨h1, h2⟩ | h1)
        · exact ⟨by omega, h2⟩
        · exact ⟨by omega, by rw [← h1]; exact h⟩
      · rintro ⟨h1, h2⟩
        rcases Nat.lt_or_ge g k with q | q
        · exact Or.inl ⟨q, h2⟩
        · exact Or.inr (by omega)
    · rw [if_neg h, ih]
      constructor
      · rintro ⟨h1, h2⟩
        exact ⟨by omega, h2⟩
      · rintro ⟨h1, h2⟩
        rcases Nat.lt_or_ge g k with q | q
        · exact ⟨q, h2⟩
        · have : g = k := by omega
          rw [this] at h2
          exact absurd h2 h
theorem eq_bits {x y : Nat} (h : ∀ i, x.testBit i = true ↔ y.testBit i = true) : x = y := by
  apply Nat.eq_of_testBit_eq
  intro i
  have := h i
  cases hx : x.testBit i <;> cases hy : y.testBit i <;> simp_all
/-- rows and columns say the same -/
def Cols (n m : Nat) (R C : Nat → Nat) : Prop := ∀ a, a < m → ∀ g, g < n → (C a).testBit g = (R g).testBit a
theorem exC_eq {n m : Nat} {R C : Nat → Nat} (hc : Cols n m R C) {s : Nat} (hs : s < 2 ^ m) : exC C n s m = exR R s n := by
  apply eq_bits
  intro g
  rw [exC_t, exR_t]
  constructor
  · rintro ⟨h1, h2⟩
    exact ⟨h1, ssb_t.mpr (fun i hi => by rw [← hc i (bit_lt hs hi) g h1]; exact h2 i (bit_lt hs hi) hi)⟩
  · rintro ⟨h1, h2⟩
    exact ⟨h1, fun a ha hi => by rw [hc a ha g h1]; exact ssb_t.mp h2 a hi⟩
theorem exR_lt (R : Nat → Nat) (s k : Nat) : exR R s k < 2 ^ k := by
  apply Nat.lt_pow_two_of_testBit
  intro i hi
  apply ff_of
  intro h
  have := ((exR_t R s k i).mp h).1
  omega
theorem inR_lt (R : Nat → Nat) (m e k : Nat) : inR R m e k < 2 ^ m := by
  apply Nat.lt_pow_two_of_testBit
  intro i hi
  apply ff_of
  intro h
  have := ((inR_t R m e k i).mp h).1
  omega
theorem clo_t (n m : Nat) (R : Nat → Nat) (s a : Nat) : (clo n m R s).testBit a = true ↔ a < m ∧ ∀ g, g < n → ssb s (R g) → (R g).testBit a = true := by
  unfold clo
  rw [inR_t]
  constructor
  · rintro ⟨h1, h2⟩
    exact ⟨h1, fun g hg hs => h2 g hg ((exR_t R s n g).mpr ⟨hg, hs⟩)⟩
  · rintro ⟨h1, h2⟩
    exact ⟨h1, fun g hg hs => h2 g hg ((exR_t R s n g).mp hs).2⟩
/-- a closure on the sets below 2 ^ m -/
def CloOp (m : Nat) (c : Nat → Nat) : Prop := (∀ s, s < 2 ^ m → c s < 2 ^ m) ∧ (∀ s, s < 2 ^ m → ssb s (c s)) ∧ (∀ s t, s < 2 ^ m → t < 2 ^ m → ssb s t → ssb (c s) (c t)) ∧ (∀ s, s < 2 ^ m → c (c s) = c s)
theorem clo_op (n m : Nat) (R : Nat → Nat) : CloOp m (clo n m R) := by
  have hex : ∀ s, s < 2 ^ m → ssb s (clo n m R s) := fun s hs => ssb_t.mpr (fun a ha => (clo_t n m R s a).mpr ⟨bit_lt hs ha, fun g _ h => ssb_t.mp h a ha⟩)
  have hrow : ∀ s g, g < n → ssb s (R g) → ssb (clo n m R s) (R g) := fun s g hg h => ssb_t.mpr (fun a ha => ((clo_t n m R s a).mp ha).2 g hg h)
  refine ⟨fun s _ => inR_lt _ _ _ _, hex, ?_, ?_⟩
  · intro s t _ _ h
    exact ssb_t.mpr (fun a ha => by
      obtain ⟨h1, h2⟩ := (clo_t n m R s a).mp ha
      exact (clo_t n m R t a).mpr ⟨h1, fun g hg ht => h2 g hg (ssb_trans h ht)⟩)
  · intro s hs
    refine ssb_anti ?_ (hex _ (inR_lt _ _ _ _))
    exact ssb_t.mpr (fun a ha => by
      obtain ⟨h1, h2⟩ := (clo_t n m R _ a).mp ha
      exact (clo_t n m R s a).mpr ⟨h1, fun g hg ht => h2 g hg (hrow s g hg ht)⟩)
theorem clo_fol {n m : Nat} {R : Nat → Nat} {p q : Nat} (hq : q < 2 ^ m) : ssb q (clo n m R p) ↔ ∀ g, g < n → ssb p (R g) → ssb q (R g) := by
  constructor
  · intro h g hg hp
    exact ssb_t.mpr (fun a ha => ((clo_t n m R p a).mp (ssb_t.mp h a ha)).2 g hg hp)
  · intro h
    exact ssb_t.mpr (fun a ha => (clo_t n m R p a).mpr ⟨bit_lt hq ha, fun g hg hp => ssb_t.mp (h g hg hp) a ha⟩)
/-- u gives the least of the family F about a set -/
def LeastOp (m : Nat) (F : Nat → Prop) (u : Nat → Nat) : Prop := ∀ x, x < 2 ^ m → u x < 2 ^ m ∧ F (u x) ∧ ssb x (u x) ∧ ∀ y, y < 2 ^ m → F y → ssb x y → ssb (u x) y
def LeastAb (m : Nat) (F : Nat → Prop) (A X : Nat) : Prop := A < X ∧ X < 2 ^ m ∧ F X ∧ ∀ Y, Y < 2 ^ m → F Y → A < Y → X ≤ Y
/-- attribute a makes the next one -/
def hit (u : Nat → Nat) (A a : Nat) : Prop := A.testBit a = false ∧ nd (u (nd A (2 * 2 ^ a - 1) ||| 2 ^ a)) (2 * 2 ^ a - 1) = nd A (2 * 2 ^ a - 1)
theorem ab_t (A a i : Nat) : (nd A (2 * 2 ^ a - 1)).testBit i = (A.testBit i && decide (a < i)) := by
  rw [nd_t, show 2 * 2 ^ a = 2 ^ (a + 1) from by rw [Nat.pow_succ, Nat.mul_comm], Nat.testBit_two_pow_sub_one]
  by_cases h : a < i
  · have : ¬ i < a + 1 := by omega
    simp [h, this]
  · have : i < a + 1 := by omega
    simp [h, this]
theorem x_t (A a i : Nat) : (nd A (2 * 2 ^ a - 1) ||| 2 ^ a).testBit i = true ↔ (A.testBit i = true ∧ a < i) ∨ i = a := by
  rw [Nat.testBit_or, ab_t, Nat.testBit_two_pow, Bool.or_eq_true, Bool.and_eq_true, decide_eq_true_iff, decide_eq_true_iff]
  constructor
  · rintro (h | h)
    · exact Or.inl h
    · exact Or.inr h.symm
  · rintro (h | h)
    · exact Or.inl h
    · exact Or.inr h.symm
theorem x_lt {m A a : Nat} (hA : A < 2 ^ m) (ha : a < m) : nd A (2 * 2 ^ a - 1) ||| 2 ^ a < 2 ^ m := Nat.or_lt_two_pow (Nat.lt_of_le_of_lt (nd_le _ _) hA) (pow_b ha)
theorem hit_of {m : Nat} {F : Nat → Prop} {u : Nat → Nat} (hu : LeastOp m F u) {A Y b : Nat} (hA : A < 2 ^ m) (hY : Y < 2 ^ m) (hF : F Y) (hb : b < m) (h0 : A.testBit b = false) (h1 : Y.testBit b = true) (hj : ∀ j, b < j → A.testBit j = Y.testBit j) : hit u A b ∧ ssb (u (nd A (2 * 2 ^ b - 1) ||| 2 ^ b)) Y := by
  have hx : ssb (nd A (2 * 2 ^ b - 1) ||| 2 ^ b) Y := ssb_t.mpr (fun i hi => by
    rcases (x_t A b i).mp hi with ⟨g1, g2⟩ | g
    · rw [← hj i g2]; exact g1
    · rw [g]; exact h1)
  obtain ⟨-, -, q3, q4⟩ := hu _ (x_lt hA hb)
  have q := q4 Y hY hF hx
  refine ⟨⟨h0, ?_⟩, q⟩
  apply eq_bits
  intro i
  rw [ab_t, ab_t, Bool.and_eq_true, Bool.and_eq_true, decide_eq_true_iff]
  constructor
  · rintro ⟨g1, g2⟩
    exact ⟨by rw [hj i g2]; exact ssb_t.mp q i g1, g2⟩
  · rintro ⟨g1, g2⟩
    exact ⟨ssb_t.mp q3 i ((x_t A b i).mpr (Or.inl ⟨g1, g2⟩)), g2⟩
theorem step_hit {m : Nat} {F : Nat → Prop} {u : Nat → Nat} (hu : LeastOp m F u) {A a : Nat} (hA : A < 2 ^ m) (ha : a < m) (h : hit u A a) (hno : ∀ a', a' < a → ¬ hit u A a') : LeastAb m F A (u (nd A (2 * 2 ^ a - 1) ||| 2 ^ a)) := by
  obtain ⟨q1, q2, q3, q4⟩ := hu _ (x_lt hA ha)
  have ha1 : (u (nd A (2 * 2 ^ a - 1) ||| 2 ^ a)).testBit a = true := ssb_t.mp q3 a ((x_t A a a).mpr (Or.inr rfl))
  have hab : ∀ j, a < j → (u (nd A (2 * 2 ^ a - 1) ||| 2 ^ a)).testBit j = A.testBit j := by
    intro j hj
    have e := congrArg (fun z => Nat.testBit z j) h.2
    simp only [ab_t, hj, decide_true, Bool.and_true] at e
    exact e
  refine ⟨lt_top h.1 ha1 (fun j hj => (hab j hj).symm), q1, q2, fun Y hY hF hlt => ?_⟩
  obtain ⟨b, b1, b2, b3, b4⟩ := top_diff m hA hY hlt
  obtain ⟨g1, g2⟩ := hit_of hu hA hY hF b1 b2 b3 b4
  rcases Nat.lt_trichotomy b a with z | z | z
  · exact absurd g1 (hno b z)
  · subst z
    exact ssb_le g2
  · exact Nat.le_of_lt (lt_top (b := b) (by rw [hab b z]; exact b2) b3 (fun j hj => by rw [hab j (by omega)]; exact b4 j hj))
theorem full_F {m : Nat} {F : Nat → Prop} {u : Nat → Nat} (hu : LeastOp m F u) : F (2 ^ m - 1) := by
  have hp : 0 < 2 ^ m := Nat.two_pow_pos m
  obtain ⟨q1, q2, q3, -⟩ := hu (2 ^ m - 1) (by omega)
  have := ssb_le q3
  have e : u (2 ^ m - 1) = 2 ^ m - 1 := by omega
  rw [e] at q2
  exact q2
theorem step_none {m : Nat} {F : Nat → Prop} {u : Nat → Nat} (hu : LeastOp m F u) {A : Nat} (hA : A < 2 ^ m - 1) (hno : ∀ a, a < m → ¬ hit u A a) : False := by
  have hp : 0 < 2 ^ m := Nat.two_pow_pos m
  obtain ⟨b, b1, b2, b3, b4⟩ := top_diff m (A := A) (B := 2 ^ m - 1) (by omega) (by omega) hA
  exact hno b b1 (hit_of hu (by omega) (by omega) (full_F hu) b1 b2 b3 b4).1
theorem clo_least {m : Nat} {c : Nat → Nat} (hc : CloOp m c) : LeastOp m (fun s => c s = s) c := fun x hx => ⟨hc.1 x hx, hc.2.2.2 x hx, hc.2.1 x hx, fun y hy hF h => by have := hc.2.2.1 x y hx hy h; rwa [hF] at this⟩
/-- closed, as a Bool -/
def isC (c : Nat → Nat) (s : Nat) : Bool := c s == s
theorem isC_t {c : Nat → Nat} {s : Nat} : isC c s = true ↔ c s = s := by unfold isC; rw [beq_iff_eq]
theorem isC_f {c : Nat → Nat} {s : Nat} : isC c s = false ↔ ¬ c s = s := by rw [← isC_t]; cases isC c s <;> simp
/-- the pseudo-closed sets below k -/
def psl (c : Nat → Nat) : Nat → List Nat
  | 0 => []
  | k + 1 => if ((c k != k) && (psl c k).all (fun q => !(q &&& k == q) || (c q &&& k == c q))) = true then psl c k ++ [k] else psl c k
def isP (c : Nat → Nat) (k : Nat) : Bool := (c k != k) && (psl c k).all (fun q => !(q &&& k == q) || (c q &&& k == c q))
theorem psl_eq (c : Nat → Nat) (k : Nat) : psl c k = enm (isP c) k := by
  induction k with
  | zero => rfl
  | succ k ih =>
    rw [enm_s, ← ih]
    rfl
theorem isP_t {c : Nat → Nat} {k : Nat} : isP c k = true ↔ c k ≠ k ∧ ∀ q, q < k → isP c q = true → ssb q k → ssb (c q) k := by
  rw [show isP c k = ((c k != k) && (psl c k).all (fun q => !(q &&& k == q) || (c q &&& k == c q))) from rfl, Bool.and_eq_true, bne_iff_ne, List.all_eq_true, psl_eq]
  constructor
  · rintro ⟨h1, h2⟩
    refine ⟨h1, fun q hq hp hs => ?_⟩
    have := h2 q (enm_mem.mpr ⟨hq, hp⟩)
    rw [Bool.or_eq_true, Bool.not_eq_true', beq_eq_false_iff_ne, beq_iff_eq] at this
    rcases this with g | g
    · exact absurd hs g
    · exact g
  · rintro ⟨h1, h2⟩
    refine ⟨h1, fun q hq => ?_⟩
    obtain ⟨g1, g2⟩ := enm_mem.mp hq
    rw [Bool.or_eq_true, Bool.not_eq_true', beq_eq_false_iff_ne, beq_iff_eq]
    by_cases hs : q &&& k = q
    · exact Or.inr (h2 q g1 g2 hs)
    · exact Or.inl hs
/-- closed or pseudo-closed -/
def inF (c : Nat → Nat) (k : Nat) : Prop := c k = k ∨ isP c k = true
theorem inF_t {m : Nat} {c : Nat → Nat} (hc : CloOp m c) {k : Nat} (hk : k < 2 ^ m) : inF c k ↔ ∀ q, q < k → isP c q = true → ssb q k → ssb (c q) k := by
  constructor
  · rintro (h | h)
    · intro q hq _ hs
      have := hc.2.2.1 q k (by omega) hk hs
      rwa [h] at this
    · exact (isP_t.mp h).2
  · intro h
    by_cases g : c k = k
    · exact Or.inl g
    · exact Or.inr (isP_t.mpr ⟨g, h⟩)
/-- closed under the first p rules -/
def FR (P E : Nat → Nat) (p X : Nat) : Prop := ∀ i, i < p → ssb (P i) X → P i ≠ X → ssb (E i) X
/-- the next one under the rules found so far is the next one that is closed or pseudo-closed -/
theorem rules_next {m : Nat} {c : Nat → Nat} (hc : CloOp m c) {P E : Nat → Nat} {p t X : Nat} (ht : t < 2 ^ m) (hE : En (isP c) (t + 1) p P) (hE2 : ∀ i, i < p → E i = c (P i)) (h : LeastAb m (FR P E p) t X) : LeastAb m (inF c) t X := by
  obtain ⟨h1, h2, h3, h4⟩ := h
  have key : ∀ Y, Y < 2 ^ m → inF c Y → FR P E p Y := by
    intro Y hY hF i hi hs hne
    rw [hE2 i hi]
    have hlt : P i < Y := by have := ssb_le hs; omega
    exact (inF_t hc hY).mp hF (P i) hlt (hE.mem hi).2 hs
  refine ⟨h1, h2, ?_, fun Y hY hF hlt => h4 Y hY (key Y hY hF) hlt⟩
  apply (inF_t hc h2).mpr
  intro q hq hp hs
  have hqt : q ≤ t := by
    rcases Nat.lt_or_ge t q with g | g
    · have := h4 q (by omega) (key q (by omega) (Or.inr hp)) g
      omega
    · exact g
  obtain ⟨i, hi, rfl⟩ := hE.ex (show q < t + 1 by omega) hp
  rw [← hE2 i hi]
  exact h3 i hi hs (by omega)
end
section
/-! counts of bits, the closure under rules, covers, heights, generators -/
def cnt (s k : Nat) : Nat := fd (fun a r => r + bN s a) 0 k
theorem cnt_s (s k : Nat) : cnt s (k + 1) = cnt s k + bN s k := rfl
theorem cnt_le (s k : Nat) : cnt s k ≤ k := by
  induction k with
  | zero => exact Nat.le_refl 0
  | succ k ih => have := bN_le s k; rw [cnt_s]; omega
theorem cnt_mono {x y : Nat} (h : ssb x y) (k : Nat) : cnt x k ≤ cnt y k := by
  induction k with
  | zero => exact Nat.le_refl 0
  | succ k ih =>
    rw [cnt_s, cnt_s]
    have : bN x k ≤ bN y k := by
      cases hx : x.testBit k
      · rw [bN_0.mpr hx]; omega
      · rw [bN_1.mpr hx, bN_1.mpr (ssb_t.mp h k hx)]; exact Nat.le_refl 1
    omega
theorem cnt_lt {x y i : Nat} (h : ssb x y) (hx : x.testBit i = false) (hy : y.testBit i = true) : ∀ k, i < k → cnt x k < cnt y k := by
  intro k
  induction k with
  | zero => intro hi; omega
  | succ k ih =>
    intro hi
    rw [cnt_s, cnt_s]
    have hb : bN x k ≤ bN y k := by
      cases hx : x.testBit k
      · rw [bN_0.mpr hx]; omega
      · rw [bN_1.mpr hx, bN_1.mpr (ssb_t.mp h k hx)]; exact Nat.le_refl 1
    rcases Nat.lt_or_ge i k with g | g
    · have := ih g; omega
    · have : i = k := by omega
      subst this
      have := cnt_mono h i
      rw [bN_0.mpr hx, bN_1.mpr hy]; omega
theorem cnt_prop {m x y : Nat} (h : ssb x y) (hne : x ≠ y) (hy : y < 2 ^ m) (hm : m ≤ 7) : cnt x 7 < cnt y 7 := by
  obtain ⟨i, hi⟩ := Nat.exists_testBit_ne_of_ne hne
  cases hx : x.testBit i
  · cases hy2 : y.testBit i
    · rw [hx, hy2] at hi; exact absurd rfl hi
    · exact cnt_lt h hx hy2 7 (by have := bit_lt hy hy2; omega)
  · rw [hx, ssb_t.mp h i hx] at hi; exact absurd rfl hi
theorem cnt_top {m s : Nat} (hs : s < 2 ^ m) : ∀ k, m ≤ k → cnt s k = cnt s m := by
  intro k
  induction k with
  | zero => intro h; rw [show m = 0 from by omega]
  | succ k ih =>
    intro h
    rcases Nat.lt_or_ge k m with g | g
    · rw [show k + 1 = m from by omega]
    · rw [cnt_s, ih g, bN_0.mpr (Nat.testBit_lt_two_pow (Nat.lt_of_lt_of_le hs (Nat.pow_le_pow_right (by decide) g)))]; omega
theorem cnt_m {m s : Nat} (hs : s < 2 ^ m) (hm : m ≤ 7) : cnt s 7 ≤ m := by rw [cnt_top hs 7 hm]; exact cnt_le s m
theorem cnt_8 {m s : Nat} (hs : s < 2 ^ m) (hm : m ≤ 7) : cnt s 8 = cnt s 7 := by rw [cnt_top hs 7 hm, cnt_top hs 8 (by omega)]
/-! the least set about s in a family that is closed under cutting -/
def UPost (m : Nat) (F : Nat → Prop) (s X : Nat) : Prop := X < 2 ^ m ∧ F X ∧ ssb s X ∧ ∀ Y, Y < 2 ^ m → F Y → ssb s Y → ssb X Y
theorem UPost.uniq {m : Nat} {F : Nat → Prop} {s X Y : Nat} (h1 : UPost m F s X) (h2 : UPost m F s Y) : X = Y := ssb_anti (h1.2.2.2 Y h2.1 h2.2.1 h2.2.2.1) (h2.2.2.2 X h1.1 h1.2.1 h1.2.2.1)
noncomputable def lop (m : Nat) (F : Nat → Prop) (s : Nat) : Nat := Classical.epsilon (UPost m F s)
theorem ssb_and {x y z : Nat} (h1 : ssb x y) (h2 : ssb x z) : ssb x (y &&& z) := ssb_t.mpr (fun i hi => by rw [Nat.testBit_and, ssb_t.mp h1 i hi, ssb_t.mp h2 i hi]; rfl)
theorem ssb_al (x y : Nat) : ssb (x &&& y) x := ssb_t.mpr (fun i hi => by rw [Nat.testBit_and, Bool.and_eq_true] at hi; exact hi.1)
theorem ssb_ar (x y : Nat) : ssb (x &&& y) y := ssb_t.mpr (fun i hi => by rw [Nat.testBit_and, Bool.and_eq_true] at hi; exact hi.2)
theorem ssb_ol (x y : Nat) : ssb x (x ||| y) := ssb_t.mpr (fun i hi => by rw [Nat.testBit_or, hi]; rfl)
theorem ssb_or' (x y : Nat) : ssb y (x ||| y) := ssb_t.mpr (fun i hi => by rw [Nat.testBit_or, hi, Bool.or_true])
theorem ssb_or {x y z : Nat} (h1 : ssb x z) (h2 : ssb y z) : ssb (x ||| y) z := ssb_t.mpr (fun i hi => by
  rw [Nat.testBit_or, Bool.or_eq_true] at hi
  rcases hi with h | h
  · exact ssb_t.mp h1 i h
  · exact ssb_t.mp h2 i h)
theorem nat_least (P : Nat → Prop) (h : ∃ k, P k) : ∃ k, P k ∧ ∀ j, P j → k ≤ j := by
  obtain ⟨k, hk⟩ := h
  induction k using Nat.strongRecOn with
  | _ k ih =>
    by_cases g : ∃ j, j < k ∧ P j
    · obtain ⟨j, g1, g2⟩ := g
      exact ih j g1 g2
    · exact ⟨k, hk, fun j hj => by
        rcases Nat.lt_or_ge j k with z | z
        · exact absurd ⟨j, z, hj⟩ g
        · exact z⟩
theorem lop_op {m : Nat} {F : Nat → Prop} (hf : F (2 ^ m - 1)) (ha : ∀ X Y, F X → F Y → F (X &&& Y)) : LeastOp m F (lop m F) := by
  intro x hx
  have hp : 0 < 2 ^ m := Nat.two_pow_pos m
  have hex : ∃ X, UPost m F x X := by
    obtain ⟨X, ⟨h1, h2, h3⟩, h4⟩ := nat_least (fun X => X < 2 ^ m ∧ F X ∧ ssb x X) ⟨2 ^ m - 1, by omega, hf, ssb_full hx⟩
    refine ⟨X, h1, h2, h3, fun Y hY hF hs => ?_⟩
    have := h4 (X &&& Y) ⟨Nat.lt_of_le_of_lt Nat.and_le_left h1, ha X Y h2 hF, ssb_and h3 hs⟩
    exact Nat.le_antisymm Nat.and_le_left this
  exact Classical.epsilon_spec hex
theorem lop_eq {m : Nat} {F : Nat → Prop} {s X : Nat} (h : UPost m F s X) : X = lop m F s := h.uniq (Classical.epsilon_spec ⟨X, h⟩)
theorem FR_full {m : Nat} {P E : Nat → Nat} {p : Nat} (hE : ∀ i, i < p → E i < 2 ^ m) : FR P E p (2 ^ m - 1) := fun i hi _ _ => ssb_full (hE i hi)
theorem FR_and {P E : Nat → Nat} {p X Y : Nat} (h1 : FR P E p X) (h2 : FR P E p Y) : FR P E p (X &&& Y) := by
  intro i hi hs hne
  have s1 := ssb_trans hs (ssb_al X Y)
  have s2 := ssb_trans hs (ssb_ar X Y)
  refine ssb_and (h1 i hi s1 (fun e => hne ?_)) (h2 i hi s2 (fun e => hne ?_))
  · exact ssb_anti hs (by rw [← e]; exact ssb_al _ _)
  · exact ssb_anti hs (by rw [← e]; exact ssb_ar _ _)
/-- inside one pass of the rules over r, begun at b; s is where all began -/
def UIn (m : Nat) (P E : Nat → Nat) (p s b i r : Nat) : Prop := ssb b r ∧ r < 2 ^ m ∧ (∀ Y, Y < 2 ^ m → FR P E p Y → ssb s Y → ssb r Y) ∧ (r = b → FR P E i b)
theorem UIn.start {m : Nat} {P E : Nat → Nat} {p s b : Nat} (hb : b < 2 ^ m) (h : ∀ Y, Y < 2 ^ m → FR P E p Y → ssb s Y → ssb b Y) : UIn m P E p s b 0 b := ⟨ssb_refl b, hb, h, fun _ i hi => absurd hi (by omega)⟩
theorem UIn.stay {m : Nat} {P E : Nat → Nat} {p s b i r : Nat} (h : UIn m P E p s b i r) (hc : ¬ (ssb (P i) r ∧ P i ≠ r)) : UIn m P E p s b (i + 1) r := by
  refine ⟨h.1, h.2.1, h.2.2.1, fun e j hj hs hne => ?_⟩
  rcases Nat.lt_or_ge j i with g | g
  · exact h.2.2.2 e j g hs hne
  · have : j = i := by omega
    subst this
    rw [← e] at hs hne
    exact absurd ⟨hs, hne⟩ hc
theorem UIn.grow {m : Nat} {P E : Nat → Nat} {p s b i r : Nat} (h : UIn m P E p s b i r) (hi : i < p) (hE : E i < 2 ^ m) (h1 : ssb (P i) r) (h2 : P i ≠ r) : UIn m P E p s b (i + 1) (r ||| E i) := by
  obtain ⟨q1, q2, q3, q4⟩ := h
  refine ⟨ssb_trans q1 (ssb_ol _ _), Nat.or_lt_two_pow q2 hE, fun Y hY hF hs => ?_, fun e j hj hs hne => ?_⟩
  · have g := q3 Y hY hF hs
    exact ssb_or g (hF i hi (ssb_trans h1 g) (fun z => h2 (ssb_anti h1 (by rw [z]; exact g))))
  · have er : r = b := ssb_anti (by rw [← e]; exact ssb_ol _ _) q1
    rcases Nat.lt_or_ge j i with g | g
    · exact q4 er j g hs hne
    · have : j = i := by omega
      subst this
      rw [← e]; exact ssb_or' _ _
/-! folds over the list of those that hold -/
theorem En.cut {p : Nat → Bool} : ∀ {t k : Nat} {f : Nat → Nat}, En p t k f → ∀ i, i < k → En p (f i) i f := by
  intro t
  induction t with
  | zero => intro k f h i hi; have := h.le; omega
  | succ t ih =>
    intro k f h i hi
    by_cases hp : p t = true
    · have e := h.1
      rw [enm_s, if_pos hp, List.length_append] at e
      have e1 : [t].length = 1 := rfl
      have h2 : En p t (k - 1) f := by
        refine ⟨by omega, fun i hi => ?_⟩
        have := h.2 i (by omega)
        rw [enm_s, if_pos hp, List.getElem?_append_left (by omega)] at this
        exact this
      rcases Nat.lt_or_ge i (k - 1) with g | g
      · exact ih h2 i g
      · have hj2 : f i = t := by
          have := h.2 i hi
          rw [enm_s, if_pos hp, List.getElem?_append_right (by omega), show i - (enm p t).length = 0 from by omega] at this
          exact (Option.some.inj this).symm
        rw [hj2, show i = k - 1 from by omega]
        exact h2
    · have h2 : En p t k f := by
        unfold En at h ⊢
        rw [enm_s, if_neg hp] at h
        exact h
      exact ih h2 i hi
theorem En.fold {p : Nat → Bool} {α : Type} (φ : Nat → α → α) (a : α) : ∀ {t k : Nat} {f : Nat → Nat}, En p t k f → fd (fun i r => φ (f i) r) a k = fd (fun c r => if p c = true then φ c r else r) a t := by
  intro t
  induction t with
  | zero =>
    intro k f h
    have : k = 0 := by have := h.le; omega
    subst this; rfl
  | succ t ih =>
    intro k f h
    by_cases hp : p t = true
    · have e := h.1
      rw [enm_s, if_pos hp, List.length_append] at e
      have e1 : [t].length = 1 := rfl
      obtain ⟨j, rfl⟩ : ∃ j, k = j + 1 := ⟨k - 1, by omega⟩
      have h2 : En p t j f := by
        refine ⟨by omega, fun i hi => ?_⟩
        have := h.2 i (by omega)
        rw [enm_s, if_pos hp, List.getElem?_append_left (by omega)] at this
        exact this
      have hj : f j = t := by
        have := h.2 j (by omega)
        rw [enm_s, if_pos hp, List.getElem?_append_right (by omega), show j - (enm p t).length = 0 from by omega] at this
        exact (Option.some.inj this).symm
      show φ (f j) (fd _ a j) = (if p t = true then _ else _)
      rw [if_pos hp, ih h2, hj]
    · have h2 : En p t k f := by
        unfold En at h ⊢
        rw [enm_s, if_neg hp] at h
        exact h
      show _ = (if p t = true then _ else _)
      rw [if_neg hp]
      exact ih h2
theorem fd_ext {α : Type} {f g : Nat → α → α} {a : α} : ∀ {k : Nat}, (∀ i r, i < k → f i r = g i r) → fd f a k = fd g a k := by
  intro k
  induction k with
  | zero => intro _; rfl
  | succ k ih =>
    intro h
    show f k (fd f a k) = g k (fd g a k)
    rw [ih (fun i r hi => h i r (by omega)), h k _ (by omega)]
/-! covers -/
def prp (x y : Nat) : Prop := x ≠ y ∧ ssb x y
def betw (m : Nat) (c : Nat → Nat) (x d : Nat) : Prop := ∃ e, e < 2 ^ m ∧ c e = e ∧ prp x e ∧ prp e d
def covB (m : Nat) (c : Nat → Nat) (x d : Nat) : Bool := isC c d && ((x != d && (x &&& d == x)) && !((List.range (2 ^ m)).any (fun e => isC c e && ((x != e && (x &&& e == x)) && (e != d && (e &&& d == e))))))
theorem prp_b {x y : Nat} : (x != y && (x &&& y == x)) = true ↔ prp x y := by
  rw [Bool.and_eq_true, bne_iff_ne, beq_iff_eq]; rfl
theorem betw_b {m : Nat} {c : Nat → Nat} {x d : Nat} : (List.range (2 ^ m)).any (fun e => isC c e && ((x != e && (x &&& e == x)) && (e != d && (e &&& d == e)))) = true ↔ betw m c x d := by
  rw [List.any_eq_true]
  constructor
  · rintro ⟨e, h1, h2⟩
    rw [Bool.and_eq_true, Bool.and_eq_true, prp_b, prp_b, isC_t] at h2
    exact ⟨e, List.mem_range.mp h1, h2.1, h2.2.1, h2.2.2⟩
  · rintro ⟨e, h1, h2, h3, h4⟩
    exact ⟨e, List.mem_range.mpr h1, by rw [Bool.and_eq_true, Bool.and_eq_true, prp_b, prp_b, isC_t]; exact ⟨h2, h3, h4⟩⟩
theorem covB_t {m : Nat} {c : Nat → Nat} {x d : Nat} : covB m c x d = true ↔ c d = d ∧ prp x d ∧ ¬ betw m c x d := by
  unfold covB
  rw [Bool.and_eq_true, Bool.and_eq_true, prp_b, isC_t, Bool.not_eq_true', ← betw_b]
  constructor
  · rintro ⟨h1, h2, h3⟩
    exact ⟨h1, h2, by rw [h3]; decide⟩
  · rintro ⟨h1, h2, h3⟩
    exact ⟨h1, h2, ff_of h3⟩
def covN (m : Nat) (c : Nat → Nat) (x : Nat) : Nat := (enm (covB m c x) (2 ^ m)).length
/-- no closure by another attribute lies within that by a, and a is its least attribute -/
def lstP (m : Nat) (c : Nat → Nat) (x a : Nat) : Prop := ∀ b, b < m → (c (x ||| 2 ^ a)).testBit b = true → x.testBit b = false → c (x ||| 2 ^ b) = c (x ||| 2 ^ a) ∧ a ≤ b
def lstB (m : Nat) (c : Nat → Nat) (x a : Nat) : Bool := (List.range m).all (fun b => !((c (x ||| 2 ^ a)).testBit b && !x.testBit b) || ((c (x ||| 2 ^ b) == c (x ||| 2 ^ a)) && decide (a ≤ b)))
theorem lstB_t {m : Nat} {c : Nat → Nat} {x a : Nat} : lstB m c x a = true ↔ lstP m c x a := by
  unfold lstB lstP
  rw [List.all_eq_true]
  constructor
  · intro h b hb h1 h2
    have := h b (List.mem_range.mpr hb)
    rw [h1, h2] at this
    simp at this
    exact this
  · intro h b hb
    have := h b (List.mem_range.mp hb)
    cases h1 : (c (x ||| 2 ^ a)).testBit b
    · rfl
    · cases h2 : x.testBit b
      · obtain ⟨q1, q2⟩ := this h1 h2
        simp [q1, q2]
      · rfl
theorem nodup_le {l1 : List Nat} : ∀ {l2 : List Nat}, l1.Nodup → (∀ x, x ∈ l1 → x ∈ l2) → l1.length ≤ l2.length := by
  induction l1 with
  | nil => intro l2 _ _; exact Nat.zero_le _
  | cons a l ih =>
    intro l2 hn hs
    have ha : a ∈ l2 := hs a List.mem_cons_self
    have hn2 := List.nodup_cons.mp hn
    have := ih (l2 := l2.erase a) hn2.2 (fun x hx => by
      have hne : x ≠ a := fun e => hn2.1 (by rw [← e]; exact hx)
      exact (List.mem_erase_of_ne hne).mpr (hs x (List.mem_cons_of_mem _ hx)))
    rw [List.length_erase_of_mem ha] at this
    have hp : 0 < l2.length := List.length_pos_of_mem ha
    rw [List.length_cons]
    omega
theorem enm_nodup (p : Nat → Bool) (t : Nat) : (enm p t).Nodup := List.Nodup.sublist List.filter_sublist List.nodup_range
theorem least_bit {m x y : Nat} (h : prp x y) (hy : y < 2 ^ m) : ∃ a, a < m ∧ y.testBit a = true ∧ x.testBit a = false ∧ ∀ b, y.testBit b = true → x.testBit b = false → a ≤ b := by
  obtain ⟨i, hi⟩ := Nat.exists_testBit_ne_of_ne h.1
  have h0 : ∃ k, y.testBit k = true ∧ x.testBit k = false := by
    refine ⟨i, ?_⟩
    cases hx : x.testBit i
    · cases hy2 : y.testBit i
      · rw [hx, hy2] at hi; exact absurd rfl hi
      · exact ⟨rfl, rfl⟩
    · rw [hx, ssb_t.mp h.2 i hx] at hi; exact absurd rfl hi
  obtain ⟨a, ⟨a1, a2⟩, a3⟩ := nat_least _ h0
  exact ⟨a, bit_lt hy a1, a1, a2, fun b b1 b2 => a3 b ⟨b1, b2⟩⟩
theorem cov_eq {m : Nat} {c : Nat → Nat} (hc : CloOp m c) {x : Nat} (hx : x < 2 ^ m) (hcl : c x = x) : (enm (fun a => !x.testBit a && lstB m c x a) m).length = covN m c x := by
  have hlt : ∀ a, a < m → x ||| 2 ^ a < 2 ^ m := fun a ha => Nat.or_lt_two_pow hx (pow_b ha)
  have hin : ∀ a, a < m → ssb x (c (x ||| 2 ^ a)) ∧ (c (x ||| 2 ^ a)).testBit a = true := by
    intro a ha
    have h1 := hc.2.1 _ (hlt a ha)
    exact ⟨ssb_trans (ssb_ol _ _) h1, ssb_t.mp h1 a (by rw [Nat.testBit_or, Nat.testBit_two_pow_self, Bool.or_true])⟩
  have hsub : ∀ d b, d < 2 ^ m → c d = d → ssb x d → b < m → d.testBit b = true → ssb (c (x ||| 2 ^ b)) d := by
    intro d b hd hcd hs hb h1
    have := hc.2.2.1 (x ||| 2 ^ b) d (hlt b hb) hd (ssb_or hs (ssb_t.mpr (fun i hi => by rw [Nat.testBit_two_pow, decide_eq_true_iff] at hi; rw [← hi]; exact h1)))
    rwa [hcd] at this
  have hmem : ∀ a, a ∈ enm (fun a => !x.testBit a && lstB m c x a) m ↔ a < m ∧ x.testBit a = false ∧ lstP m c x a := by
    intro a
    rw [enm_mem, Bool.and_eq_true, Bool.not_eq_true', lstB_t]
  have e : ((enm (fun a => !x.testBit a && lstB m c x a) m).map (fun a => c (x ||| 2 ^ a))).length = covN m c x := by
    apply Nat.le_antisymm
    · apply nodup_le
      · show List.Pairwise (fun a b => a ≠ b) _
        rw [List.pairwise_map]
        refine List.Pairwise.imp_of_mem ?_ (enm_nodup _ _)
        intro a b ha hb hne e
        obtain ⟨a1, a2, a3⟩ := (hmem a).mp ha
        obtain ⟨b1, b2, b3⟩ := (hmem b).mp hb
        have g1 := (a3 b b1 (by rw [e]; exact (hin b b1).2) b2).2
        have g2 := (b3 a a1 (by rw [← e]; exact (hin a a1).2) a2).2
        exact hne (by omega)
      · intro d hd
        obtain ⟨a, ha, rfl⟩ := List.mem_map.mp hd
        obtain ⟨a1, a2, a3⟩ := (hmem a).mp ha
        have hd2 := hc.1 _ (hlt a a1)
        have hne : x ≠ c (x ||| 2 ^ a) := fun e => by have := (hin a a1).2; rw [← e, a2] at this; cases this
        refine enm_mem.mpr ⟨hd2, covB_t.mpr ⟨hc.2.2.2 _ (hlt a a1), ⟨hne, (hin a a1).1⟩, ?_⟩⟩
        rintro ⟨y, y1, y2, y3, y4⟩
        obtain ⟨b, b1, b2, b3, -⟩ := least_bit y3 y1
        have g := (a3 b b1 (ssb_t.mp y4.2 b b2) b3).1
        have g2 := hsub y b y1 y2 y3.2 b1 b2
        rw [g] at g2
        exact y4.1 (ssb_anti y4.2 g2)
    · apply nodup_le (enm_nodup _ _)
      intro d hd
      obtain ⟨d1, d2⟩ := enm_mem.mp hd
      obtain ⟨d3, d4, d5⟩ := covB_t.mp d2
      obtain ⟨a, a1, a2, a3, a4⟩ := least_bit d4 d1
      have all : ∀ b, b < m → d.testBit b = true → x.testBit b = false → c (x ||| 2 ^ b) = d := by
        intro b hb b1 b2
        have g := hsub d b d1 d3 d4.2 hb b1
        by_cases e : c (x ||| 2 ^ b) = d
        · exact e
        · exact absurd ⟨c (x ||| 2 ^ b), hc.1 _ (hlt b hb), hc.2.2.2 _ (hlt b hb), ⟨fun e => (by have := (hin b hb).2; rw [← e, b2] at this; cases this), (hin b hb).1⟩, ⟨e, g⟩⟩ d5
      refine List.mem_map.mpr ⟨a, (hmem a).mpr ⟨a1, a3, ?_⟩, all a a1 a2 a3⟩
      intro b hb b1 b2
      rw [all a a1 a2 a3] at b1 ⊢
      exact ⟨all b hb b1 b2, a4 b b1 b2⟩
  rw [List.length_map] at e
  exact e
end
section
/-! heights, generators, dispensable attributes, the next closed set, a place of a list -/
/-- the length of the longest chain up to d, by those of the sets below (g) -/
def ht (c : Nat → Nat) (g : Nat → Nat) (d : Nat) : Nat := fd (fun e r => if isC c d = true ∧ isC c e = true ∧ (e ≠ d ∧ e &&& d = e) ∧ r < g e + 1 then g e + 1 else r) (isC c d).toNat d
def ChOK (c : Nat → Nat) (g : Nat → Nat) (k : Nat) : Prop := ∀ d, d < k → g d = ht c g d
def mx (g : Nat → Nat) (k : Nat) : Nat := fd (fun d r => if r < g d then g d else r) 0 k
def IsHt (m : Nat) (c : Nat → Nat) (h : Nat) : Prop := ∃ g, ChOK c g (2 ^ m) ∧ h = mx g (2 ^ m)
theorem ht_ext {c g g' : Nat → Nat} {d : Nat} (h : ∀ e, e < d → g e = g' e) : ht c g d = ht c g' d := fd_ext (fun e r he => by rw [h e he])
theorem ChOK.ex (c : Nat → Nat) : ∀ k, ∃ g, ChOK c g k := by
  intro k
  induction k with
  | zero => exact ⟨fun _ => 0, fun d hd => absurd hd (by omega)⟩
  | succ k ih =>
    obtain ⟨g, hg⟩ := ih
    refine ⟨un g k (ht c g k), fun d hd => ?_⟩
    have e : ∀ e, e < d → g e = un g k (ht c g k) e := fun e he => (un_n (by omega)).symm
    rw [← ht_ext e]
    rcases Nat.lt_or_ge d k with z | z
    · rw [un_n (by omega)]; exact hg d z
    · have : d = k := by omega
      subst this
      rw [un_s]
theorem ChOK.uniq {c g g' : Nat → Nat} {k : Nat} (h : ChOK c g k) (h' : ChOK c g' k) : ∀ d, d < k → g d = g' d := by
  intro d
  induction d using Nat.strongRecOn with
  | _ d ih =>
    intro hd
    rw [h d hd, h' d hd]
    exact ht_ext (fun e he => ih e he (by omega))
theorem mx_ext {g g' : Nat → Nat} {k : Nat} (h : ∀ d, d < k → g d = g' d) : mx g k = mx g' k := fd_ext (fun d r hd => by rw [h d hd])
theorem IsHt.uniq {m : Nat} {c : Nat → Nat} {h h' : Nat} (a : IsHt m c h) (b : IsHt m c h') : h = h' := by
  obtain ⟨g, g1, rfl⟩ := a
  obtain ⟨g', g2, rfl⟩ := b
  exact mx_ext (g1.uniq g2)
theorem fd_id {α : Type} (a : α) (k : Nat) : fd (fun _ r => r) a k = a := by
  induction k with
  | zero => rfl
  | succ k ih => exact ih
theorem ht_0 {c g : Nat → Nat} {d : Nat} (h : isC c d = false) : ht c g d = 0 := by
  unfold ht
  rw [fd_ext (g := fun _ r => r) (fun e r _ => if_neg (fun z => by rw [h] at z; cases z.1)), fd_id, h]
  rfl
/-- the component's levels, along the list of the closed sets -/
def lev (f g : Nat → Nat) (i : Nat) : Nat := fd (fun k r => if nd (f k) (f i) = 0 ∧ r ≤ g k then g k + 1 else r) 1 i
def LvOK (f g : Nat → Nat) (k : Nat) : Prop := ∀ i, i < k → g i = lev f g i
theorem lev_ht {c f g gm : Nat → Nat} {N k : Nat} (hE : En (isC c) N k f) (hg : LvOK f g k) (hm : ChOK c gm N) : ∀ i, i < k → g i = gm (f i) := by
  intro i
  induction i using Nat.strongRecOn with
  | _ i ih =>
    intro hi
    obtain ⟨q1, q2⟩ := hE.mem hi
    rw [hg i hi, hm (f i) q1]
    unfold lev ht
    rw [q2]
    have e := (hE.cut i hi).fold (fun e r => if (e ≠ f i ∧ e &&& f i = e) ∧ r < gm e + 1 then gm e + 1 else r) 1
    have e1 : fd (fun k r => if nd (f k) (f i) = 0 ∧ r ≤ g k then g k + 1 else r) 1 i = fd (fun k r => if (f k ≠ f i ∧ f k &&& f i = f k) ∧ r < gm (f k) + 1 then gm (f k) + 1 else r) 1 i := by
      refine fd_ext (fun j r hj => ?_)
      rw [ih j hj (by omega)]
      have hne : f j ≠ f i := by have := hE.mono j i hj hi; omega
      have hs : nd (f j) (f i) = 0 ↔ f j &&& f i = f j := ssb_nd
      by_cases hz : f j &&& f i = f j ∧ r ≤ gm (f j)
      · rw [if_pos ⟨hs.mpr hz.1, hz.2⟩, if_pos ⟨⟨hne, hz.1⟩, by omega⟩]
      · rw [if_neg (fun z => hz ⟨hs.mp z.1, z.2⟩), if_neg (fun z => hz ⟨z.1.2, by omega⟩)]
    rw [e1, e]
    refine fd_ext (fun e r he => ?_)
    by_cases hp : isC c e = true
    · rw [if_pos hp]
      by_cases hz : (e ≠ f i ∧ e &&& f i = e) ∧ r < gm e + 1
      · rw [if_pos hz, if_pos ⟨rfl, hp, hz.1, hz.2⟩]
      · rw [if_neg hz, if_neg (fun z => hz ⟨z.2.2.1, z.2.2.2⟩)]
    · rw [if_neg hp, if_neg (fun z => hp z.2.1)]
theorem lev_isHt {m : Nat} {c f g : Nat → Nat} {k : Nat} (hE : En (isC c) (2 ^ m) k f) (hg : LvOK f g k) : IsHt m c (mx g k) := by
  obtain ⟨gm, hm⟩ := ChOK.ex c (2 ^ m)
  refine ⟨gm, hm, ?_⟩
  rw [mx_ext (lev_ht hE hg hm)]
  unfold mx
  rw [hE.fold (fun e r => if r < gm e then gm e else r) 0]
  refine fd_ext (fun e r he => ?_)
  by_cases hp : isC c e = true
  · rw [if_pos hp]
  · rw [if_neg hp, hm e he, ht_0 (ff_of hp), if_neg (by omega)]
/-! the least generator -/
def IsGen (m : Nat) (c : Nat → Nat) (G r : Nat) : Prop := (∃ s, s < 2 ^ m ∧ c s = G ∧ cnt s 7 = r) ∧ ∀ s, s < 2 ^ m → c s = G → r ≤ cnt s 7
theorem IsGen.uniq {m : Nat} {c : Nat → Nat} {G r r' : Nat} (a : IsGen m c G r) (b : IsGen m c G r') : r = r' := by
  obtain ⟨⟨s, s1, s2, s3⟩, a2⟩ := a
  obtain ⟨⟨t, t1, t2, t3⟩, b2⟩ := b
  have := a2 t t1 t2
  have := b2 s s1 s2
  omega
/-- while the parts of G are taken from above: those above 'part' are done -/
def GIn (m : Nat) (c : Nat → Nat) (G part least : Nat) : Prop := ssb part G ∧ least ≤ m ∧ (least = m ∨ ∃ s, s < 2 ^ m ∧ c s = G ∧ cnt s 7 = least) ∧ ∀ q, ssb q G → part < q → c q = G → least ≤ cnt q 7
/-- and 'part' too -/
def GIn1 (m : Nat) (c : Nat → Nat) (G part least : Nat) : Prop := ssb part G ∧ least ≤ m ∧ (least = m ∨ ∃ s, s < 2 ^ m ∧ c s = G ∧ cnt s 7 = least) ∧ ∀ q, ssb q G → part ≤ q → c q = G → least ≤ cnt q 7
theorem GIn.start (m : Nat) (c : Nat → Nat) (G : Nat) : GIn m c G G m := ⟨ssb_refl G, Nat.le_refl m, Or.inl rfl, fun q h1 h2 => absurd (ssb_le h1) (by omega)⟩
theorem GIn.take {m : Nat} {c : Nat → Nat} {G part least : Nat} (h : GIn m c G part least) (hG : G < 2 ^ m) (h1 : cnt part 7 < least) (h2 : c part = G) : GIn1 m c G part (cnt part 7) := by
  refine ⟨h.1, by have := h.2.1; omega, Or.inr ⟨part, Nat.lt_of_le_of_lt (ssb_le h.1) hG, h2, rfl⟩, fun q q1 q2 q3 => ?_⟩
  rcases Nat.lt_or_ge part q with z | z
  · have := h.2.2.2 q q1 z q3; omega
  · rw [show q = part from by omega]; exact Nat.le_refl _
theorem GIn.leave {m : Nat} {c : Nat → Nat} {G part least : Nat} (h : GIn m c G part least) (h1 : ¬ (cnt part 7 < least ∧ c part = G)) : GIn1 m c G part least := by
  refine ⟨h.1, h.2.1, h.2.2.1, fun q q1 q2 q3 => ?_⟩
  rcases Nat.lt_or_ge part q with z | z
  · exact h.2.2.2 q q1 z q3
  · have e : q = part := by omega
    rw [e] at q3 ⊢
    rcases Nat.lt_or_ge (cnt part 7) least with y | y
    · exact absurd ⟨y, q3⟩ h1
    · exact y
/-- the greatest part of G below p is (p - 1) & G -/
theorem sub_next {p G q : Nat} (hp : ssb p G) (hq : ssb q G) (h : q < p) : q ≤ (p - 1) &&& G := by
  have hk : p < 2 ^ p := Nat.lt_two_pow_self
  obtain ⟨b, b1, b2, b3, b4⟩ := top_diff p (Nat.lt_trans h hk) hk h
  rcases Nat.lt_or_ge q ((p - 1) &&& G) with z | z
  · exact Nat.le_of_lt z
  · rcases Nat.lt_or_ge ((p - 1) &&& G) q with y | y
    · exfalso
      obtain ⟨d, d1, d2, d3, d4⟩ := top_diff p (A := (p - 1) &&& G) (B := q) (by have := Nat.and_le_left (n := p - 1) (m := G); omega) (by omega) y
      have hG : G.testBit d = true := ssb_t.mp hq d d3
      rw [Nat.testBit_and, hG, Bool.and_true] at d2
      -- p - 1 lacks d, q has it; above d, (p - 1) & G is q
      have hlt : p - 1 < q := by
        refine lt_top d2 d3 (fun j hj => ?_)
        have e := d4 j hj
        rw [Nat.testBit_and] at e
        cases hg : G.testBit j
        · rw [hg, Bool.and_false] at e
          have hpj : p.testBit j = false := by
            apply ff_of; intro z; rw [ssb_t.mp hp j z] at hg; cases hg
          -- p - 1 has a bit j above d that G lacks: then p - 1 has all below some bit of p
          rw [← e]
          apply ff_of
          intro z
          -- p = (p - 1) + 1
          have hpp : p = (p - 1) + 1 := by omega
          have : (p - 1).testBit d = true := by
            -- the carry of + 1 runs over j, so every place below j is set in p - 1
            rcases Nat.lt_or_ge ((p - 1) % 2 ^ j) (2 ^ j - 1) with w | w
            · exfalso
              have h2 : p / 2 ^ j = (p - 1) / 2 ^ j := by
                have hd := Nat.div_add_mod (p - 1) (2 ^ j)
                have hpos : 0 < 2 ^ j := Nat.two_pow_pos j
                have e5 : p = 2 ^ j * ((p - 1) / 2 ^ j) + ((p - 1) % 2 ^ j + 1) := by omega
                have e6 : (2 ^ j * ((p - 1) / 2 ^ j) + ((p - 1) % 2 ^ j + 1)) / 2 ^ j = (p - 1) / 2 ^ j := by rw [Nat.mul_add_div hpos, Nat.div_eq_of_lt (show (p - 1) % 2 ^ j + 1 < 2 ^ j by omega), Nat.add_zero]
                exact (congrArg (fun z => z / 2 ^ j) e5).trans e6
              have h3 : p.testBit j = (p - 1).testBit j := by
                rw [Nat.testBit_eq_decide_div_mod_eq, Nat.testBit_eq_decide_div_mod_eq, h2]
              rw [h3, z] at hpj
              cases hpj
            · have hm := Nat.mod_lt (p - 1) (Nat.two_pow_pos j)
              have e3 : (p - 1) % 2 ^ j = 2 ^ j - 1 := by omega
              have := Nat.testBit_mod_two_pow (p - 1) j d
              rw [e3, Nat.testBit_two_pow_sub_one] at this
              simpa [hj] using this.symm
          rw [this] at d2
          cases d2
        · rw [hg, Bool.and_true] at e; exact e
      omega
    · exact y
theorem GIn1.next {m : Nat} {c : Nat → Nat} {G part least : Nat} (h : GIn1 m c G part least) : GIn m c G ((part - 1) &&& G) least := by
  refine ⟨ssb_ar _ _, h.2.1, h.2.2.1, fun q q1 q2 q3 => ?_⟩
  rcases Nat.lt_or_ge q part with z | z
  · have := sub_next h.1 q1 z; omega
  · exact h.2.2.2 q q1 z q3
theorem GIn1.done {m : Nat} {c : Nat → Nat} (hc : CloOp m c) (hm : m ≤ 7) {G least : Nat} (hG : G < 2 ^ m) (hcl : c G = G) (h : GIn1 m c G 0 least) : IsGen m c G least := by
  obtain ⟨-, h2, h3, h4⟩ := h
  refine ⟨?_, fun s hs e => h4 s (by have := hc.2.1 s hs; rwa [e] at this) (Nat.zero_le _) e⟩
  rcases h3 with h3 | h3
  · have g1 := h4 G (ssb_refl G) (Nat.zero_le _) hcl
    have g2 := cnt_m hG hm
    exact ⟨G, hG, hcl, by omega⟩
  · exact h3
/-- the reference's search, after k sets -/
def gen (c : Nat → Nat) (G k : Nat) : Nat := fd (fun s r => if c s = G ∧ cnt s 7 < r then cnt s 7 else r) 7 k
theorem gen_in (c : Nat → Nat) (G k : Nat) : gen c G k ≤ 7 ∧ (gen c G k = 7 ∨ ∃ s, s < k ∧ c s = G ∧ cnt s 7 = gen c G k) ∧ ∀ s, s < k → c s = G → gen c G k ≤ cnt s 7 := by
  induction k with
  | zero => exact ⟨Nat.le_refl 7, Or.inl rfl, fun s hs => absurd hs (by omega)⟩
  | succ k ih =>
    obtain ⟨h1, h2, h3⟩ := ih
    have e : gen c G (k + 1) = if c k = G ∧ cnt k 7 < gen c G k then cnt k 7 else gen c G k := rfl
    by_cases hz : c k = G ∧ cnt k 7 < gen c G k
    · rw [e, if_pos hz]
      refine ⟨by omega, Or.inr ⟨k, by omega, hz.1, rfl⟩, fun s hs he => ?_⟩
      rcases Nat.lt_or_ge s k with z | z
      · have := h3 s z he; omega
      · rw [show s = k from by omega]; exact Nat.le_refl _
    · rw [e, if_neg hz]
      refine ⟨h1, ?_, fun s hs he => ?_⟩
      · rcases h2 with h2 | ⟨s, s1, s2⟩
        · exact Or.inl h2
        · exact Or.inr ⟨s, by omega, s2⟩
      · rcases Nat.lt_or_ge s k with z | z
        · exact h3 s z he
        · have e2 : s = k := by omega
          rw [e2] at he ⊢
          rcases Nat.lt_or_ge (cnt k 7) (gen c G k) with y | y
          · exact absurd ⟨he, y⟩ hz
          · exact y
theorem gen_ok {m : Nat} {c : Nat → Nat} {s0 : Nat} (hs : s0 < 2 ^ m) : IsGen m c (c s0) (gen c (c s0) (2 ^ m)) := by
  obtain ⟨h1, h2, h3⟩ := gen_in c (c s0) (2 ^ m)
  refine ⟨?_, h3⟩
  rcases h2 with h2 | h2
  · have g1 := h3 s0 hs rfl
    have g2 := cnt_le s0 7
    exact ⟨s0, hs, rfl, by omega⟩
  · exact h2
/-! dispensable -/
def Disp (m : Nat) (c : Nat → Nat) (a : Nat) : Prop := ∃ s, s < 2 ^ m ∧ c s = s ∧ c (s ^^^ 2 ^ a) = s ^^^ 2 ^ a
theorem xor_p {s a : Nat} (h : s.testBit a = false) : s ^^^ 2 ^ a = s ||| 2 ^ a := by
  apply Nat.eq_of_testBit_eq
  intro i
  rw [Nat.testBit_xor, Nat.testBit_or, Nat.testBit_two_pow]
  by_cases g : a = i
  · subst g; rw [h]; simp
  · simp [g]
theorem or_p {s a : Nat} : s ||| 2 ^ a ≠ s ↔ s.testBit a = false := by
  constructor
  · intro h
    apply ff_of
    intro z
    apply h
    apply Nat.eq_of_testBit_eq
    intro i
    rw [Nat.testBit_or, Nat.testBit_two_pow]
    by_cases g : a = i
    · subst g; rw [z]; simp
    · simp [g]
  · intro h e
    have : (s ||| 2 ^ a).testBit a = true := by rw [Nat.testBit_or, Nat.testBit_two_pow_self, Bool.or_true]
    rw [e, h] at this
    cases this
theorem disp_t {m : Nat} {c : Nat → Nat} {a : Nat} (ha : a < m) : Disp m c a ↔ ∃ s, s < 2 ^ m ∧ c s = s ∧ s ||| 2 ^ a ≠ s ∧ c (s ||| 2 ^ a) = s ||| 2 ^ a := by
  constructor
  · rintro ⟨s, s1, s2, s3⟩
    cases h : s.testBit a
    · rw [xor_p h] at s3
      exact ⟨s, s1, s2, or_p.mpr h, s3⟩
    · have hb : (s ^^^ 2 ^ a).testBit a = false := by rw [Nat.testBit_xor, h, Nat.testBit_two_pow_self]; rfl
      have e : s ^^^ 2 ^ a ||| 2 ^ a = s := by rw [← xor_p hb, Nat.xor_assoc, Nat.xor_self, Nat.xor_zero]
      exact ⟨s ^^^ 2 ^ a, Nat.xor_lt_two_pow s1 (pow_b ha), s3, or_p.mpr hb, by rw [e]; exact s2⟩
  · rintro ⟨s, s1, s2, s3, s4⟩
    exact ⟨s, s1, s2, by rw [xor_p (or_p.mp s3)]; exact s4⟩
end
section
-- ===== PART A: goes FIRST, ahead of the names: the tables' words, and 'selects' of the private methods out of them =====
/-- a private method of a class that the tables say can be made, by its rows of tables_1 -/
def lw_okq (q : MethodName × Nat) : Prop := (q.1.cls ≠ "java/lang/invoke/MethodHandle" ∧ q.1.cls ≠ "java/lang/invoke/VarHandle") ∧ Cond.instantiable q.1.cls q.2 ∈ tables_1 ∧ Cond.privateMethod q.1 ∈ tables_1 ∧ Cond.instanceMethod q.1 ∈ tables_1
set_option maxRecDepth 100000
theorem lw_t1 {w : Cond} (h : w ∈ tables_1_1) : w ∈ tables_1 := List.mem_append_left _ h
theorem lw_t2 {w : Cond} (h : w ∈ tables_1_2) : w ∈ tables_1 := List.mem_append_right _ h
theorem lw_p0 : lw_okq (⟨"ConceptLattice", "isObject", "(I)Z"⟩, 11) := ⟨⟨by decide +kernel, by decide +kernel⟩, lw_t1 (List.mem_of_getElem? (i := 4) rfl), lw_t1 (List.mem_of_getElem? (i := 59) rfl), lw_t1 (List.mem_of_getElem? (i := 60) rfl)⟩
theorem lw_p1 : lw_okq (⟨"ConceptLattice", "isAttribute", "(I)Z"⟩, 11) := ⟨⟨by decide +kernel, by decide +kernel⟩, lw_t1 (List.mem_of_getElem? (i := 4) rfl), lw_t1 (List.mem_of_getElem? (i := 63) rfl), lw_t1 (List.mem_of_getElem? (i := 64) rfl)⟩
theorem lw_p2 : lw_okq (⟨"ConceptLattice", "setRow", "(II)V"⟩, 11) := ⟨⟨by decide +kernel, by decide +kernel⟩, lw_t1 (List.mem_of_getElem? (i := 4) rfl), lw_t1 (List.mem_of_getElem? (i := 67) rfl), lw_t1 (List.mem_of_getElem? (i := 68) rfl)⟩
theorem lw_p3 : lw_okq (⟨"ConceptLattice", "isSet", "(I)Z"⟩, 11) := ⟨⟨by decide +kernel, by decide +kernel⟩, lw_t1 (List.mem_of_getElem? (i := 4) rfl), lw_t1 (List.mem_of_getElem? (i := 75) rfl), lw_t1 (List.mem_of_getElem? (i := 76) rfl)⟩
theorem lw_p4 : lw_okq (⟨"ConceptLattice", "extentOf", "(I)I"⟩, 11) := ⟨⟨by decide +kernel, by decide +kernel⟩, lw_t1 (List.mem_of_getElem? (i := 4) rfl), lw_t1 (List.mem_of_getElem? (i := 87) rfl), lw_t1 (List.mem_of_getElem? (i := 88) rfl)⟩
theorem lw_p5 : lw_okq (⟨"ConceptLattice", "intentOf", "(I)I"⟩, 11) := ⟨⟨by decide +kernel, by decide +kernel⟩, lw_t1 (List.mem_of_getElem? (i := 4) rfl), lw_t1 (List.mem_of_getElem? (i := 95) rfl), lw_t1 (List.mem_of_getElem? (i := 96) rfl)⟩
theorem lw_p6 : lw_okq (⟨"ConceptLattice", "closed", "(I)I"⟩, 11) := ⟨⟨by decide +kernel, by decide +kernel⟩, lw_t1 (List.mem_of_getElem? (i := 4) rfl), lw_t1 (List.mem_of_getElem? (i := 103) rfl), lw_t1 (List.mem_of_getElem? (i := 104) rfl)⟩
theorem lw_p7 : lw_okq (⟨"ConceptLattice", "refresh", "()V"⟩, 11) := ⟨⟨by decide +kernel, by decide +kernel⟩, lw_t1 (List.mem_of_getElem? (i := 4) rfl), lw_t1 (List.mem_of_getElem? (i := 111) rfl), lw_t1 (List.mem_of_getElem? (i := 112) rfl)⟩
theorem lw_p8 : lw_okq (⟨"ConceptLattice", "stepClosed", "(I)I"⟩, 11) := ⟨⟨by decide +kernel, by decide +kernel⟩, lw_t1 (List.mem_of_getElem? (i := 4) rfl), lw_t1 (List.mem_of_getElem? (i := 115) rfl), lw_t1 (List.mem_of_getElem? (i := 116) rfl)⟩
theorem lw_p9 : lw_okq (⟨"ConceptLattice", "stepRules", "(I)I"⟩, 11) := ⟨⟨by decide +kernel, by decide +kernel⟩, lw_t1 (List.mem_of_getElem? (i := 4) rfl), lw_t1 (List.mem_of_getElem? (i := 119) rfl), lw_t1 (List.mem_of_getElem? (i := 120) rfl)⟩
theorem lw_p10 : lw_okq (⟨"ConceptLattice", "underRules", "(I)I"⟩, 11) := ⟨⟨by decide +kernel, by decide +kernel⟩, lw_t1 (List.mem_of_getElem? (i := 4) rfl), lw_t1 (List.mem_of_getElem? (i := 123) rfl), lw_t1 (List.mem_of_getElem? (i := 124) rfl)⟩
theorem lw_p11 : lw_okq (⟨"ConceptLattice", "coversOf", "(I)I"⟩, 11) := ⟨⟨by decide +kernel, by decide +kernel⟩, lw_t1 (List.mem_of_getElem? (i := 4) rfl), lw_t1 (List.mem_of_getElem? (i := 151) rfl), lw_t1 (List.mem_of_getElem? (i := 152) rfl)⟩
theorem lw_p12 : lw_okq (⟨"ConceptLattice", "isLeast", "(II)Z"⟩, 11) := ⟨⟨by decide +kernel, by decide +kernel⟩, lw_t1 (List.mem_of_getElem? (i := 4) rfl), lw_t1 (List.mem_of_getElem? (i := 155) rfl), lw_t1 (List.mem_of_getElem? (i := 156) rfl)⟩
theorem lw_p13 : lw_okq (⟨"ConceptLatticeModel", "badObject", "(I)Z"⟩, 8) := ⟨⟨by decide +kernel, by decide +kernel⟩, lw_t1 (List.mem_of_getElem? (i := 181) rfl), lw_t1 (List.mem_of_getElem? (i := 225) rfl), lw_t1 (List.mem_of_getElem? (i := 226) rfl)⟩
theorem lw_p14 : lw_okq (⟨"ConceptLatticeModel", "badAttribute", "(I)Z"⟩, 8) := ⟨⟨by decide +kernel, by decide +kernel⟩, lw_t1 (List.mem_of_getElem? (i := 181) rfl), lw_t1 (List.mem_of_getElem? (i := 229) rfl), lw_t1 (List.mem_of_getElem? (i := 230) rfl)⟩
theorem lw_p15 : lw_okq (⟨"ConceptLatticeModel", "badSet", "(I)Z"⟩, 8) := ⟨⟨by decide +kernel, by decide +kernel⟩, lw_t1 (List.mem_of_getElem? (i := 181) rfl), lw_t1 (List.mem_of_getElem? (i := 237) rfl), lw_t1 (List.mem_of_getElem? (i := 238) rfl)⟩
def lw_privs_1 : List (MethodName × Nat) := [(⟨"ConceptLattice", "isObject", "(I)Z"⟩, 11), (⟨"ConceptLattice", "isAttribute", "(I)Z"⟩, 11), (⟨"ConceptLattice", "setRow", "(II)V"⟩, 11), (⟨"ConceptLattice", "isSet", "(I)Z"⟩, 11), (⟨"ConceptLattice", "extentOf", "(I)I"⟩, 11), (⟨"ConceptLattice", "intentOf", "(I)I"⟩, 11), (⟨"ConceptLattice", "closed", "(I)I"⟩, 11), (⟨"ConceptLattice", "refresh", "()V"⟩, 11), (⟨"ConceptLattice", "stepClosed", "(I)I"⟩, 11), (⟨"ConceptLattice", "stepRules", "(I)I"⟩, 11), (⟨"ConceptLattice", "underRules", "(I)I"⟩, 11), (⟨"ConceptLattice", "coversOf", "(I)I"⟩, 11), (⟨"ConceptLattice", "isLeast", "(II)Z"⟩, 11), (⟨"ConceptLatticeModel", "badObject", "(I)Z"⟩, 8), (⟨"ConceptLatticeModel", "badAttribute", "(I)Z"⟩, 8), (⟨"ConceptLatticeModel", "badSet", "(I)Z"⟩, 8)]
theorem lw_r1 : ∀ q ∈ lw_privs_1, lw_okq q := List.forall_mem_cons.mpr ⟨lw_p0, List.forall_mem_cons.mpr ⟨lw_p1, List.forall_mem_cons.mpr ⟨lw_p2, List.forall_mem_cons.mpr ⟨lw_p3, List.forall_mem_cons.mpr ⟨lw_p4, List.forall_mem_cons.mpr ⟨lw_p5, List.forall_mem_cons.mpr ⟨lw_p6, List.forall_mem_cons.mpr ⟨lw_p7, List.forall_mem_cons.mpr ⟨lw_p8, List.forall_mem_cons.mpr ⟨lw_p9, List.forall_mem_cons.mpr ⟨lw_p10, List.forall_mem_cons.mpr ⟨lw_p11, List.forall_mem_cons.mpr ⟨lw_p12, List.forall_mem_cons.mpr ⟨lw_p13, List.forall_mem_cons.mpr ⟨lw_p14, List.forall_mem_cons.mpr ⟨lw_p15, fun _ h => absurd h List.not_mem_nil⟩⟩⟩⟩⟩⟩⟩⟩⟩⟩⟩⟩⟩⟩⟩⟩
theorem lw_p16 : lw_okq (⟨"ConceptLatticeModel", "havers", "(I)I"⟩, 8) := ⟨⟨by decide +kernel, by decide +kernel⟩, lw_t1 (List.mem_of_getElem? (i := 181) rfl), lw_t2 (List.mem_of_getElem? (i := 9) rfl), lw_t2 (List.mem_of_getElem? (i := 10) rfl)⟩
theorem lw_p17 : lw_okq (⟨"ConceptLatticeModel", "part", "(II)Z"⟩, 8) := ⟨⟨by decide +kernel, by decide +kernel⟩, lw_t1 (List.mem_of_getElem? (i := 181) rfl), lw_t2 (List.mem_of_getElem? (i := 13) rfl), lw_t2 (List.mem_of_getElem? (i := 14) rfl)⟩
theorem lw_p18 : lw_okq (⟨"ConceptLatticeModel", "shared", "(I)I"⟩, 8) := ⟨⟨by decide +kernel, by decide +kernel⟩, lw_t1 (List.mem_of_getElem? (i := 181) rfl), lw_t2 (List.mem_of_getElem? (i := 21) rfl), lw_t2 (List.mem_of_getElem? (i := 22) rfl)⟩
theorem lw_p19 : lw_okq (⟨"ConceptLatticeModel", "closureOf", "(I)I"⟩, 8) := ⟨⟨by decide +kernel, by decide +kernel⟩, lw_t1 (List.mem_of_getElem? (i := 181) rfl), lw_t2 (List.mem_of_getElem? (i := 29) rfl), lw_t2 (List.mem_of_getElem? (i := 30) rfl)⟩
theorem lw_p20 : lw_okq (⟨"ConceptLatticeModel", "tabulate", "()V"⟩, 8) := ⟨⟨by decide +kernel, by decide +kernel⟩, lw_t1 (List.mem_of_getElem? (i := 181) rfl), lw_t2 (List.mem_of_getElem? (i := 37) rfl), lw_t2 (List.mem_of_getElem? (i := 38) rfl)⟩
theorem lw_p21 : lw_okq (⟨"ConceptLatticeModel", "isPseudo", "(I)Z"⟩, 8) := ⟨⟨by decide +kernel, by decide +kernel⟩, lw_t1 (List.mem_of_getElem? (i := 181) rfl), lw_t2 (List.mem_of_getElem? (i := 41) rfl), lw_t2 (List.mem_of_getElem? (i := 42) rfl)⟩
theorem lw_p22 : lw_okq (⟨"ConceptLatticeModel", "proper", "(II)Z"⟩, 8) := ⟨⟨by decide +kernel, by decide +kernel⟩, lw_t1 (List.mem_of_getElem? (i := 181) rfl), lw_t2 (List.mem_of_getElem? (i := 45) rfl), lw_t2 (List.mem_of_getElem? (i := 46) rfl)⟩
theorem lw_p23 : lw_okq (⟨"ConceptLatticeModel", "over", "(I)I"⟩, 8) := ⟨⟨by decide +kernel, by decide +kernel⟩, lw_t1 (List.mem_of_getElem? (i := 181) rfl), lw_t2 (List.mem_of_getElem? (i := 73) rfl), lw_t2 (List.mem_of_getElem? (i := 74) rfl)⟩
theorem lw_p24 : lw_okq (⟨"ConceptLatticeModel", "between", "(II)Z"⟩, 8) := ⟨⟨by decide +kernel, by decide +kernel⟩, lw_t1 (List.mem_of_getElem? (i := 181) rfl), lw_t2 (List.mem_of_getElem? (i := 77) rfl), lw_t2 (List.mem_of_getElem? (i := 78) rfl)⟩
theorem lw_p25 : lw_okq (⟨"ConceptLatticeModel", "size", "(I)I"⟩, 8) := ⟨⟨by decide +kernel, by decide +kernel⟩, lw_t1 (List.mem_of_getElem? (i := 181) rfl), lw_t2 (List.mem_of_getElem? (i := 93) rfl), lw_t2 (List.mem_of_getElem? (i := 94) rfl)⟩
def lw_privs_2 : List (MethodName × Nat) := [(⟨"ConceptLatticeModel", "havers", "(I)I"⟩, 8), (⟨"ConceptLatticeModel", "part", "(II)Z"⟩, 8), (⟨"ConceptLatticeModel", "shared", "(I)I"⟩, 8), (⟨"ConceptLatticeModel", "closureOf", "(I)I"⟩, 8), (⟨"ConceptLatticeModel", "tabulate", "()V"⟩, 8), (⟨"ConceptLatticeModel", "isPseudo", "(I)Z"⟩, 8), (⟨"ConceptLatticeModel", "proper", "(II)Z"⟩, 8), (⟨"ConceptLatticeModel", "over", "(I)I"⟩, 8), (⟨"ConceptLatticeModel", "between", "(II)Z"⟩, 8), (⟨"ConceptLatticeModel", "size", "(I)I"⟩, 8)]
theorem lw_r2 : ∀ q ∈ lw_privs_2, lw_okq q := List.forall_mem_cons.mpr ⟨lw_p16, List.forall_mem_cons.mpr ⟨lw_p17, List.forall_mem_cons.mpr ⟨lw_p18, List.forall_mem_cons.mpr ⟨lw_p19, List.forall_mem_cons.mpr ⟨lw_p20, List.forall_mem_cons.mpr ⟨lw_p21, List.forall_mem_cons.mpr ⟨lw_p22, List.forall_mem_cons.mpr ⟨lw_p23, List.forall_mem_cons.mpr ⟨lw_p24, List.forall_mem_cons.mpr ⟨lw_p25, fun _ h => absurd h List.not_mem_nil⟩⟩⟩⟩⟩⟩⟩⟩⟩⟩
def lw_privs : List (MethodName × Nat) := lw_privs_1 ++ (lw_privs_2)
def lw_tbl : List Cond := k2_sels lw_privs ++ tables_1
theorem lw_privs_ok : ∀ q ∈ lw_privs, lw_okq q := by
  show ∀ q ∈ lw_privs_1 ++ (lw_privs_2), lw_okq q
  exact List.forall_mem_append.mpr ⟨lw_r1, lw_r2⟩
-- ===== ONE list of words for every method: the tables' words that hold all through a run =====
def lw_all : List Cond := lw_tbl.filter goodWord
/-- a word of the tables by its place: claim/WORDS.tsv -/
theorem lw_w {w : Cond} (i : Nat) (h : lw_tbl[i]? = some w) (g : goodWord w = true) : w ∈ lw_all := List.mem_filter.mpr ⟨List.mem_of_getElem? h, g⟩
theorem lw_all_tbl {w : Cond} (h : w ∈ lw_all) : w ∈ lw_tbl := (List.mem_filter.mp h).1
theorem lw_self : GoodIn lw_all lw_all := fun w h => ⟨h, good_of_word (List.mem_filter.mp h).2⟩
/-- a class's field words, by their places -/
theorem lw_in (ws : List Cond) (ps : List Nat) (hp : ws = ps.filterMap (fun i => lw_tbl[i]?)) (hg : ws.all goodWord = true) : ∀ w ∈ ws, w ∈ lw_all := by
  intro w h
  have h1 := List.all_eq_true.mp hg w h
  rw [hp] at h
  obtain ⟨i, -, hi⟩ := List.mem_filterMap.mp h
  exact lw_w i hi h1
/-- the words of a contract for the method y with code b, L locals, answer r -/
abbrev ws_ (y : MethodName) (b : ByteArray) (L : Nat) (r : Option FieldType) : List Cond := Cond.code y b L r :: lw_all
theorem lw_meth {y : MethodName} {b : ByteArray} {L : Nat} {r : Option FieldType} (h : Cond.code y b L r ∈ lw_all) : GoodIn lw_all (ws_ y b L r) := by
  intro w hw
  rcases List.mem_cons.mp hw with e | e
  · rw [e]
    exact lw_self _ h
  · exact lw_self _ e
theorem lw_app {a c : List Cond} (ha : ∀ w ∈ a, w ∈ lw_all) (hc : GoodIn lw_all c) : GoodIn lw_all (a ++ c) := by
  intro w hw
  rcases List.mem_append.mp hw with e | e
  · exact lw_self w (ha w e)
  · exact hc w e
/-- what a call through an object asks: cwV n hts (lw_V ..) -/
theorem lw_V {own : String} {idx : Nat} {C : String} {y : MethodName} {b : ByteArray} {L : Nat} {r : Option FieldType} (h1 : Cond.methodLink own idx y ∈ lw_all) (h2 : Cond.instanceMethod y ∈ lw_all) (h3 : Cond.selects C y y ∈ lw_all) (h4 : Cond.initialized C ∈ lw_all) (h5 : Cond.code y b L r ∈ lw_all) : GoodIn lw_all (wsV own idx C y (ws_ y b L r)) := by
  refine lw_app ?_ (lw_meth h5)
  intro w hw
  simp only [List.mem_cons, List.not_mem_nil, or_false] at hw
  rcases hw with e | e | e | e
  · rw [e]; exact h1
  · rw [e]; exact h2
  · rw [e]; exact h3
  · rw [e]; exact h4
/-- what a static call asks: va_cwS n hts (lw_S ..) -/
theorem lw_S {own : String} {idx : Nat} {y : MethodName} {b : ByteArray} {L : Nat} {r : Option FieldType} (h1 : Cond.methodLink own idx y ∈ lw_all) (h2 : Cond.static y ∈ lw_all) (h3 : Cond.initialized y.cls ∈ lw_all) (h4 : Cond.code y b L r ∈ lw_all) : GoodIn lw_all (va_wsS own idx y (ws_ y b L r)) := by
  refine lw_app ?_ (lw_meth h4)
  intro w hw
  simp only [List.mem_cons, List.not_mem_nil, or_false] at hw
  rcases hw with e | e | e
  · rw [e]; exact h1
  · rw [e]; exact h2
  · rw [e]; exact h3
/-- the words of a contract for a method WITH HANDLERS (hh: its table) -/
abbrev wsW_ (y : MethodName) (b : ByteArray) (L : Nat) (r : Option FieldType) (hh : List (Nat × Nat × Nat × Nat)) : List Cond := Cond.codeWith y b L r hh :: lw_all
theorem lw_methW {y : MethodName} {b : ByteArray} {L : Nat} {r : Option FieldType} {hh : List (Nat × Nat × Nat × Nat)} (h : Cond.codeWith y b L r hh ∈ lw_all) : GoodIn lw_all (wsW_ y b L r hh) := by
  intro w hw
  rcases List.mem_cons.mp hw with e | e
  · rw [e]
    exact lw_self _ h
  · exact lw_self _ e
/-- any list of words by their places (lw_in), good -/
theorem lw_good {ws : List Cond} (h : ∀ w ∈ ws, w ∈ lw_all) : GoodIn lw_all ws := fun w hw => lw_self w (h w hw)
/-- what a call of a method with handlers asks: vx_cwVW n hts (lw_VW ..), vx_cwSW n hts (lw_SW ..) -/
theorem lw_VW {own : String} {idx : Nat} {C : String} {y : MethodName} {b : ByteArray} {L : Nat} {r : Option FieldType} {hh : List (Nat × Nat × Nat × Nat)} (h1 : Cond.methodLink own idx y ∈ lw_all) (h2 : Cond.instanceMethod y ∈ lw_all) (h3 : Cond.selects C y y ∈ lw_all) (h4 : Cond.initialized C ∈ lw_all) (h5 : Cond.codeWith y b L r hh ∈ lw_all) : GoodIn lw_all (wsV own idx C y (wsW_ y b L r hh)) := by
  refine lw_app ?_ (lw_methW h5)
  intro w hw
  simp only [List.mem_cons, List.not_mem_nil, or_false] at hw
  rcases hw with e | e | e | e
  · rw [e]; exact h1
  · rw [e]; exact h2
  · rw [e]; exact h3
  · rw [e]; exact h4
theorem lw_SW {own : String} {idx : Nat} {y : MethodName} {b : ByteArray} {L : Nat} {r : Option FieldType} {hh : List (Nat × Nat × Nat × Nat)} (h1 : Cond.methodLink own idx y ∈ lw_all) (h2 : Cond.static y ∈ lw_all) (h3 : Cond.initialized y.cls ∈ lw_all) (h4 : Cond.codeWith y b L r hh ∈ lw_all) : GoodIn lw_all (va_wsS own idx y (wsW_ y b L r hh)) := by
  refine lw_app ?_ (lw_methW h4)
  intro w hw
  simp only [List.mem_cons, List.not_mem_nil, or_false] at hw
  rcases hw with e | e | e
  · rw [e]; exact h1
  · rw [e]; exact h2
  · rw [e]; exact h3
/-- a word by its place in its run of the tables -/
theorem lw_at {r : List Cond} (hr : ∀ w ∈ r, w ∈ lw_tbl) {w : Cond} (i : Nat) (h : r[i]? = some w) : w ∈ lw_tbl := hr w (List.mem_of_getElem? h)
theorem lw_g {w : Cond} (h : w ∈ lw_tbl) (g : goodWord w = true) : w ∈ lw_all := List.mem_filter.mpr ⟨h, g⟩
theorem lw_ms : ∀ w ∈ k2_sels lw_privs, w ∈ lw_tbl := fun w h => show w ∈ k2_sels lw_privs ++ tables_1 from List.mem_append_left _ h
theorem lw_m1 : ∀ w ∈ tables_1_1, w ∈ lw_tbl := fun w h => show w ∈ k2_sels lw_privs ++ tables_1 from List.mem_append_right (k2_sels lw_privs) (show w ∈ tables_1 from List.mem_append_left _ h)
theorem lw_m2 : ∀ w ∈ tables_1_2, w ∈ lw_tbl := fun w h => show w ∈ k2_sels lw_privs ++ tables_1 from List.mem_append_right (k2_sels lw_privs) (show w ∈ tables_1 from List.mem_append_right _ h)
theorem qs0 : (Cond.selects "ConceptLattice" ⟨"ConceptLattice", "isObject", "(I)Z"⟩ ⟨"ConceptLattice", "isObject", "(I)Z"⟩) ∈ lw_all := lw_g (lw_at lw_ms 0 rfl) rfl
theorem qs1 : (Cond.selects "ConceptLattice" ⟨"ConceptLattice", "isAttribute", "(I)Z"⟩ ⟨"ConceptLattice", "isAttribute", "(I)Z"⟩) ∈ lw_all := lw_g (lw_at lw_ms 1 rfl) rfl
theorem qs2 : (Cond.selects "ConceptLattice" ⟨"ConceptLattice", "setRow", "(II)V"⟩ ⟨"ConceptLattice", "setRow", "(II)V"⟩) ∈ lw_all := lw_g (lw_at lw_ms 2 rfl) rfl
theorem qs3 : (Cond.selects "ConceptLattice" ⟨"ConceptLattice", "isSet", "(I)Z"⟩ ⟨"ConceptLattice", "isSet", "(I)Z"⟩) ∈ lw_all := lw_g (lw_at lw_ms 3 rfl) rfl
theorem qs4 : (Cond.selects "ConceptLattice" ⟨"ConceptLattice", "extentOf", "(I)I"⟩ ⟨"ConceptLattice", "extentOf", "(I)I"⟩) ∈ lw_all := lw_g (lw_at lw_ms 4 rfl) rfl
theorem qs5 : (Cond.selects "ConceptLattice" ⟨"ConceptLattice", "intentOf", "(I)I"⟩ ⟨"ConceptLattice", "intentOf", "(I)I"⟩) ∈ lw_all := lw_g (lw_at lw_ms 5 rfl) rfl
theorem qs6 : (Cond.selects "ConceptLattice" ⟨"ConceptLattice", "closed", "(I)I"⟩ ⟨"ConceptLattice", "closed", "(I)I"⟩) ∈ lw_all := lw_g (lw_at lw_ms 6 rfl) rfl
theorem qs7 : (Cond.selects "ConceptLattice" ⟨"ConceptLattice", "refresh", "()V"⟩ ⟨"ConceptLattice", "refresh", "()V"⟩) ∈ lw_all := lw_g (lw_at lw_ms 7 rfl) rfl
theorem qs8 : (Cond.selects "ConceptLattice" ⟨"ConceptLattice", "stepClosed", "(I)I"⟩ ⟨"ConceptLattice", "stepClosed", "(I)I"⟩) ∈ lw_all := lw_g (lw_at lw_ms 8 rfl) rfl
theorem qs9 : (Cond.selects "ConceptLattice" ⟨"ConceptLattice", "stepRules", "(I)I"⟩ ⟨"ConceptLattice", "stepRules", "(I)I"⟩) ∈ lw_all := lw_g (lw_at lw_ms 9 rfl) rfl
theorem qs10 : (Cond.selects "ConceptLattice" ⟨"ConceptLattice", "underRules", "(I)I"⟩ ⟨"ConceptLattice", "underRules", "(I)I"⟩) ∈ lw_all := lw_g (lw_at lw_ms 10 rfl) rfl
theorem qs11 : (Cond.selects "ConceptLattice" ⟨"ConceptLattice", "coversOf", "(I)I"⟩ ⟨"ConceptLattice", "coversOf", "(I)I"⟩) ∈ lw_all := lw_g (lw_at lw_ms 11 rfl) rfl
theorem qs12 : (Cond.selects "ConceptLattice" ⟨"ConceptLattice", "isLeast", "(II)Z"⟩ ⟨"ConceptLattice", "isLeast", "(II)Z"⟩) ∈ lw_all := lw_g (lw_at lw_ms 12 rfl) rfl
theorem qs13 : (Cond.selects "ConceptLatticeModel" ⟨"ConceptLatticeModel", "badObject", "(I)Z"⟩ ⟨"ConceptLatticeModel", "badObject", "(I)Z"⟩) ∈ lw_all := lw_g (lw_at lw_ms 13 rfl) rfl
theorem qs14 : (Cond.selects "ConceptLatticeModel" ⟨"ConceptLatticeModel", "badAttribute", "(I)Z"⟩ ⟨"ConceptLatticeModel", "badAttribute", "(I)Z"⟩) ∈ lw_all := lw_g (lw_at lw_ms 14 rfl) rfl
theorem qs15 : (Cond.selects "ConceptLatticeModel" ⟨"ConceptLatticeModel", "badSet", "(I)Z"⟩ ⟨"ConceptLatticeModel", "badSet", "(I)Z"⟩) ∈ lw_all := lw_g (lw_at lw_ms 15 rfl) rfl
theorem qs16 : (Cond.selects "ConceptLatticeModel" ⟨"ConceptLatticeModel", "havers", "(I)I"⟩ ⟨"ConceptLatticeModel", "havers", "(I)I"⟩) ∈ lw_all := lw_g (lw_at lw_ms 16 rfl) rfl
theorem qs17 : (Cond.selects "ConceptLatticeModel" ⟨"ConceptLatticeModel", "part", "(II)Z"⟩ ⟨"ConceptLatticeModel", "part", "(II)Z"⟩) ∈ lw_all := lw_g (lw_at lw_ms 17 rfl) rfl
theorem qs18 : (Cond.selects "ConceptLatticeModel" ⟨"ConceptLatticeModel", "shared", "(I)I"⟩ ⟨"ConceptLatticeModel", "shared", "(I)I"⟩) ∈ lw_all := lw_g (lw_at lw_ms 18 rfl) rfl
theorem qs19 : (Cond.selects "ConceptLatticeModel" ⟨"ConceptLatticeModel", "closureOf", "(I)I"⟩ ⟨"ConceptLatticeModel", "closureOf", "(I)I"⟩) ∈ lw_all := lw_g (lw_at lw_ms 19 rfl) rfl
theorem qs20 : (Cond.selects "ConceptLatticeModel" ⟨"ConceptLatticeModel", "tabulate", "()V"⟩ ⟨"ConceptLatticeModel", "tabulate", "()V"⟩) ∈ lw_all := lw_g (lw_at lw_ms 20 rfl) rfl
theorem qs21 : (Cond.selects "ConceptLatticeModel" ⟨"ConceptLatticeModel", "isPseudo", "(I)Z"⟩ ⟨"ConceptLatticeModel", "isPseudo", "(I)Z"⟩) ∈ lw_all := lw_g (lw_at lw_ms 21 rfl) rfl
theorem qs22 : (Cond.selects "ConceptLatticeModel" ⟨"ConceptLatticeModel", "proper", "(II)Z"⟩ ⟨"ConceptLatticeModel", "proper", "(II)Z"⟩) ∈ lw_all := lw_g (lw_at lw_ms 22 rfl) rfl
theorem qs23 : (Cond.selects "ConceptLatticeModel" ⟨"ConceptLatticeModel", "over", "(I)I"⟩ ⟨"ConceptLatticeModel", "over", "(I)I"⟩) ∈ lw_all := lw_g (lw_at lw_ms 23 rfl) rfl
theorem qs24 : (Cond.selects "ConceptLatticeModel" ⟨"ConceptLatticeModel", "between", "(II)Z"⟩ ⟨"ConceptLatticeModel", "between", "(II)Z"⟩) ∈ lw_all := lw_g (lw_at lw_ms 24 rfl) rfl
theorem qs25 : (Cond.selects "ConceptLatticeModel" ⟨"ConceptLatticeModel", "size", "(I)I"⟩ ⟨"ConceptLatticeModel", "size", "(I)I"⟩) ∈ lw_all := lw_g (lw_at lw_ms 25 rfl) rfl
end
section
/-! java/lang/Object -/
set_option maxRecDepth 100000
def RJ0 : String := "java/lang/Object"
abbrev cJ0_init : ByteArray := object_method_1_code
def yJ0_init : MethodName := ⟨RJ0, "<init>", "()V"⟩
theorem dJ0_init_0 : decode cJ0_init 0 = .ok (.return_, 1) := by decide +kernel
theorem q35 : (Jvm.Cond.instanceMethod ({ cls := "java/lang/Object", name := "<init>", desc := "()V" } : Jvm.MethodName)) ∈ lw_all := lw_g (lw_at lw_m1 9 rfl) rfl
theorem q36 : (Jvm.Cond.code ({ cls := "java/lang/Object", name := "<init>", desc := "()V" } : Jvm.MethodName) object_method_1_code (1 : Nat) (Option.none : Option Jvm.ClassFile.FieldType)) ∈ lw_all := lw_g (lw_at lw_m1 10 rfl) rfl
set_option maxRecDepth 100000
theorem q237 : (Jvm.Cond.arrayClass Jvm.ClassFile.FieldType.boolean) ∈ lw_all := lw_g (lw_at lw_m1 211 rfl) rfl
/-! ConceptLatticeLaw -/
def RX0 : String := "ConceptLatticeLaw"
abbrev cX0_cell : ByteArray := method_2_code
def yX0_cell : MethodName := ⟨RX0, "cell", "([II)I"⟩
theorem dX0_cell_0 : decode cX0_cell 0 = .ok (.iload_n 1, 1) := by decide +kernel
theorem dX0_cell_1 : decode cX0_cell 1 = .ok (.aload_n 0, 1) := by decide +kernel
theorem dX0_cell_2 : decode cX0_cell 2 = .ok (.arraylength, 1) := by decide +kernel
theorem dX0_cell_3 : decode cX0_cell 3 = .ok (.if_icmp .ge 9, 3) := by decide +kernel
theorem dX0_cell_6 : decode cX0_cell 6 = .ok (.aload_n 0, 1) := by decide +kernel
theorem dX0_cell_7 : decode cX0_cell 7 = .ok (.iload_n 1, 1) := by decide +kernel
theorem dX0_cell_8 : decode cX0_cell 8 = .ok (.iaload, 1) := by decide +kernel
theorem dX0_cell_9 : decode cX0_cell 9 = .ok (.goto 4, 3) := by decide +kernel
theorem dX0_cell_12 : decode cX0_cell 12 = .ok (.iconst 0, 1) := by decide +kernel
theorem dX0_cell_13 : decode cX0_cell 13 = .ok (.ireturn, 1) := by decide +kernel
theorem q26 : (Jvm.Cond.initialized "ConceptLatticeLaw") ∈ lw_all := lw_g (lw_at lw_m1 0 rfl) rfl
theorem q29 : (Jvm.Cond.classLink "ConceptLatticeLaw" (7 : Nat) "ConceptLattice") ∈ lw_all := lw_g (lw_at lw_m1 3 rfl) rfl
theorem q31 : (Jvm.Cond.methodLink "ConceptLatticeLaw" (15 : Nat) ({ cls := "ConceptLattice", name := "<init>", desc := "(II)V" } : Jvm.MethodName)) ∈ lw_all := lw_g (lw_at lw_m1 5 rfl) rfl
theorem q72 : (Jvm.Cond.methodLink "ConceptLatticeLaw" (21 : Nat) ({ cls := "ConceptLattice", name := "objects", desc := "()I" } : Jvm.MethodName)) ∈ lw_all := lw_g (lw_at lw_m1 46 rfl) rfl
theorem q76 : (Jvm.Cond.methodLink "ConceptLatticeLaw" (26 : Nat) ({ cls := "ConceptLattice", name := "attributes", desc := "()I" } : Jvm.MethodName)) ∈ lw_all := lw_g (lw_at lw_m1 50 rfl) rfl
theorem q80 : (Jvm.Cond.methodLink "ConceptLatticeLaw" (30 : Nat) ({ cls := "ConceptLattice", name := "cross", desc := "(III)I" } : Jvm.MethodName)) ∈ lw_all := lw_g (lw_at lw_m1 54 rfl) rfl
theorem q96 : (Jvm.Cond.methodLink "ConceptLatticeLaw" (35 : Nat) ({ cls := "ConceptLattice", name := "row", desc := "(II)I" } : Jvm.MethodName)) ∈ lw_all := lw_g (lw_at lw_m1 70 rfl) rfl
theorem q104 : (Jvm.Cond.methodLink "ConceptLatticeLaw" (40 : Nat) ({ cls := "ConceptLattice", name := "rowOf", desc := "(I)I" } : Jvm.MethodName)) ∈ lw_all := lw_g (lw_at lw_m1 78 rfl) rfl
theorem q108 : (Jvm.Cond.methodLink "ConceptLatticeLaw" (45 : Nat) ({ cls := "ConceptLattice", name := "extent", desc := "(I)I" } : Jvm.MethodName)) ∈ lw_all := lw_g (lw_at lw_m1 82 rfl) rfl
theorem q116 : (Jvm.Cond.methodLink "ConceptLatticeLaw" (49 : Nat) ({ cls := "ConceptLattice", name := "intent", desc := "(I)I" } : Jvm.MethodName)) ∈ lw_all := lw_g (lw_at lw_m1 90 rfl) rfl
theorem q124 : (Jvm.Cond.methodLink "ConceptLatticeLaw" (53 : Nat) ({ cls := "ConceptLattice", name := "closure", desc := "(I)I" } : Jvm.MethodName)) ∈ lw_all := lw_g (lw_at lw_m1 98 rfl) rfl
theorem q132 : (Jvm.Cond.methodLink "ConceptLatticeLaw" (57 : Nat) ({ cls := "ConceptLattice", name := "closedSets", desc := "()I" } : Jvm.MethodName)) ∈ lw_all := lw_g (lw_at lw_m1 106 rfl) rfl
theorem q152 : (Jvm.Cond.methodLink "ConceptLatticeLaw" (61 : Nat) ({ cls := "ConceptLattice", name := "closedSet", desc := "(I)I" } : Jvm.MethodName)) ∈ lw_all := lw_g (lw_at lw_m1 126 rfl) rfl
theorem q156 : (Jvm.Cond.methodLink "ConceptLatticeLaw" (65 : Nat) ({ cls := "ConceptLattice", name := "nextClosed", desc := "(I)I" } : Jvm.MethodName)) ∈ lw_all := lw_g (lw_at lw_m1 130 rfl) rfl
theorem q160 : (Jvm.Cond.methodLink "ConceptLatticeLaw" (69 : Nat) ({ cls := "ConceptLattice", name := "follows", desc := "(II)I" } : Jvm.MethodName)) ∈ lw_all := lw_g (lw_at lw_m1 134 rfl) rfl
theorem q164 : (Jvm.Cond.methodLink "ConceptLatticeLaw" (73 : Nat) ({ cls := "ConceptLattice", name := "rules", desc := "()I" } : Jvm.MethodName)) ∈ lw_all := lw_g (lw_at lw_m1 138 rfl) rfl
theorem q168 : (Jvm.Cond.methodLink "ConceptLatticeLaw" (77 : Nat) ({ cls := "ConceptLattice", name := "rule", desc := "(I)I" } : Jvm.MethodName)) ∈ lw_all := lw_g (lw_at lw_m1 142 rfl) rfl
theorem q172 : (Jvm.Cond.methodLink "ConceptLatticeLaw" (81 : Nat) ({ cls := "ConceptLattice", name := "covers", desc := "(I)I" } : Jvm.MethodName)) ∈ lw_all := lw_g (lw_at lw_m1 146 rfl) rfl
theorem q184 : (Jvm.Cond.methodLink "ConceptLatticeLaw" (85 : Nat) ({ cls := "ConceptLattice", name := "links", desc := "()I" } : Jvm.MethodName)) ∈ lw_all := lw_g (lw_at lw_m1 158 rfl) rfl
theorem q188 : (Jvm.Cond.methodLink "ConceptLatticeLaw" (89 : Nat) ({ cls := "ConceptLattice", name := "height", desc := "()I" } : Jvm.MethodName)) ∈ lw_all := lw_g (lw_at lw_m1 162 rfl) rfl
theorem q192 : (Jvm.Cond.methodLink "ConceptLatticeLaw" (93 : Nat) ({ cls := "ConceptLattice", name := "generatorSize", desc := "(I)I" } : Jvm.MethodName)) ∈ lw_all := lw_g (lw_at lw_m1 166 rfl) rfl
theorem q199 : (Jvm.Cond.methodLink "ConceptLatticeLaw" (97 : Nat) ({ cls := "ConceptLattice", name := "dispensable", desc := "(I)I" } : Jvm.MethodName)) ∈ lw_all := lw_g (lw_at lw_m1 173 rfl) rfl
theorem q203 : (Jvm.Cond.methodLink "ConceptLatticeLaw" (9 : Nat) ({ cls := "ConceptLatticeLaw", name := "cell", desc := "([II)I" } : Jvm.MethodName)) ∈ lw_all := lw_g (lw_at lw_m1 177 rfl) rfl
theorem q204 : (Jvm.Cond.static ({ cls := "ConceptLatticeLaw", name := "cell", desc := "([II)I" } : Jvm.MethodName)) ∈ lw_all := lw_g (lw_at lw_m1 178 rfl) rfl
theorem q205 : (Jvm.Cond.code ({ cls := "ConceptLatticeLaw", name := "cell", desc := "([II)I" } : Jvm.MethodName) method_2_code (2 : Nat) (Option.some Jvm.ClassFile.FieldType.int)) ∈ lw_all := lw_g (lw_at lw_m1 179 rfl) rfl
theorem q206 : (Jvm.Cond.classLink "ConceptLatticeLaw" (18 : Nat) "ConceptLatticeModel") ∈ lw_all := lw_g (lw_at lw_m1 180 rfl) rfl
theorem q208 : (Jvm.Cond.methodLink "ConceptLatticeLaw" (20 : Nat) ({ cls := "ConceptLatticeModel", name := "<init>", desc := "(II)V" } : Jvm.MethodName)) ∈ lw_all := lw_g (lw_at lw_m1 182 rfl) rfl
theorem q238 : (Jvm.Cond.methodLink "ConceptLatticeLaw" (25 : Nat) ({ cls := "ConceptLatticeModel", name := "objects", desc := "()I" } : Jvm.MethodName)) ∈ lw_all := lw_g (lw_at lw_m1 212 rfl) rfl
theorem q242 : (Jvm.Cond.methodLink "ConceptLatticeLaw" (29 : Nat) ({ cls := "ConceptLatticeModel", name := "attributes", desc := "()I" } : Jvm.MethodName)) ∈ lw_all := lw_g (lw_at lw_m1 216 rfl) rfl
theorem q246 : (Jvm.Cond.methodLink "ConceptLatticeLaw" (34 : Nat) ({ cls := "ConceptLatticeModel", name := "cross", desc := "(III)I" } : Jvm.MethodName)) ∈ lw_all := lw_g (lw_at lw_m1 220 rfl) rfl
theorem q258 : (Jvm.Cond.methodLink "ConceptLatticeLaw" (39 : Nat) ({ cls := "ConceptLatticeModel", name := "row", desc := "(II)I" } : Jvm.MethodName)) ∈ lw_all := lw_g (lw_at lw_m1 232 rfl) rfl
theorem q266 : (Jvm.Cond.methodLink "ConceptLatticeLaw" (44 : Nat) ({ cls := "ConceptLatticeModel", name := "rowOf", desc := "(I)I" } : Jvm.MethodName)) ∈ lw_all := lw_g (lw_at lw_m2 0 rfl) rfl
theorem q270 : (Jvm.Cond.methodLink "ConceptLatticeLaw" (48 : Nat) ({ cls := "ConceptLatticeModel", name := "extent", desc := "(I)I" } : Jvm.MethodName)) ∈ lw_all := lw_g (lw_at lw_m2 4 rfl) rfl
theorem q282 : (Jvm.Cond.methodLink "ConceptLatticeLaw" (52 : Nat) ({ cls := "ConceptLatticeModel", name := "intent", desc := "(I)I" } : Jvm.MethodName)) ∈ lw_all := lw_g (lw_at lw_m2 16 rfl) rfl
theorem q290 : (Jvm.Cond.methodLink "ConceptLatticeLaw" (56 : Nat) ({ cls := "ConceptLatticeModel", name := "closure", desc := "(I)I" } : Jvm.MethodName)) ∈ lw_all := lw_g (lw_at lw_m2 24 rfl) rfl
theorem q298 : (Jvm.Cond.methodLink "ConceptLatticeLaw" (60 : Nat) ({ cls := "ConceptLatticeModel", name := "closedSets", desc := "()I" } : Jvm.MethodName)) ∈ lw_all := lw_g (lw_at lw_m2 32 rfl) rfl
theorem q314 : (Jvm.Cond.methodLink "ConceptLatticeLaw" (64 : Nat) ({ cls := "ConceptLatticeModel", name := "closedSet", desc := "(I)I" } : Jvm.MethodName)) ∈ lw_all := lw_g (lw_at lw_m2 48 rfl) rfl
theorem q318 : (Jvm.Cond.methodLink "ConceptLatticeLaw" (68 : Nat) ({ cls := "ConceptLatticeModel", name := "nextClosed", desc := "(I)I" } : Jvm.MethodName)) ∈ lw_all := lw_g (lw_at lw_m2 52 rfl) rfl
theorem q322 : (Jvm.Cond.methodLink "ConceptLatticeLaw" (72 : Nat) ({ cls := "ConceptLatticeModel", name := "follows", desc := "(II)I" } : Jvm.MethodName)) ∈ lw_all := lw_g (lw_at lw_m2 56 rfl) rfl
theorem q326 : (Jvm.Cond.methodLink "ConceptLatticeLaw" (76 : Nat) ({ cls := "ConceptLatticeModel", name := "rules", desc := "()I" } : Jvm.MethodName)) ∈ lw_all := lw_g (lw_at lw_m2 60 rfl) rfl
theorem q330 : (Jvm.Cond.methodLink "ConceptLatticeLaw" (80 : Nat) ({ cls := "ConceptLatticeModel", name := "rule", desc := "(I)I" } : Jvm.MethodName)) ∈ lw_all := lw_g (lw_at lw_m2 64 rfl) rfl
theorem q334 : (Jvm.Cond.methodLink "ConceptLatticeLaw" (84 : Nat) ({ cls := "ConceptLatticeModel", name := "covers", desc := "(I)I" } : Jvm.MethodName)) ∈ lw_all := lw_g (lw_at lw_m2 68 rfl) rfl
theorem q346 : (Jvm.Cond.methodLink "ConceptLatticeLaw" (88 : Nat) ({ cls := "ConceptLatticeModel", name := "links", desc := "()I" } : Jvm.MethodName)) ∈ lw_all := lw_g (lw_at lw_m2 80 rfl) rfl
theorem q350 : (Jvm.Cond.methodLink "ConceptLatticeLaw" (92 : Nat) ({ cls := "ConceptLatticeModel", name := "height", desc := "()I" } : Jvm.MethodName)) ∈ lw_all := lw_g (lw_at lw_m2 84 rfl) rfl
theorem q354 : (Jvm.Cond.methodLink "ConceptLatticeLaw" (96 : Nat) ({ cls := "ConceptLatticeModel", name := "generatorSize", desc := "(I)I" } : Jvm.MethodName)) ∈ lw_all := lw_g (lw_at lw_m2 88 rfl) rfl
theorem q362 : (Jvm.Cond.methodLink "ConceptLatticeLaw" (100 : Nat) ({ cls := "ConceptLatticeModel", name := "dispensable", desc := "(I)I" } : Jvm.MethodName)) ∈ lw_all := lw_g (lw_at lw_m2 96 rfl) rfl
end
section
/-! ConceptLattice -/
set_option maxRecDepth 100000
def RX1 : String := "ConceptLattice"
def TX1 : u_T := fun k => match k with
  | 0 => ("ConceptLattice", "rows", "[I", true)
  | 1 => ("ConceptLattice", "columns", "[I", true)
  | 2 => ("ConceptLattice", "closed", "[I", true)
  | 3 => ("ConceptLattice", "pseudo", "[I", true)
  | 4 => ("ConceptLattice", "pseudoEnd", "[I", true)
  | 5 => ("ConceptLattice", "level", "[I", true)
  | 6 => ("ConceptLattice", "n", "I", false)
  | 7 => ("ConceptLattice", "m", "I", false)
  | 8 => ("ConceptLattice", "closedCount", "I", false)
  | 9 => ("ConceptLattice", "pseudoCount", "I", false)
  | _ => ("ConceptLattice", "current", "Z", false)
def tyX1 : Nat → FieldType := fun k => match k with
  | 0 => .array .int
  | 1 => .array .int
  | 2 => .array .int
  | 3 => .array .int
  | 4 => .array .int
  | 5 => .array .int
  | 6 => .int
  | 7 => .int
  | 8 => .int
  | 9 => .int
  | _ => .boolean
abbrev wsX10 : List Cond := u_ws RX1 TX1 11
theorem nmX1 : ∀ a, a < 11 → ∀ b, b < 11 → a ≠ b → (TX1 a).2.1 ≠ (TX1 b).2.1 := by decide +kernel
theorem tyX1_ok : ∀ k, k < 11 → parseFieldDescriptor (TX1 k).2.2.1 = some (tyX1 k) := by decide +kernel
abbrev cX1_init : ByteArray := prog_1_method_1_code
def yX1_init : MethodName := ⟨RX1, "<init>", "(II)V"⟩
theorem dX1_init_0 : decode cX1_init 0 = .ok (.aload_n 0, 1) := by decide +kernel
theorem dX1_init_1 : decode cX1_init 1 = .ok (.invokespecial 1, 3) := by decide +kernel
theorem dX1_init_4 : decode cX1_init 4 = .ok (.aload_n 0, 1) := by decide +kernel
theorem dX1_init_5 : decode cX1_init 5 = .ok (.bipush 8, 2) := by decide +kernel
theorem dX1_init_7 : decode cX1_init 7 = .ok (.newarray .int, 2) := by decide +kernel
theorem dX1_init_9 : decode cX1_init 9 = .ok (.putfield 7, 3) := by decide +kernel
theorem dX1_init_12 : decode cX1_init 12 = .ok (.aload_n 0, 1) := by decide +kernel
theorem dX1_init_13 : decode cX1_init 13 = .ok (.bipush 7, 2) := by decide +kernel
theorem dX1_init_15 : decode cX1_init 15 = .ok (.newarray .int, 2) := by decide +kernel
theorem dX1_init_17 : decode cX1_init 17 = .ok (.putfield 13, 3) := by decide +kernel
theorem dX1_init_20 : decode cX1_init 20 = .ok (.aload_n 0, 1) := by decide +kernel
theorem dX1_init_21 : decode cX1_init 21 = .ok (.sipush 128, 3) := by decide +kernel
theorem dX1_init_24 : decode cX1_init 24 = .ok (.newarray .int, 2) := by decide +kernel
theorem dX1_init_26 : decode cX1_init 26 = .ok (.putfield 16, 3) := by decide +kernel
theorem dX1_init_29 : decode cX1_init 29 = .ok (.aload_n 0, 1) := by decide +kernel
theorem dX1_init_30 : decode cX1_init 30 = .ok (.sipush 128, 3) := by decide +kernel
theorem dX1_init_33 : decode cX1_init 33 = .ok (.newarray .int, 2) := by decide +kernel
theorem dX1_init_35 : decode cX1_init 35 = .ok (.putfield 19, 3) := by decide +kernel
theorem dX1_init_38 : decode cX1_init 38 = .ok (.aload_n 0, 1) := by decide +kernel
theorem dX1_init_39 : decode cX1_init 39 = .ok (.sipush 128, 3) := by decide +kernel
theorem dX1_init_42 : decode cX1_init 42 = .ok (.newarray .int, 2) := by decide +kernel
theorem dX1_init_44 : decode cX1_init 44 = .ok (.putfield 22, 3) := by decide +kernel
theorem dX1_init_47 : decode cX1_init 47 = .ok (.aload_n 0, 1) := by decide +kernel
theorem dX1_init_48 : decode cX1_init 48 = .ok (.sipush 128, 3) := by decide +kernel
theorem dX1_init_51 : decode cX1_init 51 = .ok (.newarray .int, 2) := by decide +kernel
theorem dX1_init_53 : decode cX1_init 53 = .ok (.putfield 25, 3) := by decide +kernel
theorem dX1_init_56 : decode cX1_init 56 = .ok (.aload_n 0, 1) := by decide +kernel
theorem dX1_init_57 : decode cX1_init 57 = .ok (.iload_n 1, 1) := by decide +kernel
theorem dX1_init_58 : decode cX1_init 58 = .ok (.iconst 1, 1) := by decide +kernel
theorem dX1_init_59 : decode cX1_init 59 = .ok (.if_icmp .ge 7, 3) := by decide +kernel
theorem dX1_init_62 : decode cX1_init 62 = .ok (.iconst 1, 1) := by decide +kernel
theorem dX1_init_63 : decode cX1_init 63 = .ok (.goto 4, 3) := by decide +kernel
theorem dX1_init_66 : decode cX1_init 66 = .ok (.iload_n 1, 1) := by decide +kernel
theorem dX1_init_67 : decode cX1_init 67 = .ok (.putfield 28, 3) := by decide +kernel
theorem dX1_init_70 : decode cX1_init 70 = .ok (.aload_n 0, 1) := by decide +kernel
theorem dX1_init_71 : decode cX1_init 71 = .ok (.getfield 28, 3) := by decide +kernel
theorem dX1_init_74 : decode cX1_init 74 = .ok (.bipush 8, 2) := by decide +kernel
theorem dX1_init_76 : decode cX1_init 76 = .ok (.if_icmp .le 9, 3) := by decide +kernel
theorem dX1_init_79 : decode cX1_init 79 = .ok (.aload_n 0, 1) := by decide +kernel
theorem dX1_init_80 : decode cX1_init 80 = .ok (.bipush 8, 2) := by decide +kernel
theorem dX1_init_82 : decode cX1_init 82 = .ok (.putfield 28, 3) := by decide +kernel
theorem dX1_init_85 : decode cX1_init 85 = .ok (.aload_n 0, 1) := by decide +kernel
theorem dX1_init_86 : decode cX1_init 86 = .ok (.iload_n 2, 1) := by decide +kernel
theorem dX1_init_87 : decode cX1_init 87 = .ok (.iconst 2, 1) := by decide +kernel
theorem dX1_init_88 : decode cX1_init 88 = .ok (.if_icmp .ge 7, 3) := by decide +kernel
theorem dX1_init_91 : decode cX1_init 91 = .ok (.iconst 2, 1) := by decide +kernel
theorem dX1_init_92 : decode cX1_init 92 = .ok (.goto 4, 3) := by decide +kernel
theorem dX1_init_95 : decode cX1_init 95 = .ok (.iload_n 2, 1) := by decide +kernel
theorem dX1_init_96 : decode cX1_init 96 = .ok (.putfield 32, 3) := by decide +kernel
theorem dX1_init_99 : decode cX1_init 99 = .ok (.aload_n 0, 1) := by decide +kernel
theorem dX1_init_100 : decode cX1_init 100 = .ok (.getfield 32, 3) := by decide +kernel
theorem dX1_init_103 : decode cX1_init 103 = .ok (.bipush 7, 2) := by decide +kernel
theorem dX1_init_105 : decode cX1_init 105 = .ok (.if_icmp .le 9, 3) := by decide +kernel
theorem dX1_init_108 : decode cX1_init 108 = .ok (.aload_n 0, 1) := by decide +kernel
theorem dX1_init_109 : decode cX1_init 109 = .ok (.bipush 7, 2) := by decide +kernel
theorem dX1_init_111 : decode cX1_init 111 = .ok (.putfield 32, 3) := by decide +kernel
theorem dX1_init_114 : decode cX1_init 114 = .ok (.return_, 1) := by decide +kernel
abbrev cX1_objects : ByteArray := prog_1_method_2_code
def yX1_objects : MethodName := ⟨RX1, "objects", "()I"⟩
theorem dX1_objects_0 : decode cX1_objects 0 = .ok (.aload_n 0, 1) := by decide +kernel
theorem dX1_objects_1 : decode cX1_objects 1 = .ok (.getfield 28, 3) := by decide +kernel
theorem dX1_objects_4 : decode cX1_objects 4 = .ok (.ireturn, 1) := by decide +kernel
abbrev cX1_attributes : ByteArray := prog_1_method_3_code
def yX1_attributes : MethodName := ⟨RX1, "attributes", "()I"⟩
theorem dX1_attributes_0 : decode cX1_attributes 0 = .ok (.aload_n 0, 1) := by decide +kernel
theorem dX1_attributes_1 : decode cX1_attributes 1 = .ok (.getfield 32, 3) := by decide +kernel
theorem dX1_attributes_4 : decode cX1_attributes 4 = .ok (.ireturn, 1) := by decide +kernel
abbrev cX1_cross : ByteArray := prog_1_method_4_code
def yX1_cross : MethodName := ⟨RX1, "cross", "(III)I"⟩
theorem dX1_cross_0 : decode cX1_cross 0 = .ok (.aload_n 0, 1) := by decide +kernel
theorem dX1_cross_1 : decode cX1_cross 1 = .ok (.iload_n 1, 1) := by decide +kernel
theorem dX1_cross_2 : decode cX1_cross 2 = .ok (.invokevirtual 35, 3) := by decide +kernel
theorem dX1_cross_5 : decode cX1_cross 5 = .ok (.ifCond .ne 5, 3) := by decide +kernel
theorem dX1_cross_8 : decode cX1_cross 8 = .ok (.iconst (-1), 1) := by decide +kernel
theorem dX1_cross_9 : decode cX1_cross 9 = .ok (.ireturn, 1) := by decide +kernel
theorem dX1_cross_10 : decode cX1_cross 10 = .ok (.aload_n 0, 1) := by decide +kernel
theorem dX1_cross_11 : decode cX1_cross 11 = .ok (.iload_n 2, 1) := by decide +kernel
theorem dX1_cross_12 : decode cX1_cross 12 = .ok (.invokevirtual 39, 3) := by decide +kernel
theorem dX1_cross_15 : decode cX1_cross 15 = .ok (.ifCond .ne 6, 3) := by decide +kernel
theorem dX1_cross_18 : decode cX1_cross 18 = .ok (.bipush (-2), 2) := by decide +kernel
theorem dX1_cross_20 : decode cX1_cross 20 = .ok (.ireturn, 1) := by decide +kernel
theorem dX1_cross_21 : decode cX1_cross 21 = .ok (.aload_n 0, 1) := by decide +kernel
theorem dX1_cross_22 : decode cX1_cross 22 = .ok (.getfield 7, 3) := by decide +kernel
theorem dX1_cross_25 : decode cX1_cross 25 = .ok (.iload_n 1, 1) := by decide +kernel
theorem dX1_cross_26 : decode cX1_cross 26 = .ok (.iaload, 1) := by decide +kernel
theorem dX1_cross_27 : decode cX1_cross 27 = .ok (.iload_n 2, 1) := by decide +kernel
theorem dX1_cross_28 : decode cX1_cross 28 = .ok (.ishr, 1) := by decide +kernel
theorem dX1_cross_29 : decode cX1_cross 29 = .ok (.iconst 1, 1) := by decide +kernel
theorem dX1_cross_30 : decode cX1_cross 30 = .ok (.iand, 1) := by decide +kernel
theorem dX1_cross_31 : decode cX1_cross 31 = .ok (.istore 4, 2) := by decide +kernel
theorem dX1_cross_33 : decode cX1_cross 33 = .ok (.iconst 1, 1) := by decide +kernel
theorem dX1_cross_34 : decode cX1_cross 34 = .ok (.iload_n 2, 1) := by decide +kernel
theorem dX1_cross_35 : decode cX1_cross 35 = .ok (.ishl, 1) := by decide +kernel
theorem dX1_cross_36 : decode cX1_cross 36 = .ok (.istore 5, 2) := by decide +kernel
theorem dX1_cross_38 : decode cX1_cross 38 = .ok (.aload_n 0, 1) := by decide +kernel
theorem dX1_cross_39 : decode cX1_cross 39 = .ok (.iload_n 1, 1) := by decide +kernel
theorem dX1_cross_40 : decode cX1_cross 40 = .ok (.iload_n 3, 1) := by decide +kernel
theorem dX1_cross_41 : decode cX1_cross 41 = .ok (.ifCond .eq 15, 3) := by decide +kernel
theorem dX1_cross_44 : decode cX1_cross 44 = .ok (.aload_n 0, 1) := by decide +kernel
theorem dX1_cross_45 : decode cX1_cross 45 = .ok (.getfield 7, 3) := by decide +kernel
theorem dX1_cross_48 : decode cX1_cross 48 = .ok (.iload_n 1, 1) := by decide +kernel
theorem dX1_cross_49 : decode cX1_cross 49 = .ok (.iaload, 1) := by decide +kernel
theorem dX1_cross_50 : decode cX1_cross 50 = .ok (.iload 5, 2) := by decide +kernel
theorem dX1_cross_52 : decode cX1_cross 52 = .ok (.ior, 1) := by decide +kernel
theorem dX1_cross_53 : decode cX1_cross 53 = .ok (.goto 14, 3) := by decide +kernel
theorem dX1_cross_56 : decode cX1_cross 56 = .ok (.aload_n 0, 1) := by decide +kernel
theorem dX1_cross_57 : decode cX1_cross 57 = .ok (.getfield 7, 3) := by decide +kernel
theorem dX1_cross_60 : decode cX1_cross 60 = .ok (.iload_n 1, 1) := by decide +kernel
theorem dX1_cross_61 : decode cX1_cross 61 = .ok (.iaload, 1) := by decide +kernel
theorem dX1_cross_62 : decode cX1_cross 62 = .ok (.iload 5, 2) := by decide +kernel
theorem dX1_cross_64 : decode cX1_cross 64 = .ok (.iconst (-1), 1) := by decide +kernel
theorem dX1_cross_65 : decode cX1_cross 65 = .ok (.ixor, 1) := by decide +kernel
theorem dX1_cross_66 : decode cX1_cross 66 = .ok (.iand, 1) := by decide +kernel
theorem dX1_cross_67 : decode cX1_cross 67 = .ok (.invokevirtual 42, 3) := by decide +kernel
theorem dX1_cross_70 : decode cX1_cross 70 = .ok (.iload 4, 2) := by decide +kernel
theorem dX1_cross_72 : decode cX1_cross 72 = .ok (.ireturn, 1) := by decide +kernel
abbrev cX1_isObject : ByteArray := prog_1_method_21_code
def yX1_isObject : MethodName := ⟨RX1, "isObject", "(I)Z"⟩
theorem dX1_isObject_0 : decode cX1_isObject 0 = .ok (.iload_n 1, 1) := by decide +kernel
theorem dX1_isObject_1 : decode cX1_isObject 1 = .ok (.ifCond .lt 15, 3) := by decide +kernel
theorem dX1_isObject_4 : decode cX1_isObject 4 = .ok (.iload_n 1, 1) := by decide +kernel
theorem dX1_isObject_5 : decode cX1_isObject 5 = .ok (.aload_n 0, 1) := by decide +kernel
theorem dX1_isObject_6 : decode cX1_isObject 6 = .ok (.getfield 28, 3) := by decide +kernel
theorem dX1_isObject_9 : decode cX1_isObject 9 = .ok (.if_icmp .ge 7, 3) := by decide +kernel
theorem dX1_isObject_12 : decode cX1_isObject 12 = .ok (.iconst 1, 1) := by decide +kernel
theorem dX1_isObject_13 : decode cX1_isObject 13 = .ok (.goto 4, 3) := by decide +kernel
theorem dX1_isObject_16 : decode cX1_isObject 16 = .ok (.iconst 0, 1) := by decide +kernel
theorem dX1_isObject_17 : decode cX1_isObject 17 = .ok (.ireturn, 1) := by decide +kernel
abbrev cX1_isAttribute : ByteArray := prog_1_method_22_code
def yX1_isAttribute : MethodName := ⟨RX1, "isAttribute", "(I)Z"⟩
theorem dX1_isAttribute_0 : decode cX1_isAttribute 0 = .ok (.iload_n 1, 1) := by decide +kernel
theorem dX1_isAttribute_1 : decode cX1_isAttribute 1 = .ok (.ifCond .lt 15, 3) := by decide +kernel
theorem dX1_isAttribute_4 : decode cX1_isAttribute 4 = .ok (.iload_n 1, 1) := by decide +kernel
theorem dX1_isAttribute_5 : decode cX1_isAttribute 5 = .ok (.aload_n 0, 1) := by decide +kernel
theorem dX1_isAttribute_6 : decode cX1_isAttribute 6 = .ok (.getfield 32, 3) := by decide +kernel
theorem dX1_isAttribute_9 : decode cX1_isAttribute 9 = .ok (.if_icmp .ge 7, 3) := by decide +kernel
theorem dX1_isAttribute_12 : decode cX1_isAttribute 12 = .ok (.iconst 1, 1) := by decide +kernel
theorem dX1_isAttribute_13 : decode cX1_isAttribute 13 = .ok (.goto 4, 3) := by decide +kernel
theorem dX1_isAttribute_16 : decode cX1_isAttribute 16 = .ok (.iconst 0, 1) := by decide +kernel
theorem dX1_isAttribute_17 : decode cX1_isAttribute 17 = .ok (.ireturn, 1) := by decide +kernel
abbrev cX1_setRow : ByteArray := prog_1_method_25_code
def yX1_setRow : MethodName := ⟨RX1, "setRow", "(II)V"⟩
theorem dX1_setRow_0 : decode cX1_setRow 0 = .ok (.aload_n 0, 1) := by decide +kernel
theorem dX1_setRow_1 : decode cX1_setRow 1 = .ok (.getfield 7, 3) := by decide +kernel
theorem dX1_setRow_4 : decode cX1_setRow 4 = .ok (.iload_n 1, 1) := by decide +kernel
theorem dX1_setRow_5 : decode cX1_setRow 5 = .ok (.iload_n 2, 1) := by decide +kernel
theorem dX1_setRow_6 : decode cX1_setRow 6 = .ok (.iastore, 1) := by decide +kernel
theorem dX1_setRow_7 : decode cX1_setRow 7 = .ok (.iconst 0, 1) := by decide +kernel
theorem dX1_setRow_8 : decode cX1_setRow 8 = .ok (.istore_n 3, 1) := by decide +kernel
theorem dX1_setRow_9 : decode cX1_setRow 9 = .ok (.iload_n 3, 1) := by decide +kernel
theorem dX1_setRow_10 : decode cX1_setRow 10 = .ok (.aload_n 0, 1) := by decide +kernel
theorem dX1_setRow_11 : decode cX1_setRow 11 = .ok (.getfield 32, 3) := by decide +kernel
theorem dX1_setRow_14 : decode cX1_setRow 14 = .ok (.if_icmp .ge 52, 3) := by decide +kernel
theorem dX1_setRow_17 : decode cX1_setRow 17 = .ok (.iconst 1, 1) := by decide +kernel
theorem dX1_setRow_18 : decode cX1_setRow 18 = .ok (.iload_n 1, 1) := by decide +kernel
theorem dX1_setRow_19 : decode cX1_setRow 19 = .ok (.ishl, 1) := by decide +kernel
theorem dX1_setRow_20 : decode cX1_setRow 20 = .ok (.istore 4, 2) := by decide +kernel
theorem dX1_setRow_22 : decode cX1_setRow 22 = .ok (.aload_n 0, 1) := by decide +kernel
theorem dX1_setRow_23 : decode cX1_setRow 23 = .ok (.getfield 13, 3) := by decide +kernel
theorem dX1_setRow_26 : decode cX1_setRow 26 = .ok (.iload_n 3, 1) := by decide +kernel
theorem dX1_setRow_27 : decode cX1_setRow 27 = .ok (.iload_n 2, 1) := by decide +kernel
theorem dX1_setRow_28 : decode cX1_setRow 28 = .ok (.iload_n 3, 1) := by decide +kernel
theorem dX1_setRow_29 : decode cX1_setRow 29 = .ok (.ishr, 1) := by decide +kernel
theorem dX1_setRow_30 : decode cX1_setRow 30 = .ok (.iconst 1, 1) := by decide +kernel
theorem dX1_setRow_31 : decode cX1_setRow 31 = .ok (.iand, 1) := by decide +kernel
theorem dX1_setRow_32 : decode cX1_setRow 32 = .ok (.iconst 1, 1) := by decide +kernel
theorem dX1_setRow_33 : decode cX1_setRow 33 = .ok (.if_icmp .ne 15, 3) := by decide +kernel
theorem dX1_setRow_36 : decode cX1_setRow 36 = .ok (.aload_n 0, 1) := by decide +kernel
theorem dX1_setRow_37 : decode cX1_setRow 37 = .ok (.getfield 13, 3) := by decide +kernel
theorem dX1_setRow_40 : decode cX1_setRow 40 = .ok (.iload_n 3, 1) := by decide +kernel
theorem dX1_setRow_41 : decode cX1_setRow 41 = .ok (.iaload, 1) := by decide +kernel
theorem dX1_setRow_42 : decode cX1_setRow 42 = .ok (.iload 4, 2) := by decide +kernel
theorem dX1_setRow_44 : decode cX1_setRow 44 = .ok (.ior, 1) := by decide +kernel
theorem dX1_setRow_45 : decode cX1_setRow 45 = .ok (.goto 14, 3) := by decide +kernel
theorem dX1_setRow_48 : decode cX1_setRow 48 = .ok (.aload_n 0, 1) := by decide +kernel
theorem dX1_setRow_49 : decode cX1_setRow 49 = .ok (.getfield 13, 3) := by decide +kernel
theorem dX1_setRow_52 : decode cX1_setRow 52 = .ok (.iload_n 3, 1) := by decide +kernel
theorem dX1_setRow_53 : decode cX1_setRow 53 = .ok (.iaload, 1) := by decide +kernel
theorem dX1_setRow_54 : decode cX1_setRow 54 = .ok (.iload 4, 2) := by decide +kernel
theorem dX1_setRow_56 : decode cX1_setRow 56 = .ok (.iconst (-1), 1) := by decide +kernel
theorem dX1_setRow_57 : decode cX1_setRow 57 = .ok (.ixor, 1) := by decide +kernel
theorem dX1_setRow_58 : decode cX1_setRow 58 = .ok (.iand, 1) := by decide +kernel
theorem dX1_setRow_59 : decode cX1_setRow 59 = .ok (.iastore, 1) := by decide +kernel
theorem dX1_setRow_60 : decode cX1_setRow 60 = .ok (.iinc 3 1, 3) := by decide +kernel
theorem dX1_setRow_63 : decode cX1_setRow 63 = .ok (.goto (-54), 3) := by decide +kernel
theorem dX1_setRow_66 : decode cX1_setRow 66 = .ok (.aload_n 0, 1) := by decide +kernel
theorem dX1_setRow_67 : decode cX1_setRow 67 = .ok (.iconst 0, 1) := by decide +kernel
theorem dX1_setRow_68 : decode cX1_setRow 68 = .ok (.putfield 76, 3) := by decide +kernel
theorem dX1_setRow_71 : decode cX1_setRow 71 = .ok (.return_, 1) := by decide +kernel
abbrev cX1_row : ByteArray := prog_1_method_5_code
def yX1_row : MethodName := ⟨RX1, "row", "(II)I"⟩
theorem dX1_row_0 : decode cX1_row 0 = .ok (.aload_n 0, 1) := by decide +kernel
theorem dX1_row_1 : decode cX1_row 1 = .ok (.iload_n 1, 1) := by decide +kernel
theorem dX1_row_2 : decode cX1_row 2 = .ok (.invokevirtual 35, 3) := by decide +kernel
theorem dX1_row_5 : decode cX1_row 5 = .ok (.ifCond .ne 5, 3) := by decide +kernel
theorem dX1_row_8 : decode cX1_row 8 = .ok (.iconst (-1), 1) := by decide +kernel
theorem dX1_row_9 : decode cX1_row 9 = .ok (.ireturn, 1) := by decide +kernel
theorem dX1_row_10 : decode cX1_row 10 = .ok (.aload_n 0, 1) := by decide +kernel
theorem dX1_row_11 : decode cX1_row 11 = .ok (.iload_n 2, 1) := by decide +kernel
theorem dX1_row_12 : decode cX1_row 12 = .ok (.invokevirtual 46, 3) := by decide +kernel
theorem dX1_row_15 : decode cX1_row 15 = .ok (.ifCond .ne 6, 3) := by decide +kernel
theorem dX1_row_18 : decode cX1_row 18 = .ok (.bipush (-2), 2) := by decide +kernel
theorem dX1_row_20 : decode cX1_row 20 = .ok (.ireturn, 1) := by decide +kernel
theorem dX1_row_21 : decode cX1_row 21 = .ok (.aload_n 0, 1) := by decide +kernel
theorem dX1_row_22 : decode cX1_row 22 = .ok (.getfield 7, 3) := by decide +kernel
theorem dX1_row_25 : decode cX1_row 25 = .ok (.iload_n 1, 1) := by decide +kernel
theorem dX1_row_26 : decode cX1_row 26 = .ok (.iaload, 1) := by decide +kernel
theorem dX1_row_27 : decode cX1_row 27 = .ok (.istore_n 3, 1) := by decide +kernel
theorem dX1_row_28 : decode cX1_row 28 = .ok (.aload_n 0, 1) := by decide +kernel
theorem dX1_row_29 : decode cX1_row 29 = .ok (.iload_n 1, 1) := by decide +kernel
theorem dX1_row_30 : decode cX1_row 30 = .ok (.iload_n 2, 1) := by decide +kernel
theorem dX1_row_31 : decode cX1_row 31 = .ok (.invokevirtual 42, 3) := by decide +kernel
theorem dX1_row_34 : decode cX1_row 34 = .ok (.iload_n 3, 1) := by decide +kernel
theorem dX1_row_35 : decode cX1_row 35 = .ok (.ireturn, 1) := by decide +kernel
abbrev cX1_isSet : ByteArray := prog_1_method_23_code
def yX1_isSet : MethodName := ⟨RX1, "isSet", "(I)Z"⟩
theorem dX1_isSet_0 : decode cX1_isSet 0 = .ok (.iload_n 1, 1) := by decide +kernel
theorem dX1_isSet_1 : decode cX1_isSet 1 = .ok (.ifCond .lt 17, 3) := by decide +kernel
theorem dX1_isSet_4 : decode cX1_isSet 4 = .ok (.iload_n 1, 1) := by decide +kernel
theorem dX1_isSet_5 : decode cX1_isSet 5 = .ok (.iconst 1, 1) := by decide +kernel
theorem dX1_isSet_6 : decode cX1_isSet 6 = .ok (.aload_n 0, 1) := by decide +kernel
theorem dX1_isSet_7 : decode cX1_isSet 7 = .ok (.getfield 32, 3) := by decide +kernel
theorem dX1_isSet_10 : decode cX1_isSet 10 = .ok (.ishl, 1) := by decide +kernel
theorem dX1_isSet_11 : decode cX1_isSet 11 = .ok (.if_icmp .ge 7, 3) := by decide +kernel
theorem dX1_isSet_14 : decode cX1_isSet 14 = .ok (.iconst 1, 1) := by decide +kernel
theorem dX1_isSet_15 : decode cX1_isSet 15 = .ok (.goto 4, 3) := by decide +kernel
theorem dX1_isSet_18 : decode cX1_isSet 18 = .ok (.iconst 0, 1) := by decide +kernel
theorem dX1_isSet_19 : decode cX1_isSet 19 = .ok (.ireturn, 1) := by decide +kernel
abbrev cX1_rowOf : ByteArray := prog_1_method_6_code
def yX1_rowOf : MethodName := ⟨RX1, "rowOf", "(I)I"⟩
theorem dX1_rowOf_0 : decode cX1_rowOf 0 = .ok (.aload_n 0, 1) := by decide +kernel
theorem dX1_rowOf_1 : decode cX1_rowOf 1 = .ok (.iload_n 1, 1) := by decide +kernel
theorem dX1_rowOf_2 : decode cX1_rowOf 2 = .ok (.invokevirtual 35, 3) := by decide +kernel
theorem dX1_rowOf_5 : decode cX1_rowOf 5 = .ok (.ifCond .eq 12, 3) := by decide +kernel
theorem dX1_rowOf_8 : decode cX1_rowOf 8 = .ok (.aload_n 0, 1) := by decide +kernel
theorem dX1_rowOf_9 : decode cX1_rowOf 9 = .ok (.getfield 7, 3) := by decide +kernel
theorem dX1_rowOf_12 : decode cX1_rowOf 12 = .ok (.iload_n 1, 1) := by decide +kernel
theorem dX1_rowOf_13 : decode cX1_rowOf 13 = .ok (.iaload, 1) := by decide +kernel
theorem dX1_rowOf_14 : decode cX1_rowOf 14 = .ok (.goto 4, 3) := by decide +kernel
theorem dX1_rowOf_17 : decode cX1_rowOf 17 = .ok (.iconst (-1), 1) := by decide +kernel
theorem dX1_rowOf_18 : decode cX1_rowOf 18 = .ok (.ireturn, 1) := by decide +kernel
abbrev cX1_extent : ByteArray := prog_1_method_7_code
def yX1_extent : MethodName := ⟨RX1, "extent", "(I)I"⟩
theorem dX1_extent_0 : decode cX1_extent 0 = .ok (.aload_n 0, 1) := by decide +kernel
theorem dX1_extent_1 : decode cX1_extent 1 = .ok (.iload_n 1, 1) := by decide +kernel
theorem dX1_extent_2 : decode cX1_extent 2 = .ok (.invokevirtual 46, 3) := by decide +kernel
theorem dX1_extent_5 : decode cX1_extent 5 = .ok (.ifCond .eq 11, 3) := by decide +kernel
theorem dX1_extent_8 : decode cX1_extent 8 = .ok (.aload_n 0, 1) := by decide +kernel
theorem dX1_extent_9 : decode cX1_extent 9 = .ok (.iload_n 1, 1) := by decide +kernel
theorem dX1_extent_10 : decode cX1_extent 10 = .ok (.invokevirtual 49, 3) := by decide +kernel
theorem dX1_extent_13 : decode cX1_extent 13 = .ok (.goto 4, 3) := by decide +kernel
theorem dX1_extent_16 : decode cX1_extent 16 = .ok (.iconst (-1), 1) := by decide +kernel
theorem dX1_extent_17 : decode cX1_extent 17 = .ok (.ireturn, 1) := by decide +kernel
abbrev cX1_extentOf : ByteArray := prog_1_method_26_code
def yX1_extentOf : MethodName := ⟨RX1, "extentOf", "(I)I"⟩
theorem dX1_extentOf_0 : decode cX1_extentOf 0 = .ok (.iconst 1, 1) := by decide +kernel
theorem dX1_extentOf_1 : decode cX1_extentOf 1 = .ok (.aload_n 0, 1) := by decide +kernel
theorem dX1_extentOf_2 : decode cX1_extentOf 2 = .ok (.getfield 28, 3) := by decide +kernel
theorem dX1_extentOf_5 : decode cX1_extentOf 5 = .ok (.ishl, 1) := by decide +kernel
theorem dX1_extentOf_6 : decode cX1_extentOf 6 = .ok (.iconst 1, 1) := by decide +kernel
theorem dX1_extentOf_7 : decode cX1_extentOf 7 = .ok (.isub, 1) := by decide +kernel
theorem dX1_extentOf_8 : decode cX1_extentOf 8 = .ok (.istore_n 2, 1) := by decide +kernel
theorem dX1_extentOf_9 : decode cX1_extentOf 9 = .ok (.iconst 0, 1) := by decide +kernel
theorem dX1_extentOf_10 : decode cX1_extentOf 10 = .ok (.istore_n 3, 1) := by decide +kernel
theorem dX1_extentOf_11 : decode cX1_extentOf 11 = .ok (.iload_n 3, 1) := by decide +kernel
theorem dX1_extentOf_12 : decode cX1_extentOf 12 = .ok (.aload_n 0, 1) := by decide +kernel
theorem dX1_extentOf_13 : decode cX1_extentOf 13 = .ok (.getfield 32, 3) := by decide +kernel
theorem dX1_extentOf_16 : decode cX1_extentOf 16 = .ok (.if_icmp .ge 27, 3) := by decide +kernel
theorem dX1_extentOf_19 : decode cX1_extentOf 19 = .ok (.iload_n 1, 1) := by decide +kernel
theorem dX1_extentOf_20 : decode cX1_extentOf 20 = .ok (.iload_n 3, 1) := by decide +kernel
theorem dX1_extentOf_21 : decode cX1_extentOf 21 = .ok (.ishr, 1) := by decide +kernel
theorem dX1_extentOf_22 : decode cX1_extentOf 22 = .ok (.iconst 1, 1) := by decide +kernel
theorem dX1_extentOf_23 : decode cX1_extentOf 23 = .ok (.iand, 1) := by decide +kernel
theorem dX1_extentOf_24 : decode cX1_extentOf 24 = .ok (.iconst 1, 1) := by decide +kernel
theorem dX1_extentOf_25 : decode cX1_extentOf 25 = .ok (.if_icmp .ne 12, 3) := by decide +kernel
theorem dX1_extentOf_28 : decode cX1_extentOf 28 = .ok (.iload_n 2, 1) := by decide +kernel
theorem dX1_extentOf_29 : decode cX1_extentOf 29 = .ok (.aload_n 0, 1) := by decide +kernel
theorem dX1_extentOf_30 : decode cX1_extentOf 30 = .ok (.getfield 13, 3) := by decide +kernel
theorem dX1_extentOf_33 : decode cX1_extentOf 33 = .ok (.iload_n 3, 1) := by decide +kernel
theorem dX1_extentOf_34 : decode cX1_extentOf 34 = .ok (.iaload, 1) := by decide +kernel
theorem dX1_extentOf_35 : decode cX1_extentOf 35 = .ok (.iand, 1) := by decide +kernel
theorem dX1_extentOf_36 : decode cX1_extentOf 36 = .ok (.istore_n 2, 1) := by decide +kernel
theorem dX1_extentOf_37 : decode cX1_extentOf 37 = .ok (.iinc 3 1, 3) := by decide +kernel
theorem dX1_extentOf_40 : decode cX1_extentOf 40 = .ok (.goto (-29), 3) := by decide +kernel
theorem dX1_extentOf_43 : decode cX1_extentOf 43 = .ok (.iload_n 2, 1) := by decide +kernel
theorem dX1_extentOf_44 : decode cX1_extentOf 44 = .ok (.ireturn, 1) := by decide +kernel
abbrev cX1_intent : ByteArray := prog_1_method_8_code
def yX1_intent : MethodName := ⟨RX1, "intent", "(I)I"⟩
theorem dX1_intent_0 : decode cX1_intent 0 = .ok (.iload_n 1, 1) := by decide +kernel
theorem dX1_intent_1 : decode cX1_intent 1 = .ok (.ifCond .lt 21, 3) := by decide +kernel
theorem dX1_intent_4 : decode cX1_intent 4 = .ok (.iload_n 1, 1) := by decide +kernel
theorem dX1_intent_5 : decode cX1_intent 5 = .ok (.iconst 1, 1) := by decide +kernel
theorem dX1_intent_6 : decode cX1_intent 6 = .ok (.aload_n 0, 1) := by decide +kernel
theorem dX1_intent_7 : decode cX1_intent 7 = .ok (.getfield 28, 3) := by decide +kernel
theorem dX1_intent_10 : decode cX1_intent 10 = .ok (.ishl, 1) := by decide +kernel
theorem dX1_intent_11 : decode cX1_intent 11 = .ok (.if_icmp .ge 11, 3) := by decide +kernel
theorem dX1_intent_14 : decode cX1_intent 14 = .ok (.aload_n 0, 1) := by decide +kernel
theorem dX1_intent_15 : decode cX1_intent 15 = .ok (.iload_n 1, 1) := by decide +kernel
theorem dX1_intent_16 : decode cX1_intent 16 = .ok (.invokevirtual 53, 3) := by decide +kernel
theorem dX1_intent_19 : decode cX1_intent 19 = .ok (.goto 4, 3) := by decide +kernel
theorem dX1_intent_22 : decode cX1_intent 22 = .ok (.iconst (-1), 1) := by decide +kernel
theorem dX1_intent_23 : decode cX1_intent 23 = .ok (.ireturn, 1) := by decide +kernel
abbrev cX1_intentOf : ByteArray := prog_1_method_27_code
def yX1_intentOf : MethodName := ⟨RX1, "intentOf", "(I)I"⟩
theorem dX1_intentOf_0 : decode cX1_intentOf 0 = .ok (.iconst 1, 1) := by decide +kernel
theorem dX1_intentOf_1 : decode cX1_intentOf 1 = .ok (.aload_n 0, 1) := by decide +kernel
theorem dX1_intentOf_2 : decode cX1_intentOf 2 = .ok (.getfield 32, 3) := by decide +kernel
theorem dX1_intentOf_5 : decode cX1_intentOf 5 = .ok (.ishl, 1) := by decide +kernel
theorem dX1_intentOf_6 : decode cX1_intentOf 6 = .ok (.iconst 1, 1) := by decide +kernel
theorem dX1_intentOf_7 : decode cX1_intentOf 7 = .ok (.isub, 1) := by decide +kernel
theorem dX1_intentOf_8 : decode cX1_intentOf 8 = .ok (.istore_n 2, 1) := by decide +kernel
theorem dX1_intentOf_9 : decode cX1_intentOf 9 = .ok (.iconst 0, 1) := by decide +kernel
theorem dX1_intentOf_10 : decode cX1_intentOf 10 = .ok (.istore_n 3, 1) := by decide +kernel
theorem dX1_intentOf_11 : decode cX1_intentOf 11 = .ok (.iload_n 3, 1) := by decide +kernel
theorem dX1_intentOf_12 : decode cX1_intentOf 12 = .ok (.aload_n 0, 1) := by decide +kernel
theorem dX1_intentOf_13 : decode cX1_intentOf 13 = .ok (.getfield 28, 3) := by decide +kernel
theorem dX1_intentOf_16 : decode cX1_intentOf 16 = .ok (.if_icmp .ge 27, 3) := by decide +kernel
theorem dX1_intentOf_19 : decode cX1_intentOf 19 = .ok (.iload_n 1, 1) := by decide +kernel
theorem dX1_intentOf_20 : decode cX1_intentOf 20 = .ok (.iload_n 3, 1) := by decide +kernel
theorem dX1_intentOf_21 : decode cX1_intentOf 21 = .ok (.ishr, 1) := by decide +kernel
theorem dX1_intentOf_22 : decode cX1_intentOf 22 = .ok (.iconst 1, 1) := by decide +kernel
theorem dX1_intentOf_23 : decode cX1_intentOf 23 = .ok (.iand, 1) := by decide +kernel
theorem dX1_intentOf_24 : decode cX1_intentOf 24 = .ok (.iconst 1, 1) := by decide +kernel
theorem dX1_intentOf_25 : decode cX1_intentOf 25 = .ok (.if_icmp .ne 12, 3) := by decide +kernel
theorem dX1_intentOf_28 : decode cX1_intentOf 28 = .ok (.iload_n 2, 1) := by decide +kernel
theorem dX1_intentOf_29 : decode cX1_intentOf 29 = .ok (.aload_n 0, 1) := by decide +kernel
theorem dX1_intentOf_30 : decode cX1_intentOf 30 = .ok (.getfield 7, 3) := by decide +kernel
theorem dX1_intentOf_33 : decode cX1_intentOf 33 = .ok (.iload_n 3, 1) := by decide +kernel
theorem dX1_intentOf_34 : decode cX1_intentOf 34 = .ok (.iaload, 1) := by decide +kernel
theorem dX1_intentOf_35 : decode cX1_intentOf 35 = .ok (.iand, 1) := by decide +kernel
theorem dX1_intentOf_36 : decode cX1_intentOf 36 = .ok (.istore_n 2, 1) := by decide +kernel
theorem dX1_intentOf_37 : decode cX1_intentOf 37 = .ok (.iinc 3 1, 3) := by decide +kernel
theorem dX1_intentOf_40 : decode cX1_intentOf 40 = .ok (.goto (-29), 3) := by decide +kernel
theorem dX1_intentOf_43 : decode cX1_intentOf 43 = .ok (.iload_n 2, 1) := by decide +kernel
theorem dX1_intentOf_44 : decode cX1_intentOf 44 = .ok (.ireturn, 1) := by decide +kernel
abbrev cX1_closure : ByteArray := prog_1_method_9_code
def yX1_closure : MethodName := ⟨RX1, "closure", "(I)I"⟩
theorem dX1_closure_0 : decode cX1_closure 0 = .ok (.aload_n 0, 1) := by decide +kernel
theorem dX1_closure_1 : decode cX1_closure 1 = .ok (.iload_n 1, 1) := by decide +kernel
theorem dX1_closure_2 : decode cX1_closure 2 = .ok (.invokevirtual 46, 3) := by decide +kernel
theorem dX1_closure_5 : decode cX1_closure 5 = .ok (.ifCond .eq 11, 3) := by decide +kernel
theorem dX1_closure_8 : decode cX1_closure 8 = .ok (.aload_n 0, 1) := by decide +kernel
theorem dX1_closure_9 : decode cX1_closure 9 = .ok (.iload_n 1, 1) := by decide +kernel
theorem dX1_closure_10 : decode cX1_closure 10 = .ok (.invokevirtual 56, 3) := by decide +kernel
theorem dX1_closure_13 : decode cX1_closure 13 = .ok (.goto 4, 3) := by decide +kernel
theorem dX1_closure_16 : decode cX1_closure 16 = .ok (.iconst (-1), 1) := by decide +kernel
theorem dX1_closure_17 : decode cX1_closure 17 = .ok (.ireturn, 1) := by decide +kernel
abbrev cX1_closed : ByteArray := prog_1_method_28_code
def yX1_closed : MethodName := ⟨RX1, "closed", "(I)I"⟩
theorem dX1_closed_0 : decode cX1_closed 0 = .ok (.aload_n 0, 1) := by decide +kernel
theorem dX1_closed_1 : decode cX1_closed 1 = .ok (.iload_n 1, 1) := by decide +kernel
theorem dX1_closed_2 : decode cX1_closed 2 = .ok (.invokevirtual 49, 3) := by decide +kernel
theorem dX1_closed_5 : decode cX1_closed 5 = .ok (.istore_n 2, 1) := by decide +kernel
theorem dX1_closed_6 : decode cX1_closed 6 = .ok (.aload_n 0, 1) := by decide +kernel
theorem dX1_closed_7 : decode cX1_closed 7 = .ok (.iload_n 2, 1) := by decide +kernel
theorem dX1_closed_8 : decode cX1_closed 8 = .ok (.invokevirtual 53, 3) := by decide +kernel
theorem dX1_closed_11 : decode cX1_closed 11 = .ok (.ireturn, 1) := by decide +kernel
abbrev cX1_closedSets : ByteArray := prog_1_method_10_code
def yX1_closedSets : MethodName := ⟨RX1, "closedSets", "()I"⟩
theorem dX1_closedSets_0 : decode cX1_closedSets 0 = .ok (.aload_n 0, 1) := by decide +kernel
theorem dX1_closedSets_1 : decode cX1_closedSets 1 = .ok (.invokevirtual 58, 3) := by decide +kernel
theorem dX1_closedSets_4 : decode cX1_closedSets 4 = .ok (.aload_n 0, 1) := by decide +kernel
theorem dX1_closedSets_5 : decode cX1_closedSets 5 = .ok (.getfield 61, 3) := by decide +kernel
theorem dX1_closedSets_8 : decode cX1_closedSets 8 = .ok (.ireturn, 1) := by decide +kernel
end
section
set_option maxRecDepth 100000
abbrev cX1_refresh : ByteArray := prog_1_method_32_code
def yX1_refresh : MethodName := ⟨RX1, "refresh", "()V"⟩
theorem dX1_refresh_0 : decode cX1_refresh 0 = .ok (.aload_n 0, 1) := by decide +kernel
theorem dX1_refresh_1 : decode cX1_refresh 1 = .ok (.getfield 76, 3) := by decide +kernel
theorem dX1_refresh_4 : decode cX1_refresh 4 = .ok (.ifCond .eq 4, 3) := by decide +kernel
theorem dX1_refresh_7 : decode cX1_refresh 7 = .ok (.return_, 1) := by decide +kernel
theorem dX1_refresh_8 : decode cX1_refresh 8 = .ok (.aload_n 0, 1) := by decide +kernel
theorem dX1_refresh_9 : decode cX1_refresh 9 = .ok (.iconst 1, 1) := by decide +kernel
theorem dX1_refresh_10 : decode cX1_refresh 10 = .ok (.putfield 76, 3) := by decide +kernel
theorem dX1_refresh_13 : decode cX1_refresh 13 = .ok (.iconst 1, 1) := by decide +kernel
theorem dX1_refresh_14 : decode cX1_refresh 14 = .ok (.aload_n 0, 1) := by decide +kernel
theorem dX1_refresh_15 : decode cX1_refresh 15 = .ok (.getfield 32, 3) := by decide +kernel
theorem dX1_refresh_18 : decode cX1_refresh 18 = .ok (.ishl, 1) := by decide +kernel
theorem dX1_refresh_19 : decode cX1_refresh 19 = .ok (.iconst 1, 1) := by decide +kernel
theorem dX1_refresh_20 : decode cX1_refresh 20 = .ok (.isub, 1) := by decide +kernel
theorem dX1_refresh_21 : decode cX1_refresh 21 = .ok (.istore_n 1, 1) := by decide +kernel
theorem dX1_refresh_22 : decode cX1_refresh 22 = .ok (.aload_n 0, 1) := by decide +kernel
theorem dX1_refresh_23 : decode cX1_refresh 23 = .ok (.iconst 0, 1) := by decide +kernel
theorem dX1_refresh_24 : decode cX1_refresh 24 = .ok (.putfield 61, 3) := by decide +kernel
theorem dX1_refresh_27 : decode cX1_refresh 27 = .ok (.aload_n 0, 1) := by decide +kernel
theorem dX1_refresh_28 : decode cX1_refresh 28 = .ok (.iconst 0, 1) := by decide +kernel
theorem dX1_refresh_29 : decode cX1_refresh 29 = .ok (.invokevirtual 56, 3) := by decide +kernel
theorem dX1_refresh_32 : decode cX1_refresh 32 = .ok (.istore_n 2, 1) := by decide +kernel
theorem dX1_refresh_33 : decode cX1_refresh 33 = .ok (.iconst 0, 1) := by decide +kernel
theorem dX1_refresh_34 : decode cX1_refresh 34 = .ok (.istore_n 3, 1) := by decide +kernel
theorem dX1_refresh_35 : decode cX1_refresh 35 = .ok (.iload_n 3, 1) := by decide +kernel
theorem dX1_refresh_36 : decode cX1_refresh 36 = .ok (.sipush 128, 3) := by decide +kernel
theorem dX1_refresh_39 : decode cX1_refresh 39 = .ok (.if_icmp .ge 43, 3) := by decide +kernel
theorem dX1_refresh_42 : decode cX1_refresh 42 = .ok (.aload_n 0, 1) := by decide +kernel
theorem dX1_refresh_43 : decode cX1_refresh 43 = .ok (.getfield 16, 3) := by decide +kernel
theorem dX1_refresh_46 : decode cX1_refresh 46 = .ok (.aload_n 0, 1) := by decide +kernel
theorem dX1_refresh_47 : decode cX1_refresh 47 = .ok (.getfield 61, 3) := by decide +kernel
theorem dX1_refresh_50 : decode cX1_refresh 50 = .ok (.iload_n 2, 1) := by decide +kernel
theorem dX1_refresh_51 : decode cX1_refresh 51 = .ok (.iastore, 1) := by decide +kernel
theorem dX1_refresh_52 : decode cX1_refresh 52 = .ok (.aload_n 0, 1) := by decide +kernel
theorem dX1_refresh_53 : decode cX1_refresh 53 = .ok (.dup, 1) := by decide +kernel
theorem dX1_refresh_54 : decode cX1_refresh 54 = .ok (.getfield 61, 3) := by decide +kernel
theorem dX1_refresh_57 : decode cX1_refresh 57 = .ok (.iconst 1, 1) := by decide +kernel
theorem dX1_refresh_58 : decode cX1_refresh 58 = .ok (.iadd, 1) := by decide +kernel
theorem dX1_refresh_59 : decode cX1_refresh 59 = .ok (.putfield 61, 3) := by decide +kernel
theorem dX1_refresh_62 : decode cX1_refresh 62 = .ok (.iload_n 2, 1) := by decide +kernel
theorem dX1_refresh_63 : decode cX1_refresh 63 = .ok (.iload_n 1, 1) := by decide +kernel
theorem dX1_refresh_64 : decode cX1_refresh 64 = .ok (.if_icmp .ne 6, 3) := by decide +kernel
theorem dX1_refresh_67 : decode cX1_refresh 67 = .ok (.goto 15, 3) := by decide +kernel
theorem dX1_refresh_70 : decode cX1_refresh 70 = .ok (.aload_n 0, 1) := by decide +kernel
theorem dX1_refresh_71 : decode cX1_refresh 71 = .ok (.iload_n 2, 1) := by decide +kernel
theorem dX1_refresh_72 : decode cX1_refresh 72 = .ok (.invokevirtual 64, 3) := by decide +kernel
theorem dX1_refresh_75 : decode cX1_refresh 75 = .ok (.istore_n 2, 1) := by decide +kernel
theorem dX1_refresh_76 : decode cX1_refresh 76 = .ok (.iinc 3 1, 3) := by decide +kernel
theorem dX1_refresh_79 : decode cX1_refresh 79 = .ok (.goto (-44), 3) := by decide +kernel
theorem dX1_refresh_82 : decode cX1_refresh 82 = .ok (.aload_n 0, 1) := by decide +kernel
theorem dX1_refresh_83 : decode cX1_refresh 83 = .ok (.iconst 0, 1) := by decide +kernel
theorem dX1_refresh_84 : decode cX1_refresh 84 = .ok (.putfield 67, 3) := by decide +kernel
theorem dX1_refresh_87 : decode cX1_refresh 87 = .ok (.iconst 0, 1) := by decide +kernel
theorem dX1_refresh_88 : decode cX1_refresh 88 = .ok (.istore_n 2, 1) := by decide +kernel
theorem dX1_refresh_89 : decode cX1_refresh 89 = .ok (.iconst 0, 1) := by decide +kernel
theorem dX1_refresh_90 : decode cX1_refresh 90 = .ok (.istore_n 3, 1) := by decide +kernel
theorem dX1_refresh_91 : decode cX1_refresh 91 = .ok (.iload_n 3, 1) := by decide +kernel
theorem dX1_refresh_92 : decode cX1_refresh 92 = .ok (.sipush 128, 3) := by decide +kernel
theorem dX1_refresh_95 : decode cX1_refresh 95 = .ok (.if_icmp .ge 67, 3) := by decide +kernel
theorem dX1_refresh_98 : decode cX1_refresh 98 = .ok (.aload_n 0, 1) := by decide +kernel
theorem dX1_refresh_99 : decode cX1_refresh 99 = .ok (.iload_n 2, 1) := by decide +kernel
theorem dX1_refresh_100 : decode cX1_refresh 100 = .ok (.invokevirtual 56, 3) := by decide +kernel
theorem dX1_refresh_103 : decode cX1_refresh 103 = .ok (.istore 4, 2) := by decide +kernel
theorem dX1_refresh_105 : decode cX1_refresh 105 = .ok (.iload 4, 2) := by decide +kernel
theorem dX1_refresh_107 : decode cX1_refresh 107 = .ok (.iload_n 2, 1) := by decide +kernel
theorem dX1_refresh_108 : decode cX1_refresh 108 = .ok (.if_icmp .eq 34, 3) := by decide +kernel
theorem dX1_refresh_111 : decode cX1_refresh 111 = .ok (.aload_n 0, 1) := by decide +kernel
theorem dX1_refresh_112 : decode cX1_refresh 112 = .ok (.getfield 19, 3) := by decide +kernel
theorem dX1_refresh_115 : decode cX1_refresh 115 = .ok (.aload_n 0, 1) := by decide +kernel
theorem dX1_refresh_116 : decode cX1_refresh 116 = .ok (.getfield 67, 3) := by decide +kernel
theorem dX1_refresh_119 : decode cX1_refresh 119 = .ok (.iload_n 2, 1) := by decide +kernel
theorem dX1_refresh_120 : decode cX1_refresh 120 = .ok (.iastore, 1) := by decide +kernel
theorem dX1_refresh_121 : decode cX1_refresh 121 = .ok (.aload_n 0, 1) := by decide +kernel
theorem dX1_refresh_122 : decode cX1_refresh 122 = .ok (.getfield 22, 3) := by decide +kernel
theorem dX1_refresh_125 : decode cX1_refresh 125 = .ok (.aload_n 0, 1) := by decide +kernel
theorem dX1_refresh_126 : decode cX1_refresh 126 = .ok (.getfield 67, 3) := by decide +kernel
theorem dX1_refresh_129 : decode cX1_refresh 129 = .ok (.iload 4, 2) := by decide +kernel
theorem dX1_refresh_131 : decode cX1_refresh 131 = .ok (.iastore, 1) := by decide +kernel
theorem dX1_refresh_132 : decode cX1_refresh 132 = .ok (.aload_n 0, 1) := by decide +kernel
theorem dX1_refresh_133 : decode cX1_refresh 133 = .ok (.dup, 1) := by decide +kernel
theorem dX1_refresh_134 : decode cX1_refresh 134 = .ok (.getfield 67, 3) := by decide +kernel
theorem dX1_refresh_137 : decode cX1_refresh 137 = .ok (.iconst 1, 1) := by decide +kernel
theorem dX1_refresh_138 : decode cX1_refresh 138 = .ok (.iadd, 1) := by decide +kernel
theorem dX1_refresh_139 : decode cX1_refresh 139 = .ok (.putfield 67, 3) := by decide +kernel
theorem dX1_refresh_142 : decode cX1_refresh 142 = .ok (.iload_n 2, 1) := by decide +kernel
theorem dX1_refresh_143 : decode cX1_refresh 143 = .ok (.iload_n 1, 1) := by decide +kernel
theorem dX1_refresh_144 : decode cX1_refresh 144 = .ok (.if_icmp .ne 6, 3) := by decide +kernel
theorem dX1_refresh_147 : decode cX1_refresh 147 = .ok (.goto 15, 3) := by decide +kernel
theorem dX1_refresh_150 : decode cX1_refresh 150 = .ok (.aload_n 0, 1) := by decide +kernel
theorem dX1_refresh_151 : decode cX1_refresh 151 = .ok (.iload_n 2, 1) := by decide +kernel
theorem dX1_refresh_152 : decode cX1_refresh 152 = .ok (.invokevirtual 83, 3) := by decide +kernel
theorem dX1_refresh_155 : decode cX1_refresh 155 = .ok (.istore_n 2, 1) := by decide +kernel
theorem dX1_refresh_156 : decode cX1_refresh 156 = .ok (.iinc 3 1, 3) := by decide +kernel
theorem dX1_refresh_159 : decode cX1_refresh 159 = .ok (.goto (-68), 3) := by decide +kernel
theorem dX1_refresh_162 : decode cX1_refresh 162 = .ok (.return_, 1) := by decide +kernel
abbrev cX1_stepClosed : ByteArray := prog_1_method_29_code
def yX1_stepClosed : MethodName := ⟨RX1, "stepClosed", "(I)I"⟩
theorem dX1_stepClosed_0 : decode cX1_stepClosed 0 = .ok (.iconst 0, 1) := by decide +kernel
theorem dX1_stepClosed_1 : decode cX1_stepClosed 1 = .ok (.istore_n 2, 1) := by decide +kernel
theorem dX1_stepClosed_2 : decode cX1_stepClosed 2 = .ok (.iload_n 2, 1) := by decide +kernel
theorem dX1_stepClosed_3 : decode cX1_stepClosed 3 = .ok (.aload_n 0, 1) := by decide +kernel
theorem dX1_stepClosed_4 : decode cX1_stepClosed 4 = .ok (.getfield 32, 3) := by decide +kernel
theorem dX1_stepClosed_7 : decode cX1_stepClosed 7 = .ok (.if_icmp .ge 58, 3) := by decide +kernel
theorem dX1_stepClosed_10 : decode cX1_stepClosed 10 = .ok (.iconst 1, 1) := by decide +kernel
theorem dX1_stepClosed_11 : decode cX1_stepClosed 11 = .ok (.iload_n 2, 1) := by decide +kernel
theorem dX1_stepClosed_12 : decode cX1_stepClosed 12 = .ok (.ishl, 1) := by decide +kernel
theorem dX1_stepClosed_13 : decode cX1_stepClosed 13 = .ok (.istore_n 3, 1) := by decide +kernel
theorem dX1_stepClosed_14 : decode cX1_stepClosed 14 = .ok (.iload_n 1, 1) := by decide +kernel
theorem dX1_stepClosed_15 : decode cX1_stepClosed 15 = .ok (.iload_n 3, 1) := by decide +kernel
theorem dX1_stepClosed_16 : decode cX1_stepClosed 16 = .ok (.iand, 1) := by decide +kernel
theorem dX1_stepClosed_17 : decode cX1_stepClosed 17 = .ok (.ifCond .ne 42, 3) := by decide +kernel
theorem dX1_stepClosed_20 : decode cX1_stepClosed 20 = .ok (.iload_n 1, 1) := by decide +kernel
theorem dX1_stepClosed_21 : decode cX1_stepClosed 21 = .ok (.iconst 2, 1) := by decide +kernel
theorem dX1_stepClosed_22 : decode cX1_stepClosed 22 = .ok (.iload_n 3, 1) := by decide +kernel
theorem dX1_stepClosed_23 : decode cX1_stepClosed 23 = .ok (.imul, 1) := by decide +kernel
theorem dX1_stepClosed_24 : decode cX1_stepClosed 24 = .ok (.iconst 1, 1) := by decide +kernel
theorem dX1_stepClosed_25 : decode cX1_stepClosed 25 = .ok (.isub, 1) := by decide +kernel
theorem dX1_stepClosed_26 : decode cX1_stepClosed 26 = .ok (.iconst (-1), 1) := by decide +kernel
theorem dX1_stepClosed_27 : decode cX1_stepClosed 27 = .ok (.ixor, 1) := by decide +kernel
theorem dX1_stepClosed_28 : decode cX1_stepClosed 28 = .ok (.iand, 1) := by decide +kernel
theorem dX1_stepClosed_29 : decode cX1_stepClosed 29 = .ok (.istore 4, 2) := by decide +kernel
theorem dX1_stepClosed_31 : decode cX1_stepClosed 31 = .ok (.aload_n 0, 1) := by decide +kernel
theorem dX1_stepClosed_32 : decode cX1_stepClosed 32 = .ok (.iload 4, 2) := by decide +kernel
theorem dX1_stepClosed_34 : decode cX1_stepClosed 34 = .ok (.iload_n 3, 1) := by decide +kernel
theorem dX1_stepClosed_35 : decode cX1_stepClosed 35 = .ok (.ior, 1) := by decide +kernel
theorem dX1_stepClosed_36 : decode cX1_stepClosed 36 = .ok (.invokevirtual 56, 3) := by decide +kernel
theorem dX1_stepClosed_39 : decode cX1_stepClosed 39 = .ok (.istore 5, 2) := by decide +kernel
theorem dX1_stepClosed_41 : decode cX1_stepClosed 41 = .ok (.iload 5, 2) := by decide +kernel
theorem dX1_stepClosed_43 : decode cX1_stepClosed 43 = .ok (.iconst 2, 1) := by decide +kernel
theorem dX1_stepClosed_44 : decode cX1_stepClosed 44 = .ok (.iload_n 3, 1) := by decide +kernel
theorem dX1_stepClosed_45 : decode cX1_stepClosed 45 = .ok (.imul, 1) := by decide +kernel
theorem dX1_stepClosed_46 : decode cX1_stepClosed 46 = .ok (.iconst 1, 1) := by decide +kernel
theorem dX1_stepClosed_47 : decode cX1_stepClosed 47 = .ok (.isub, 1) := by decide +kernel
theorem dX1_stepClosed_48 : decode cX1_stepClosed 48 = .ok (.iconst (-1), 1) := by decide +kernel
theorem dX1_stepClosed_49 : decode cX1_stepClosed 49 = .ok (.ixor, 1) := by decide +kernel
theorem dX1_stepClosed_50 : decode cX1_stepClosed 50 = .ok (.iand, 1) := by decide +kernel
theorem dX1_stepClosed_51 : decode cX1_stepClosed 51 = .ok (.iload 4, 2) := by decide +kernel
theorem dX1_stepClosed_53 : decode cX1_stepClosed 53 = .ok (.if_icmp .ne 6, 3) := by decide +kernel
theorem dX1_stepClosed_56 : decode cX1_stepClosed 56 = .ok (.iload 5, 2) := by decide +kernel
theorem dX1_stepClosed_58 : decode cX1_stepClosed 58 = .ok (.ireturn, 1) := by decide +kernel
theorem dX1_stepClosed_59 : decode cX1_stepClosed 59 = .ok (.iinc 2 1, 3) := by decide +kernel
theorem dX1_stepClosed_62 : decode cX1_stepClosed 62 = .ok (.goto (-60), 3) := by decide +kernel
theorem dX1_stepClosed_65 : decode cX1_stepClosed 65 = .ok (.iconst 1, 1) := by decide +kernel
theorem dX1_stepClosed_66 : decode cX1_stepClosed 66 = .ok (.aload_n 0, 1) := by decide +kernel
theorem dX1_stepClosed_67 : decode cX1_stepClosed 67 = .ok (.getfield 32, 3) := by decide +kernel
theorem dX1_stepClosed_70 : decode cX1_stepClosed 70 = .ok (.ishl, 1) := by decide +kernel
theorem dX1_stepClosed_71 : decode cX1_stepClosed 71 = .ok (.iconst 1, 1) := by decide +kernel
theorem dX1_stepClosed_72 : decode cX1_stepClosed 72 = .ok (.isub, 1) := by decide +kernel
theorem dX1_stepClosed_73 : decode cX1_stepClosed 73 = .ok (.ireturn, 1) := by decide +kernel
abbrev cX1_stepRules : ByteArray := prog_1_method_31_code
def yX1_stepRules : MethodName := ⟨RX1, "stepRules", "(I)I"⟩
theorem dX1_stepRules_0 : decode cX1_stepRules 0 = .ok (.iconst 0, 1) := by decide +kernel
theorem dX1_stepRules_1 : decode cX1_stepRules 1 = .ok (.istore_n 2, 1) := by decide +kernel
theorem dX1_stepRules_2 : decode cX1_stepRules 2 = .ok (.iload_n 2, 1) := by decide +kernel
theorem dX1_stepRules_3 : decode cX1_stepRules 3 = .ok (.aload_n 0, 1) := by decide +kernel
theorem dX1_stepRules_4 : decode cX1_stepRules 4 = .ok (.getfield 32, 3) := by decide +kernel
theorem dX1_stepRules_7 : decode cX1_stepRules 7 = .ok (.if_icmp .ge 58, 3) := by decide +kernel
theorem dX1_stepRules_10 : decode cX1_stepRules 10 = .ok (.iconst 1, 1) := by decide +kernel
theorem dX1_stepRules_11 : decode cX1_stepRules 11 = .ok (.iload_n 2, 1) := by decide +kernel
theorem dX1_stepRules_12 : decode cX1_stepRules 12 = .ok (.ishl, 1) := by decide +kernel
theorem dX1_stepRules_13 : decode cX1_stepRules 13 = .ok (.istore_n 3, 1) := by decide +kernel
theorem dX1_stepRules_14 : decode cX1_stepRules 14 = .ok (.iload_n 1, 1) := by decide +kernel
theorem dX1_stepRules_15 : decode cX1_stepRules 15 = .ok (.iload_n 3, 1) := by decide +kernel
theorem dX1_stepRules_16 : decode cX1_stepRules 16 = .ok (.iand, 1) := by decide +kernel
theorem dX1_stepRules_17 : decode cX1_stepRules 17 = .ok (.ifCond .ne 42, 3) := by decide +kernel
theorem dX1_stepRules_20 : decode cX1_stepRules 20 = .ok (.iload_n 1, 1) := by decide +kernel
theorem dX1_stepRules_21 : decode cX1_stepRules 21 = .ok (.iconst 2, 1) := by decide +kernel
theorem dX1_stepRules_22 : decode cX1_stepRules 22 = .ok (.iload_n 3, 1) := by decide +kernel
theorem dX1_stepRules_23 : decode cX1_stepRules 23 = .ok (.imul, 1) := by decide +kernel
theorem dX1_stepRules_24 : decode cX1_stepRules 24 = .ok (.iconst 1, 1) := by decide +kernel
theorem dX1_stepRules_25 : decode cX1_stepRules 25 = .ok (.isub, 1) := by decide +kernel
theorem dX1_stepRules_26 : decode cX1_stepRules 26 = .ok (.iconst (-1), 1) := by decide +kernel
theorem dX1_stepRules_27 : decode cX1_stepRules 27 = .ok (.ixor, 1) := by decide +kernel
theorem dX1_stepRules_28 : decode cX1_stepRules 28 = .ok (.iand, 1) := by decide +kernel
theorem dX1_stepRules_29 : decode cX1_stepRules 29 = .ok (.istore 4, 2) := by decide +kernel
theorem dX1_stepRules_31 : decode cX1_stepRules 31 = .ok (.aload_n 0, 1) := by decide +kernel
theorem dX1_stepRules_32 : decode cX1_stepRules 32 = .ok (.iload 4, 2) := by decide +kernel
theorem dX1_stepRules_34 : decode cX1_stepRules 34 = .ok (.iload_n 3, 1) := by decide +kernel
theorem dX1_stepRules_35 : decode cX1_stepRules 35 = .ok (.ior, 1) := by decide +kernel
theorem dX1_stepRules_36 : decode cX1_stepRules 36 = .ok (.invokevirtual 80, 3) := by decide +kernel
theorem dX1_stepRules_39 : decode cX1_stepRules 39 = .ok (.istore 5, 2) := by decide +kernel
theorem dX1_stepRules_41 : decode cX1_stepRules 41 = .ok (.iload 5, 2) := by decide +kernel
theorem dX1_stepRules_43 : decode cX1_stepRules 43 = .ok (.iconst 2, 1) := by decide +kernel
theorem dX1_stepRules_44 : decode cX1_stepRules 44 = .ok (.iload_n 3, 1) := by decide +kernel
theorem dX1_stepRules_45 : decode cX1_stepRules 45 = .ok (.imul, 1) := by decide +kernel
theorem dX1_stepRules_46 : decode cX1_stepRules 46 = .ok (.iconst 1, 1) := by decide +kernel
theorem dX1_stepRules_47 : decode cX1_stepRules 47 = .ok (.isub, 1) := by decide +kernel
theorem dX1_stepRules_48 : decode cX1_stepRules 48 = .ok (.iconst (-1), 1) := by decide +kernel
theorem dX1_stepRules_49 : decode cX1_stepRules 49 = .ok (.ixor, 1) := by decide +kernel
theorem dX1_stepRules_50 : decode cX1_stepRules 50 = .ok (.iand, 1) := by decide +kernel
theorem dX1_stepRules_51 : decode cX1_stepRules 51 = .ok (.iload 4, 2) := by decide +kernel
theorem dX1_stepRules_53 : decode cX1_stepRules 53 = .ok (.if_icmp .ne 6, 3) := by decide +kernel
theorem dX1_stepRules_56 : decode cX1_stepRules 56 = .ok (.iload 5, 2) := by decide +kernel
theorem dX1_stepRules_58 : decode cX1_stepRules 58 = .ok (.ireturn, 1) := by decide +kernel
theorem dX1_stepRules_59 : decode cX1_stepRules 59 = .ok (.iinc 2 1, 3) := by decide +kernel
theorem dX1_stepRules_62 : decode cX1_stepRules 62 = .ok (.goto (-60), 3) := by decide +kernel
theorem dX1_stepRules_65 : decode cX1_stepRules 65 = .ok (.iconst 1, 1) := by decide +kernel
theorem dX1_stepRules_66 : decode cX1_stepRules 66 = .ok (.aload_n 0, 1) := by decide +kernel
theorem dX1_stepRules_67 : decode cX1_stepRules 67 = .ok (.getfield 32, 3) := by decide +kernel
theorem dX1_stepRules_70 : decode cX1_stepRules 70 = .ok (.ishl, 1) := by decide +kernel
theorem dX1_stepRules_71 : decode cX1_stepRules 71 = .ok (.iconst 1, 1) := by decide +kernel
theorem dX1_stepRules_72 : decode cX1_stepRules 72 = .ok (.isub, 1) := by decide +kernel
theorem dX1_stepRules_73 : decode cX1_stepRules 73 = .ok (.ireturn, 1) := by decide +kernel
abbrev cX1_underRules : ByteArray := prog_1_method_30_code
def yX1_underRules : MethodName := ⟨RX1, "underRules", "(I)I"⟩
theorem dX1_underRules_0 : decode cX1_underRules 0 = .ok (.iload_n 1, 1) := by decide +kernel
theorem dX1_underRules_1 : decode cX1_underRules 1 = .ok (.istore_n 2, 1) := by decide +kernel
theorem dX1_underRules_2 : decode cX1_underRules 2 = .ok (.iconst 0, 1) := by decide +kernel
theorem dX1_underRules_3 : decode cX1_underRules 3 = .ok (.istore_n 3, 1) := by decide +kernel
theorem dX1_underRules_4 : decode cX1_underRules 4 = .ok (.iload_n 3, 1) := by decide +kernel
theorem dX1_underRules_5 : decode cX1_underRules 5 = .ok (.bipush 8, 2) := by decide +kernel
theorem dX1_underRules_7 : decode cX1_underRules 7 = .ok (.if_icmp .ge 74, 3) := by decide +kernel
theorem dX1_underRules_10 : decode cX1_underRules 10 = .ok (.iload_n 2, 1) := by decide +kernel
theorem dX1_underRules_11 : decode cX1_underRules 11 = .ok (.istore 4, 2) := by decide +kernel
theorem dX1_underRules_13 : decode cX1_underRules 13 = .ok (.iconst 0, 1) := by decide +kernel
theorem dX1_underRules_14 : decode cX1_underRules 14 = .ok (.istore 5, 2) := by decide +kernel
theorem dX1_underRules_16 : decode cX1_underRules 16 = .ok (.iload 5, 2) := by decide +kernel
theorem dX1_underRules_18 : decode cX1_underRules 18 = .ok (.aload_n 0, 1) := by decide +kernel
theorem dX1_underRules_19 : decode cX1_underRules 19 = .ok (.getfield 67, 3) := by decide +kernel
theorem dX1_underRules_22 : decode cX1_underRules 22 = .ok (.if_icmp .ge 44, 3) := by decide +kernel
theorem dX1_underRules_25 : decode cX1_underRules 25 = .ok (.aload_n 0, 1) := by decide +kernel
theorem dX1_underRules_26 : decode cX1_underRules 26 = .ok (.getfield 19, 3) := by decide +kernel
theorem dX1_underRules_29 : decode cX1_underRules 29 = .ok (.iload 5, 2) := by decide +kernel
theorem dX1_underRules_31 : decode cX1_underRules 31 = .ok (.iaload, 1) := by decide +kernel
theorem dX1_underRules_32 : decode cX1_underRules 32 = .ok (.iload_n 2, 1) := by decide +kernel
theorem dX1_underRules_33 : decode cX1_underRules 33 = .ok (.iconst (-1), 1) := by decide +kernel
theorem dX1_underRules_34 : decode cX1_underRules 34 = .ok (.ixor, 1) := by decide +kernel
theorem dX1_underRules_35 : decode cX1_underRules 35 = .ok (.iand, 1) := by decide +kernel
theorem dX1_underRules_36 : decode cX1_underRules 36 = .ok (.ifCond .ne 24, 3) := by decide +kernel
theorem dX1_underRules_39 : decode cX1_underRules 39 = .ok (.aload_n 0, 1) := by decide +kernel
theorem dX1_underRules_40 : decode cX1_underRules 40 = .ok (.getfield 19, 3) := by decide +kernel
theorem dX1_underRules_43 : decode cX1_underRules 43 = .ok (.iload 5, 2) := by decide +kernel
theorem dX1_underRules_45 : decode cX1_underRules 45 = .ok (.iaload, 1) := by decide +kernel
theorem dX1_underRules_46 : decode cX1_underRules 46 = .ok (.iload_n 2, 1) := by decide +kernel
theorem dX1_underRules_47 : decode cX1_underRules 47 = .ok (.if_icmp .eq 13, 3) := by decide +kernel
theorem dX1_underRules_50 : decode cX1_underRules 50 = .ok (.iload_n 2, 1) := by decide +kernel
theorem dX1_underRules_51 : decode cX1_underRules 51 = .ok (.aload_n 0, 1) := by decide +kernel
theorem dX1_underRules_52 : decode cX1_underRules 52 = .ok (.getfield 22, 3) := by decide +kernel
theorem dX1_underRules_55 : decode cX1_underRules 55 = .ok (.iload 5, 2) := by decide +kernel
theorem dX1_underRules_57 : decode cX1_underRules 57 = .ok (.iaload, 1) := by decide +kernel
theorem dX1_underRules_58 : decode cX1_underRules 58 = .ok (.ior, 1) := by decide +kernel
theorem dX1_underRules_59 : decode cX1_underRules 59 = .ok (.istore_n 2, 1) := by decide +kernel
theorem dX1_underRules_60 : decode cX1_underRules 60 = .ok (.iinc 5 1, 3) := by decide +kernel
theorem dX1_underRules_63 : decode cX1_underRules 63 = .ok (.goto (-47), 3) := by decide +kernel
theorem dX1_underRules_66 : decode cX1_underRules 66 = .ok (.iload 4, 2) := by decide +kernel
theorem dX1_underRules_68 : decode cX1_underRules 68 = .ok (.iload_n 2, 1) := by decide +kernel
theorem dX1_underRules_69 : decode cX1_underRules 69 = .ok (.if_icmp .ne 6, 3) := by decide +kernel
theorem dX1_underRules_72 : decode cX1_underRules 72 = .ok (.goto 9, 3) := by decide +kernel
theorem dX1_underRules_75 : decode cX1_underRules 75 = .ok (.iinc 3 1, 3) := by decide +kernel
theorem dX1_underRules_78 : decode cX1_underRules 78 = .ok (.goto (-74), 3) := by decide +kernel
theorem dX1_underRules_81 : decode cX1_underRules 81 = .ok (.iload_n 2, 1) := by decide +kernel
theorem dX1_underRules_82 : decode cX1_underRules 82 = .ok (.ireturn, 1) := by decide +kernel
abbrev cX1_closedSet : ByteArray := prog_1_method_11_code
def yX1_closedSet : MethodName := ⟨RX1, "closedSet", "(I)I"⟩
theorem dX1_closedSet_0 : decode cX1_closedSet 0 = .ok (.aload_n 0, 1) := by decide +kernel
theorem dX1_closedSet_1 : decode cX1_closedSet 1 = .ok (.invokevirtual 58, 3) := by decide +kernel
theorem dX1_closedSet_4 : decode cX1_closedSet 4 = .ok (.iload_n 1, 1) := by decide +kernel
theorem dX1_closedSet_5 : decode cX1_closedSet 5 = .ok (.ifCond .lt 20, 3) := by decide +kernel
theorem dX1_closedSet_8 : decode cX1_closedSet 8 = .ok (.iload_n 1, 1) := by decide +kernel
theorem dX1_closedSet_9 : decode cX1_closedSet 9 = .ok (.aload_n 0, 1) := by decide +kernel
theorem dX1_closedSet_10 : decode cX1_closedSet 10 = .ok (.getfield 61, 3) := by decide +kernel
theorem dX1_closedSet_13 : decode cX1_closedSet 13 = .ok (.if_icmp .ge 12, 3) := by decide +kernel
theorem dX1_closedSet_16 : decode cX1_closedSet 16 = .ok (.aload_n 0, 1) := by decide +kernel
theorem dX1_closedSet_17 : decode cX1_closedSet 17 = .ok (.getfield 16, 3) := by decide +kernel
theorem dX1_closedSet_20 : decode cX1_closedSet 20 = .ok (.iload_n 1, 1) := by decide +kernel
theorem dX1_closedSet_21 : decode cX1_closedSet 21 = .ok (.iaload, 1) := by decide +kernel
theorem dX1_closedSet_22 : decode cX1_closedSet 22 = .ok (.goto 4, 3) := by decide +kernel
theorem dX1_closedSet_25 : decode cX1_closedSet 25 = .ok (.iconst (-1), 1) := by decide +kernel
theorem dX1_closedSet_26 : decode cX1_closedSet 26 = .ok (.ireturn, 1) := by decide +kernel
abbrev cX1_nextClosed : ByteArray := prog_1_method_12_code
def yX1_nextClosed : MethodName := ⟨RX1, "nextClosed", "(I)I"⟩
theorem dX1_nextClosed_0 : decode cX1_nextClosed 0 = .ok (.iconst 1, 1) := by decide +kernel
theorem dX1_nextClosed_1 : decode cX1_nextClosed 1 = .ok (.aload_n 0, 1) := by decide +kernel
theorem dX1_nextClosed_2 : decode cX1_nextClosed 2 = .ok (.getfield 32, 3) := by decide +kernel
theorem dX1_nextClosed_5 : decode cX1_nextClosed 5 = .ok (.ishl, 1) := by decide +kernel
theorem dX1_nextClosed_6 : decode cX1_nextClosed 6 = .ok (.iconst 1, 1) := by decide +kernel
theorem dX1_nextClosed_7 : decode cX1_nextClosed 7 = .ok (.isub, 1) := by decide +kernel
theorem dX1_nextClosed_8 : decode cX1_nextClosed 8 = .ok (.istore_n 2, 1) := by decide +kernel
theorem dX1_nextClosed_9 : decode cX1_nextClosed 9 = .ok (.iload_n 1, 1) := by decide +kernel
theorem dX1_nextClosed_10 : decode cX1_nextClosed 10 = .ok (.iload_n 2, 1) := by decide +kernel
theorem dX1_nextClosed_11 : decode cX1_nextClosed 11 = .ok (.if_icmp .lt 5, 3) := by decide +kernel
theorem dX1_nextClosed_14 : decode cX1_nextClosed 14 = .ok (.iconst (-1), 1) := by decide +kernel
theorem dX1_nextClosed_15 : decode cX1_nextClosed 15 = .ok (.ireturn, 1) := by decide +kernel
theorem dX1_nextClosed_16 : decode cX1_nextClosed 16 = .ok (.iload_n 1, 1) := by decide +kernel
theorem dX1_nextClosed_17 : decode cX1_nextClosed 17 = .ok (.ifCond .ge 11, 3) := by decide +kernel
theorem dX1_nextClosed_20 : decode cX1_nextClosed 20 = .ok (.aload_n 0, 1) := by decide +kernel
theorem dX1_nextClosed_21 : decode cX1_nextClosed 21 = .ok (.iconst 0, 1) := by decide +kernel
theorem dX1_nextClosed_22 : decode cX1_nextClosed 22 = .ok (.invokevirtual 56, 3) := by decide +kernel
theorem dX1_nextClosed_25 : decode cX1_nextClosed 25 = .ok (.goto 8, 3) := by decide +kernel
theorem dX1_nextClosed_28 : decode cX1_nextClosed 28 = .ok (.aload_n 0, 1) := by decide +kernel
theorem dX1_nextClosed_29 : decode cX1_nextClosed 29 = .ok (.iload_n 1, 1) := by decide +kernel
theorem dX1_nextClosed_30 : decode cX1_nextClosed 30 = .ok (.invokevirtual 64, 3) := by decide +kernel
theorem dX1_nextClosed_33 : decode cX1_nextClosed 33 = .ok (.ireturn, 1) := by decide +kernel
abbrev cX1_follows : ByteArray := prog_1_method_13_code
def yX1_follows : MethodName := ⟨RX1, "follows", "(II)I"⟩
theorem dX1_follows_0 : decode cX1_follows 0 = .ok (.aload_n 0, 1) := by decide +kernel
theorem dX1_follows_1 : decode cX1_follows 1 = .ok (.iload_n 1, 1) := by decide +kernel
theorem dX1_follows_2 : decode cX1_follows 2 = .ok (.invokevirtual 46, 3) := by decide +kernel
theorem dX1_follows_5 : decode cX1_follows 5 = .ok (.ifCond .eq 11, 3) := by decide +kernel
theorem dX1_follows_8 : decode cX1_follows 8 = .ok (.aload_n 0, 1) := by decide +kernel
theorem dX1_follows_9 : decode cX1_follows 9 = .ok (.iload_n 2, 1) := by decide +kernel
theorem dX1_follows_10 : decode cX1_follows 10 = .ok (.invokevirtual 46, 3) := by decide +kernel
theorem dX1_follows_13 : decode cX1_follows 13 = .ok (.ifCond .ne 5, 3) := by decide +kernel
theorem dX1_follows_16 : decode cX1_follows 16 = .ok (.iconst (-1), 1) := by decide +kernel
theorem dX1_follows_17 : decode cX1_follows 17 = .ok (.ireturn, 1) := by decide +kernel
theorem dX1_follows_18 : decode cX1_follows 18 = .ok (.iload_n 2, 1) := by decide +kernel
theorem dX1_follows_19 : decode cX1_follows 19 = .ok (.aload_n 0, 1) := by decide +kernel
theorem dX1_follows_20 : decode cX1_follows 20 = .ok (.iload_n 1, 1) := by decide +kernel
theorem dX1_follows_21 : decode cX1_follows 21 = .ok (.invokevirtual 56, 3) := by decide +kernel
theorem dX1_follows_24 : decode cX1_follows 24 = .ok (.iconst (-1), 1) := by decide +kernel
theorem dX1_follows_25 : decode cX1_follows 25 = .ok (.ixor, 1) := by decide +kernel
theorem dX1_follows_26 : decode cX1_follows 26 = .ok (.iand, 1) := by decide +kernel
theorem dX1_follows_27 : decode cX1_follows 27 = .ok (.ifCond .ne 7, 3) := by decide +kernel
theorem dX1_follows_30 : decode cX1_follows 30 = .ok (.iconst 1, 1) := by decide +kernel
theorem dX1_follows_31 : decode cX1_follows 31 = .ok (.goto 4, 3) := by decide +kernel
theorem dX1_follows_34 : decode cX1_follows 34 = .ok (.iconst 0, 1) := by decide +kernel
theorem dX1_follows_35 : decode cX1_follows 35 = .ok (.ireturn, 1) := by decide +kernel
abbrev cX1_rules : ByteArray := prog_1_method_14_code
def yX1_rules : MethodName := ⟨RX1, "rules", "()I"⟩
theorem dX1_rules_0 : decode cX1_rules 0 = .ok (.aload_n 0, 1) := by decide +kernel
theorem dX1_rules_1 : decode cX1_rules 1 = .ok (.invokevirtual 58, 3) := by decide +kernel
theorem dX1_rules_4 : decode cX1_rules 4 = .ok (.aload_n 0, 1) := by decide +kernel
theorem dX1_rules_5 : decode cX1_rules 5 = .ok (.getfield 67, 3) := by decide +kernel
theorem dX1_rules_8 : decode cX1_rules 8 = .ok (.ireturn, 1) := by decide +kernel
abbrev cX1_rule : ByteArray := prog_1_method_15_code
def yX1_rule : MethodName := ⟨RX1, "rule", "(I)I"⟩
theorem dX1_rule_0 : decode cX1_rule 0 = .ok (.aload_n 0, 1) := by decide +kernel
theorem dX1_rule_1 : decode cX1_rule 1 = .ok (.invokevirtual 58, 3) := by decide +kernel
theorem dX1_rule_4 : decode cX1_rule 4 = .ok (.iload_n 1, 1) := by decide +kernel
theorem dX1_rule_5 : decode cX1_rule 5 = .ok (.ifCond .lt 20, 3) := by decide +kernel
theorem dX1_rule_8 : decode cX1_rule 8 = .ok (.iload_n 1, 1) := by decide +kernel
theorem dX1_rule_9 : decode cX1_rule 9 = .ok (.aload_n 0, 1) := by decide +kernel
theorem dX1_rule_10 : decode cX1_rule 10 = .ok (.getfield 67, 3) := by decide +kernel
theorem dX1_rule_13 : decode cX1_rule 13 = .ok (.if_icmp .ge 12, 3) := by decide +kernel
theorem dX1_rule_16 : decode cX1_rule 16 = .ok (.aload_n 0, 1) := by decide +kernel
theorem dX1_rule_17 : decode cX1_rule 17 = .ok (.getfield 19, 3) := by decide +kernel
theorem dX1_rule_20 : decode cX1_rule 20 = .ok (.iload_n 1, 1) := by decide +kernel
theorem dX1_rule_21 : decode cX1_rule 21 = .ok (.iaload, 1) := by decide +kernel
theorem dX1_rule_22 : decode cX1_rule 22 = .ok (.goto 4, 3) := by decide +kernel
theorem dX1_rule_25 : decode cX1_rule 25 = .ok (.iconst (-1), 1) := by decide +kernel
theorem dX1_rule_26 : decode cX1_rule 26 = .ok (.ireturn, 1) := by decide +kernel
abbrev cX1_covers : ByteArray := prog_1_method_16_code
def yX1_covers : MethodName := ⟨RX1, "covers", "(I)I"⟩
theorem dX1_covers_0 : decode cX1_covers 0 = .ok (.aload_n 0, 1) := by decide +kernel
theorem dX1_covers_1 : decode cX1_covers 1 = .ok (.iload_n 1, 1) := by decide +kernel
theorem dX1_covers_2 : decode cX1_covers 2 = .ok (.invokevirtual 46, 3) := by decide +kernel
theorem dX1_covers_5 : decode cX1_covers 5 = .ok (.ifCond .ne 5, 3) := by decide +kernel
theorem dX1_covers_8 : decode cX1_covers 8 = .ok (.iconst (-1), 1) := by decide +kernel
theorem dX1_covers_9 : decode cX1_covers 9 = .ok (.ireturn, 1) := by decide +kernel
theorem dX1_covers_10 : decode cX1_covers 10 = .ok (.aload_n 0, 1) := by decide +kernel
theorem dX1_covers_11 : decode cX1_covers 11 = .ok (.iload_n 1, 1) := by decide +kernel
theorem dX1_covers_12 : decode cX1_covers 12 = .ok (.invokevirtual 56, 3) := by decide +kernel
theorem dX1_covers_15 : decode cX1_covers 15 = .ok (.istore_n 2, 1) := by decide +kernel
theorem dX1_covers_16 : decode cX1_covers 16 = .ok (.aload_n 0, 1) := by decide +kernel
theorem dX1_covers_17 : decode cX1_covers 17 = .ok (.iload_n 2, 1) := by decide +kernel
theorem dX1_covers_18 : decode cX1_covers 18 = .ok (.invokevirtual 70, 3) := by decide +kernel
theorem dX1_covers_21 : decode cX1_covers 21 = .ok (.ireturn, 1) := by decide +kernel
end
section
set_option maxRecDepth 100000
abbrev cX1_coversOf : ByteArray := prog_1_method_33_code
def yX1_coversOf : MethodName := ⟨RX1, "coversOf", "(I)I"⟩
theorem dX1_coversOf_0 : decode cX1_coversOf 0 = .ok (.iconst 0, 1) := by decide +kernel
theorem dX1_coversOf_1 : decode cX1_coversOf 1 = .ok (.istore_n 2, 1) := by decide +kernel
theorem dX1_coversOf_2 : decode cX1_coversOf 2 = .ok (.iconst 0, 1) := by decide +kernel
theorem dX1_coversOf_3 : decode cX1_coversOf 3 = .ok (.istore_n 3, 1) := by decide +kernel
theorem dX1_coversOf_4 : decode cX1_coversOf 4 = .ok (.iload_n 3, 1) := by decide +kernel
theorem dX1_coversOf_5 : decode cX1_coversOf 5 = .ok (.aload_n 0, 1) := by decide +kernel
theorem dX1_coversOf_6 : decode cX1_coversOf 6 = .ok (.getfield 32, 3) := by decide +kernel
theorem dX1_coversOf_9 : decode cX1_coversOf 9 = .ok (.if_icmp .ge 29, 3) := by decide +kernel
theorem dX1_coversOf_12 : decode cX1_coversOf 12 = .ok (.iload_n 1, 1) := by decide +kernel
theorem dX1_coversOf_13 : decode cX1_coversOf 13 = .ok (.iload_n 3, 1) := by decide +kernel
theorem dX1_coversOf_14 : decode cX1_coversOf 14 = .ok (.ishr, 1) := by decide +kernel
theorem dX1_coversOf_15 : decode cX1_coversOf 15 = .ok (.iconst 1, 1) := by decide +kernel
theorem dX1_coversOf_16 : decode cX1_coversOf 16 = .ok (.iand, 1) := by decide +kernel
theorem dX1_coversOf_17 : decode cX1_coversOf 17 = .ok (.ifCond .ne 15, 3) := by decide +kernel
theorem dX1_coversOf_20 : decode cX1_coversOf 20 = .ok (.aload_n 0, 1) := by decide +kernel
theorem dX1_coversOf_21 : decode cX1_coversOf 21 = .ok (.iload_n 1, 1) := by decide +kernel
theorem dX1_coversOf_22 : decode cX1_coversOf 22 = .ok (.iload_n 3, 1) := by decide +kernel
theorem dX1_coversOf_23 : decode cX1_coversOf 23 = .ok (.invokevirtual 86, 3) := by decide +kernel
theorem dX1_coversOf_26 : decode cX1_coversOf 26 = .ok (.ifCond .eq 6, 3) := by decide +kernel
theorem dX1_coversOf_29 : decode cX1_coversOf 29 = .ok (.iinc 2 1, 3) := by decide +kernel
theorem dX1_coversOf_32 : decode cX1_coversOf 32 = .ok (.iinc 3 1, 3) := by decide +kernel
theorem dX1_coversOf_35 : decode cX1_coversOf 35 = .ok (.goto (-31), 3) := by decide +kernel
theorem dX1_coversOf_38 : decode cX1_coversOf 38 = .ok (.iload_n 2, 1) := by decide +kernel
theorem dX1_coversOf_39 : decode cX1_coversOf 39 = .ok (.ireturn, 1) := by decide +kernel
abbrev cX1_isLeast : ByteArray := prog_1_method_34_code
def yX1_isLeast : MethodName := ⟨RX1, "isLeast", "(II)Z"⟩
theorem dX1_isLeast_0 : decode cX1_isLeast 0 = .ok (.aload_n 0, 1) := by decide +kernel
theorem dX1_isLeast_1 : decode cX1_isLeast 1 = .ok (.iload_n 1, 1) := by decide +kernel
theorem dX1_isLeast_2 : decode cX1_isLeast 2 = .ok (.iconst 1, 1) := by decide +kernel
theorem dX1_isLeast_3 : decode cX1_isLeast 3 = .ok (.iload_n 2, 1) := by decide +kernel
theorem dX1_isLeast_4 : decode cX1_isLeast 4 = .ok (.ishl, 1) := by decide +kernel
theorem dX1_isLeast_5 : decode cX1_isLeast 5 = .ok (.ior, 1) := by decide +kernel
theorem dX1_isLeast_6 : decode cX1_isLeast 6 = .ok (.invokevirtual 56, 3) := by decide +kernel
theorem dX1_isLeast_9 : decode cX1_isLeast 9 = .ok (.istore_n 3, 1) := by decide +kernel
theorem dX1_isLeast_10 : decode cX1_isLeast 10 = .ok (.iconst 0, 1) := by decide +kernel
theorem dX1_isLeast_11 : decode cX1_isLeast 11 = .ok (.istore 4, 2) := by decide +kernel
theorem dX1_isLeast_13 : decode cX1_isLeast 13 = .ok (.iload 4, 2) := by decide +kernel
theorem dX1_isLeast_15 : decode cX1_isLeast 15 = .ok (.aload_n 0, 1) := by decide +kernel
theorem dX1_isLeast_16 : decode cX1_isLeast 16 = .ok (.getfield 32, 3) := by decide +kernel
theorem dX1_isLeast_19 : decode cX1_isLeast 19 = .ok (.if_icmp .ge 54, 3) := by decide +kernel
theorem dX1_isLeast_22 : decode cX1_isLeast 22 = .ok (.iload_n 3, 1) := by decide +kernel
theorem dX1_isLeast_23 : decode cX1_isLeast 23 = .ok (.iload 4, 2) := by decide +kernel
theorem dX1_isLeast_25 : decode cX1_isLeast 25 = .ok (.ishr, 1) := by decide +kernel
theorem dX1_isLeast_26 : decode cX1_isLeast 26 = .ok (.iconst 1, 1) := by decide +kernel
theorem dX1_isLeast_27 : decode cX1_isLeast 27 = .ok (.iand, 1) := by decide +kernel
theorem dX1_isLeast_28 : decode cX1_isLeast 28 = .ok (.iconst 1, 1) := by decide +kernel
theorem dX1_isLeast_29 : decode cX1_isLeast 29 = .ok (.if_icmp .ne 38, 3) := by decide +kernel
theorem dX1_isLeast_32 : decode cX1_isLeast 32 = .ok (.iload_n 1, 1) := by decide +kernel
theorem dX1_isLeast_33 : decode cX1_isLeast 33 = .ok (.iload 4, 2) := by decide +kernel
theorem dX1_isLeast_35 : decode cX1_isLeast 35 = .ok (.ishr, 1) := by decide +kernel
theorem dX1_isLeast_36 : decode cX1_isLeast 36 = .ok (.iconst 1, 1) := by decide +kernel
theorem dX1_isLeast_37 : decode cX1_isLeast 37 = .ok (.iand, 1) := by decide +kernel
theorem dX1_isLeast_38 : decode cX1_isLeast 38 = .ok (.ifCond .ne 29, 3) := by decide +kernel
theorem dX1_isLeast_41 : decode cX1_isLeast 41 = .ok (.aload_n 0, 1) := by decide +kernel
theorem dX1_isLeast_42 : decode cX1_isLeast 42 = .ok (.iload_n 1, 1) := by decide +kernel
theorem dX1_isLeast_43 : decode cX1_isLeast 43 = .ok (.iconst 1, 1) := by decide +kernel
theorem dX1_isLeast_44 : decode cX1_isLeast 44 = .ok (.iload 4, 2) := by decide +kernel
theorem dX1_isLeast_46 : decode cX1_isLeast 46 = .ok (.ishl, 1) := by decide +kernel
theorem dX1_isLeast_47 : decode cX1_isLeast 47 = .ok (.ior, 1) := by decide +kernel
theorem dX1_isLeast_48 : decode cX1_isLeast 48 = .ok (.invokevirtual 56, 3) := by decide +kernel
theorem dX1_isLeast_51 : decode cX1_isLeast 51 = .ok (.istore 5, 2) := by decide +kernel
theorem dX1_isLeast_53 : decode cX1_isLeast 53 = .ok (.iload 5, 2) := by decide +kernel
theorem dX1_isLeast_55 : decode cX1_isLeast 55 = .ok (.iload_n 3, 1) := by decide +kernel
theorem dX1_isLeast_56 : decode cX1_isLeast 56 = .ok (.if_icmp .ne 9, 3) := by decide +kernel
theorem dX1_isLeast_59 : decode cX1_isLeast 59 = .ok (.iload 4, 2) := by decide +kernel
theorem dX1_isLeast_61 : decode cX1_isLeast 61 = .ok (.iload_n 2, 1) := by decide +kernel
theorem dX1_isLeast_62 : decode cX1_isLeast 62 = .ok (.if_icmp .ge 5, 3) := by decide +kernel
theorem dX1_isLeast_65 : decode cX1_isLeast 65 = .ok (.iconst 0, 1) := by decide +kernel
theorem dX1_isLeast_66 : decode cX1_isLeast 66 = .ok (.ireturn, 1) := by decide +kernel
theorem dX1_isLeast_67 : decode cX1_isLeast 67 = .ok (.iinc 4 1, 3) := by decide +kernel
theorem dX1_isLeast_70 : decode cX1_isLeast 70 = .ok (.goto (-57), 3) := by decide +kernel
theorem dX1_isLeast_73 : decode cX1_isLeast 73 = .ok (.iconst 1, 1) := by decide +kernel
theorem dX1_isLeast_74 : decode cX1_isLeast 74 = .ok (.ireturn, 1) := by decide +kernel
abbrev cX1_links : ByteArray := prog_1_method_17_code
def yX1_links : MethodName := ⟨RX1, "links", "()I"⟩
theorem dX1_links_0 : decode cX1_links 0 = .ok (.aload_n 0, 1) := by decide +kernel
theorem dX1_links_1 : decode cX1_links 1 = .ok (.invokevirtual 58, 3) := by decide +kernel
theorem dX1_links_4 : decode cX1_links 4 = .ok (.iconst 0, 1) := by decide +kernel
theorem dX1_links_5 : decode cX1_links 5 = .ok (.istore_n 1, 1) := by decide +kernel
theorem dX1_links_6 : decode cX1_links 6 = .ok (.iconst 0, 1) := by decide +kernel
theorem dX1_links_7 : decode cX1_links 7 = .ok (.istore_n 2, 1) := by decide +kernel
theorem dX1_links_8 : decode cX1_links 8 = .ok (.iload_n 2, 1) := by decide +kernel
theorem dX1_links_9 : decode cX1_links 9 = .ok (.aload_n 0, 1) := by decide +kernel
theorem dX1_links_10 : decode cX1_links 10 = .ok (.getfield 61, 3) := by decide +kernel
theorem dX1_links_13 : decode cX1_links 13 = .ok (.if_icmp .ge 22, 3) := by decide +kernel
theorem dX1_links_16 : decode cX1_links 16 = .ok (.iload_n 1, 1) := by decide +kernel
theorem dX1_links_17 : decode cX1_links 17 = .ok (.aload_n 0, 1) := by decide +kernel
theorem dX1_links_18 : decode cX1_links 18 = .ok (.aload_n 0, 1) := by decide +kernel
theorem dX1_links_19 : decode cX1_links 19 = .ok (.getfield 16, 3) := by decide +kernel
theorem dX1_links_22 : decode cX1_links 22 = .ok (.iload_n 2, 1) := by decide +kernel
theorem dX1_links_23 : decode cX1_links 23 = .ok (.iaload, 1) := by decide +kernel
theorem dX1_links_24 : decode cX1_links 24 = .ok (.invokevirtual 70, 3) := by decide +kernel
theorem dX1_links_27 : decode cX1_links 27 = .ok (.iadd, 1) := by decide +kernel
theorem dX1_links_28 : decode cX1_links 28 = .ok (.istore_n 1, 1) := by decide +kernel
theorem dX1_links_29 : decode cX1_links 29 = .ok (.iinc 2 1, 3) := by decide +kernel
theorem dX1_links_32 : decode cX1_links 32 = .ok (.goto (-24), 3) := by decide +kernel
theorem dX1_links_35 : decode cX1_links 35 = .ok (.iload_n 1, 1) := by decide +kernel
theorem dX1_links_36 : decode cX1_links 36 = .ok (.ireturn, 1) := by decide +kernel
abbrev cX1_height : ByteArray := prog_1_method_18_code
def yX1_height : MethodName := ⟨RX1, "height", "()I"⟩
theorem dX1_height_0 : decode cX1_height 0 = .ok (.aload_n 0, 1) := by decide +kernel
theorem dX1_height_1 : decode cX1_height 1 = .ok (.invokevirtual 58, 3) := by decide +kernel
theorem dX1_height_4 : decode cX1_height 4 = .ok (.iconst 0, 1) := by decide +kernel
theorem dX1_height_5 : decode cX1_height 5 = .ok (.istore_n 1, 1) := by decide +kernel
theorem dX1_height_6 : decode cX1_height 6 = .ok (.iconst 0, 1) := by decide +kernel
theorem dX1_height_7 : decode cX1_height 7 = .ok (.istore_n 2, 1) := by decide +kernel
theorem dX1_height_8 : decode cX1_height 8 = .ok (.iload_n 2, 1) := by decide +kernel
theorem dX1_height_9 : decode cX1_height 9 = .ok (.aload_n 0, 1) := by decide +kernel
theorem dX1_height_10 : decode cX1_height 10 = .ok (.getfield 61, 3) := by decide +kernel
theorem dX1_height_13 : decode cX1_height 13 = .ok (.if_icmp .ge 97, 3) := by decide +kernel
theorem dX1_height_16 : decode cX1_height 16 = .ok (.aload_n 0, 1) := by decide +kernel
theorem dX1_height_17 : decode cX1_height 17 = .ok (.getfield 25, 3) := by decide +kernel
theorem dX1_height_20 : decode cX1_height 20 = .ok (.iload_n 2, 1) := by decide +kernel
theorem dX1_height_21 : decode cX1_height 21 = .ok (.iconst 1, 1) := by decide +kernel
theorem dX1_height_22 : decode cX1_height 22 = .ok (.iastore, 1) := by decide +kernel
theorem dX1_height_23 : decode cX1_height 23 = .ok (.iconst 0, 1) := by decide +kernel
theorem dX1_height_24 : decode cX1_height 24 = .ok (.istore_n 3, 1) := by decide +kernel
theorem dX1_height_25 : decode cX1_height 25 = .ok (.iload_n 3, 1) := by decide +kernel
theorem dX1_height_26 : decode cX1_height 26 = .ok (.iload_n 2, 1) := by decide +kernel
theorem dX1_height_27 : decode cX1_height 27 = .ok (.if_icmp .ge 56, 3) := by decide +kernel
theorem dX1_height_30 : decode cX1_height 30 = .ok (.aload_n 0, 1) := by decide +kernel
theorem dX1_height_31 : decode cX1_height 31 = .ok (.getfield 16, 3) := by decide +kernel
theorem dX1_height_34 : decode cX1_height 34 = .ok (.iload_n 3, 1) := by decide +kernel
theorem dX1_height_35 : decode cX1_height 35 = .ok (.iaload, 1) := by decide +kernel
theorem dX1_height_36 : decode cX1_height 36 = .ok (.aload_n 0, 1) := by decide +kernel
theorem dX1_height_37 : decode cX1_height 37 = .ok (.getfield 16, 3) := by decide +kernel
theorem dX1_height_40 : decode cX1_height 40 = .ok (.iload_n 2, 1) := by decide +kernel
theorem dX1_height_41 : decode cX1_height 41 = .ok (.iaload, 1) := by decide +kernel
theorem dX1_height_42 : decode cX1_height 42 = .ok (.iconst (-1), 1) := by decide +kernel
theorem dX1_height_43 : decode cX1_height 43 = .ok (.ixor, 1) := by decide +kernel
theorem dX1_height_44 : decode cX1_height 44 = .ok (.iand, 1) := by decide +kernel
theorem dX1_height_45 : decode cX1_height 45 = .ok (.ifCond .ne 32, 3) := by decide +kernel
theorem dX1_height_48 : decode cX1_height 48 = .ok (.aload_n 0, 1) := by decide +kernel
theorem dX1_height_49 : decode cX1_height 49 = .ok (.getfield 25, 3) := by decide +kernel
theorem dX1_height_52 : decode cX1_height 52 = .ok (.iload_n 3, 1) := by decide +kernel
theorem dX1_height_53 : decode cX1_height 53 = .ok (.iaload, 1) := by decide +kernel
theorem dX1_height_54 : decode cX1_height 54 = .ok (.aload_n 0, 1) := by decide +kernel
theorem dX1_height_55 : decode cX1_height 55 = .ok (.getfield 25, 3) := by decide +kernel
theorem dX1_height_58 : decode cX1_height 58 = .ok (.iload_n 2, 1) := by decide +kernel
theorem dX1_height_59 : decode cX1_height 59 = .ok (.iaload, 1) := by decide +kernel
theorem dX1_height_60 : decode cX1_height 60 = .ok (.if_icmp .lt 17, 3) := by decide +kernel
theorem dX1_height_63 : decode cX1_height 63 = .ok (.aload_n 0, 1) := by decide +kernel
theorem dX1_height_64 : decode cX1_height 64 = .ok (.getfield 25, 3) := by decide +kernel
theorem dX1_height_67 : decode cX1_height 67 = .ok (.iload_n 2, 1) := by decide +kernel
theorem dX1_height_68 : decode cX1_height 68 = .ok (.aload_n 0, 1) := by decide +kernel
theorem dX1_height_69 : decode cX1_height 69 = .ok (.getfield 25, 3) := by decide +kernel
theorem dX1_height_72 : decode cX1_height 72 = .ok (.iload_n 3, 1) := by decide +kernel
theorem dX1_height_73 : decode cX1_height 73 = .ok (.iaload, 1) := by decide +kernel
theorem dX1_height_74 : decode cX1_height 74 = .ok (.iconst 1, 1) := by decide +kernel
theorem dX1_height_75 : decode cX1_height 75 = .ok (.iadd, 1) := by decide +kernel
theorem dX1_height_76 : decode cX1_height 76 = .ok (.iastore, 1) := by decide +kernel
theorem dX1_height_77 : decode cX1_height 77 = .ok (.iinc 3 1, 3) := by decide +kernel
theorem dX1_height_80 : decode cX1_height 80 = .ok (.goto (-55), 3) := by decide +kernel
theorem dX1_height_83 : decode cX1_height 83 = .ok (.aload_n 0, 1) := by decide +kernel
theorem dX1_height_84 : decode cX1_height 84 = .ok (.getfield 25, 3) := by decide +kernel
theorem dX1_height_87 : decode cX1_height 87 = .ok (.iload_n 2, 1) := by decide +kernel
theorem dX1_height_88 : decode cX1_height 88 = .ok (.iaload, 1) := by decide +kernel
theorem dX1_height_89 : decode cX1_height 89 = .ok (.iload_n 1, 1) := by decide +kernel
theorem dX1_height_90 : decode cX1_height 90 = .ok (.if_icmp .le 12, 3) := by decide +kernel
theorem dX1_height_93 : decode cX1_height 93 = .ok (.aload_n 0, 1) := by decide +kernel
theorem dX1_height_94 : decode cX1_height 94 = .ok (.getfield 25, 3) := by decide +kernel
theorem dX1_height_97 : decode cX1_height 97 = .ok (.iload_n 2, 1) := by decide +kernel
theorem dX1_height_98 : decode cX1_height 98 = .ok (.iaload, 1) := by decide +kernel
theorem dX1_height_99 : decode cX1_height 99 = .ok (.goto 4, 3) := by decide +kernel
theorem dX1_height_102 : decode cX1_height 102 = .ok (.iload_n 1, 1) := by decide +kernel
theorem dX1_height_103 : decode cX1_height 103 = .ok (.istore_n 1, 1) := by decide +kernel
theorem dX1_height_104 : decode cX1_height 104 = .ok (.iinc 2 1, 3) := by decide +kernel
theorem dX1_height_107 : decode cX1_height 107 = .ok (.goto (-99), 3) := by decide +kernel
theorem dX1_height_110 : decode cX1_height 110 = .ok (.iload_n 1, 1) := by decide +kernel
theorem dX1_height_111 : decode cX1_height 111 = .ok (.ireturn, 1) := by decide +kernel
abbrev cX1_generatorSize : ByteArray := prog_1_method_19_code
def yX1_generatorSize : MethodName := ⟨RX1, "generatorSize", "(I)I"⟩
theorem dX1_generatorSize_0 : decode cX1_generatorSize 0 = .ok (.aload_n 0, 1) := by decide +kernel
theorem dX1_generatorSize_1 : decode cX1_generatorSize 1 = .ok (.iload_n 1, 1) := by decide +kernel
theorem dX1_generatorSize_2 : decode cX1_generatorSize 2 = .ok (.invokevirtual 46, 3) := by decide +kernel
theorem dX1_generatorSize_5 : decode cX1_generatorSize 5 = .ok (.ifCond .ne 5, 3) := by decide +kernel
theorem dX1_generatorSize_8 : decode cX1_generatorSize 8 = .ok (.iconst (-1), 1) := by decide +kernel
theorem dX1_generatorSize_9 : decode cX1_generatorSize 9 = .ok (.ireturn, 1) := by decide +kernel
theorem dX1_generatorSize_10 : decode cX1_generatorSize 10 = .ok (.aload_n 0, 1) := by decide +kernel
theorem dX1_generatorSize_11 : decode cX1_generatorSize 11 = .ok (.iload_n 1, 1) := by decide +kernel
theorem dX1_generatorSize_12 : decode cX1_generatorSize 12 = .ok (.invokevirtual 56, 3) := by decide +kernel
theorem dX1_generatorSize_15 : decode cX1_generatorSize 15 = .ok (.istore_n 2, 1) := by decide +kernel
theorem dX1_generatorSize_16 : decode cX1_generatorSize 16 = .ok (.aload_n 0, 1) := by decide +kernel
theorem dX1_generatorSize_17 : decode cX1_generatorSize 17 = .ok (.getfield 32, 3) := by decide +kernel
theorem dX1_generatorSize_20 : decode cX1_generatorSize 20 = .ok (.istore_n 3, 1) := by decide +kernel
theorem dX1_generatorSize_21 : decode cX1_generatorSize 21 = .ok (.iload_n 2, 1) := by decide +kernel
theorem dX1_generatorSize_22 : decode cX1_generatorSize 22 = .ok (.istore 4, 2) := by decide +kernel
theorem dX1_generatorSize_24 : decode cX1_generatorSize 24 = .ok (.iconst 0, 1) := by decide +kernel
theorem dX1_generatorSize_25 : decode cX1_generatorSize 25 = .ok (.istore 5, 2) := by decide +kernel
theorem dX1_generatorSize_27 : decode cX1_generatorSize 27 = .ok (.iload 5, 2) := by decide +kernel
theorem dX1_generatorSize_29 : decode cX1_generatorSize 29 = .ok (.sipush 128, 3) := by decide +kernel
theorem dX1_generatorSize_32 : decode cX1_generatorSize 32 = .ok (.if_icmp .ge 51, 3) := by decide +kernel
theorem dX1_generatorSize_35 : decode cX1_generatorSize 35 = .ok (.iload 4, 2) := by decide +kernel
theorem dX1_generatorSize_37 : decode cX1_generatorSize 37 = .ok (.invokestatic 73, 3) := by decide +kernel
theorem dX1_generatorSize_40 : decode cX1_generatorSize 40 = .ok (.istore 6, 2) := by decide +kernel
theorem dX1_generatorSize_42 : decode cX1_generatorSize 42 = .ok (.iload 6, 2) := by decide +kernel
theorem dX1_generatorSize_44 : decode cX1_generatorSize 44 = .ok (.iload_n 3, 1) := by decide +kernel
theorem dX1_generatorSize_45 : decode cX1_generatorSize 45 = .ok (.if_icmp .ge 16, 3) := by decide +kernel
theorem dX1_generatorSize_48 : decode cX1_generatorSize 48 = .ok (.aload_n 0, 1) := by decide +kernel
theorem dX1_generatorSize_49 : decode cX1_generatorSize 49 = .ok (.iload 4, 2) := by decide +kernel
theorem dX1_generatorSize_51 : decode cX1_generatorSize 51 = .ok (.invokevirtual 56, 3) := by decide +kernel
theorem dX1_generatorSize_54 : decode cX1_generatorSize 54 = .ok (.iload_n 2, 1) := by decide +kernel
theorem dX1_generatorSize_55 : decode cX1_generatorSize 55 = .ok (.if_icmp .ne 6, 3) := by decide +kernel
theorem dX1_generatorSize_58 : decode cX1_generatorSize 58 = .ok (.iload 6, 2) := by decide +kernel
theorem dX1_generatorSize_60 : decode cX1_generatorSize 60 = .ok (.istore_n 3, 1) := by decide +kernel
theorem dX1_generatorSize_61 : decode cX1_generatorSize 61 = .ok (.iload 4, 2) := by decide +kernel
theorem dX1_generatorSize_63 : decode cX1_generatorSize 63 = .ok (.ifCond .ne 6, 3) := by decide +kernel
theorem dX1_generatorSize_66 : decode cX1_generatorSize 66 = .ok (.goto 17, 3) := by decide +kernel
theorem dX1_generatorSize_69 : decode cX1_generatorSize 69 = .ok (.iload 4, 2) := by decide +kernel
theorem dX1_generatorSize_71 : decode cX1_generatorSize 71 = .ok (.iconst 1, 1) := by decide +kernel
theorem dX1_generatorSize_72 : decode cX1_generatorSize 72 = .ok (.isub, 1) := by decide +kernel
theorem dX1_generatorSize_73 : decode cX1_generatorSize 73 = .ok (.iload_n 2, 1) := by decide +kernel
theorem dX1_generatorSize_74 : decode cX1_generatorSize 74 = .ok (.iand, 1) := by decide +kernel
theorem dX1_generatorSize_75 : decode cX1_generatorSize 75 = .ok (.istore 4, 2) := by decide +kernel
theorem dX1_generatorSize_77 : decode cX1_generatorSize 77 = .ok (.iinc 5 1, 3) := by decide +kernel
theorem dX1_generatorSize_80 : decode cX1_generatorSize 80 = .ok (.goto (-53), 3) := by decide +kernel
theorem dX1_generatorSize_83 : decode cX1_generatorSize 83 = .ok (.iload_n 3, 1) := by decide +kernel
theorem dX1_generatorSize_84 : decode cX1_generatorSize 84 = .ok (.ireturn, 1) := by decide +kernel
abbrev cX1_ones : ByteArray := prog_1_method_24_code
def yX1_ones : MethodName := ⟨RX1, "ones", "(I)I"⟩
theorem dX1_ones_0 : decode cX1_ones 0 = .ok (.iconst 0, 1) := by decide +kernel
theorem dX1_ones_1 : decode cX1_ones 1 = .ok (.istore_n 1, 1) := by decide +kernel
theorem dX1_ones_2 : decode cX1_ones 2 = .ok (.iconst 0, 1) := by decide +kernel
theorem dX1_ones_3 : decode cX1_ones 3 = .ok (.istore_n 2, 1) := by decide +kernel
theorem dX1_ones_4 : decode cX1_ones 4 = .ok (.iload_n 2, 1) := by decide +kernel
theorem dX1_ones_5 : decode cX1_ones 5 = .ok (.bipush 8, 2) := by decide +kernel
theorem dX1_ones_7 : decode cX1_ones 7 = .ok (.if_icmp .ge 17, 3) := by decide +kernel
theorem dX1_ones_10 : decode cX1_ones 10 = .ok (.iload_n 1, 1) := by decide +kernel
theorem dX1_ones_11 : decode cX1_ones 11 = .ok (.iload_n 0, 1) := by decide +kernel
theorem dX1_ones_12 : decode cX1_ones 12 = .ok (.iload_n 2, 1) := by decide +kernel
theorem dX1_ones_13 : decode cX1_ones 13 = .ok (.ishr, 1) := by decide +kernel
theorem dX1_ones_14 : decode cX1_ones 14 = .ok (.iconst 1, 1) := by decide +kernel
theorem dX1_ones_15 : decode cX1_ones 15 = .ok (.iand, 1) := by decide +kernel
theorem dX1_ones_16 : decode cX1_ones 16 = .ok (.iadd, 1) := by decide +kernel
theorem dX1_ones_17 : decode cX1_ones 17 = .ok (.istore_n 1, 1) := by decide +kernel
theorem dX1_ones_18 : decode cX1_ones 18 = .ok (.iinc 2 1, 3) := by decide +kernel
theorem dX1_ones_21 : decode cX1_ones 21 = .ok (.goto (-17), 3) := by decide +kernel
theorem dX1_ones_24 : decode cX1_ones 24 = .ok (.iload_n 1, 1) := by decide +kernel
theorem dX1_ones_25 : decode cX1_ones 25 = .ok (.ireturn, 1) := by decide +kernel
abbrev cX1_dispensable : ByteArray := prog_1_method_20_code
def yX1_dispensable : MethodName := ⟨RX1, "dispensable", "(I)I"⟩
theorem dX1_dispensable_0 : decode cX1_dispensable 0 = .ok (.aload_n 0, 1) := by decide +kernel
theorem dX1_dispensable_1 : decode cX1_dispensable 1 = .ok (.iload_n 1, 1) := by decide +kernel
theorem dX1_dispensable_2 : decode cX1_dispensable 2 = .ok (.invokevirtual 39, 3) := by decide +kernel
theorem dX1_dispensable_5 : decode cX1_dispensable 5 = .ok (.ifCond .ne 5, 3) := by decide +kernel
theorem dX1_dispensable_8 : decode cX1_dispensable 8 = .ok (.iconst (-1), 1) := by decide +kernel
theorem dX1_dispensable_9 : decode cX1_dispensable 9 = .ok (.ireturn, 1) := by decide +kernel
theorem dX1_dispensable_10 : decode cX1_dispensable 10 = .ok (.aload_n 0, 1) := by decide +kernel
theorem dX1_dispensable_11 : decode cX1_dispensable 11 = .ok (.invokevirtual 58, 3) := by decide +kernel
theorem dX1_dispensable_14 : decode cX1_dispensable 14 = .ok (.iconst 1, 1) := by decide +kernel
theorem dX1_dispensable_15 : decode cX1_dispensable 15 = .ok (.iload_n 1, 1) := by decide +kernel
theorem dX1_dispensable_16 : decode cX1_dispensable 16 = .ok (.ishl, 1) := by decide +kernel
theorem dX1_dispensable_17 : decode cX1_dispensable 17 = .ok (.istore_n 2, 1) := by decide +kernel
theorem dX1_dispensable_18 : decode cX1_dispensable 18 = .ok (.iconst 0, 1) := by decide +kernel
theorem dX1_dispensable_19 : decode cX1_dispensable 19 = .ok (.istore_n 3, 1) := by decide +kernel
theorem dX1_dispensable_20 : decode cX1_dispensable 20 = .ok (.iload_n 3, 1) := by decide +kernel
theorem dX1_dispensable_21 : decode cX1_dispensable 21 = .ok (.aload_n 0, 1) := by decide +kernel
theorem dX1_dispensable_22 : decode cX1_dispensable 22 = .ok (.getfield 61, 3) := by decide +kernel
theorem dX1_dispensable_25 : decode cX1_dispensable 25 = .ok (.if_icmp .ge 43, 3) := by decide +kernel
theorem dX1_dispensable_28 : decode cX1_dispensable 28 = .ok (.aload_n 0, 1) := by decide +kernel
theorem dX1_dispensable_29 : decode cX1_dispensable 29 = .ok (.getfield 16, 3) := by decide +kernel
theorem dX1_dispensable_32 : decode cX1_dispensable 32 = .ok (.iload_n 3, 1) := by decide +kernel
theorem dX1_dispensable_33 : decode cX1_dispensable 33 = .ok (.iaload, 1) := by decide +kernel
theorem dX1_dispensable_34 : decode cX1_dispensable 34 = .ok (.iload_n 2, 1) := by decide +kernel
theorem dX1_dispensable_35 : decode cX1_dispensable 35 = .ok (.ior, 1) := by decide +kernel
theorem dX1_dispensable_36 : decode cX1_dispensable 36 = .ok (.istore 4, 2) := by decide +kernel
theorem dX1_dispensable_38 : decode cX1_dispensable 38 = .ok (.iload 4, 2) := by decide +kernel
theorem dX1_dispensable_40 : decode cX1_dispensable 40 = .ok (.aload_n 0, 1) := by decide +kernel
theorem dX1_dispensable_41 : decode cX1_dispensable 41 = .ok (.getfield 16, 3) := by decide +kernel
theorem dX1_dispensable_44 : decode cX1_dispensable 44 = .ok (.iload_n 3, 1) := by decide +kernel
theorem dX1_dispensable_45 : decode cX1_dispensable 45 = .ok (.iaload, 1) := by decide +kernel
theorem dX1_dispensable_46 : decode cX1_dispensable 46 = .ok (.if_icmp .eq 16, 3) := by decide +kernel
theorem dX1_dispensable_49 : decode cX1_dispensable 49 = .ok (.aload_n 0, 1) := by decide +kernel
theorem dX1_dispensable_50 : decode cX1_dispensable 50 = .ok (.iload 4, 2) := by decide +kernel
theorem dX1_dispensable_52 : decode cX1_dispensable 52 = .ok (.invokevirtual 56, 3) := by decide +kernel
theorem dX1_dispensable_55 : decode cX1_dispensable 55 = .ok (.iload 4, 2) := by decide +kernel
theorem dX1_dispensable_57 : decode cX1_dispensable 57 = .ok (.if_icmp .ne 5, 3) := by decide +kernel
theorem dX1_dispensable_60 : decode cX1_dispensable 60 = .ok (.iconst 0, 1) := by decide +kernel
theorem dX1_dispensable_61 : decode cX1_dispensable 61 = .ok (.ireturn, 1) := by decide +kernel
theorem dX1_dispensable_62 : decode cX1_dispensable 62 = .ok (.iinc 3 1, 3) := by decide +kernel
theorem dX1_dispensable_65 : decode cX1_dispensable 65 = .ok (.goto (-45), 3) := by decide +kernel
theorem dX1_dispensable_68 : decode cX1_dispensable 68 = .ok (.iconst 1, 1) := by decide +kernel
theorem dX1_dispensable_69 : decode cX1_dispensable 69 = .ok (.ireturn, 1) := by decide +kernel
end
section
set_option maxRecDepth 100000
theorem q27 : (Jvm.Cond.initialized "ConceptLattice") ∈ lw_all := lw_g (lw_at lw_m1 1 rfl) rfl
theorem q30 : (Jvm.Cond.instantiable "ConceptLattice" (11 : Nat)) ∈ lw_all := lw_g (lw_at lw_m1 4 rfl) rfl
theorem q32 : (Jvm.Cond.instanceMethod ({ cls := "ConceptLattice", name := "<init>", desc := "(II)V" } : Jvm.MethodName)) ∈ lw_all := lw_g (lw_at lw_m1 6 rfl) rfl
theorem q33 : (Jvm.Cond.code ({ cls := "ConceptLattice", name := "<init>", desc := "(II)V" } : Jvm.MethodName) prog_1_method_1_code (3 : Nat) (Option.none : Option Jvm.ClassFile.FieldType)) ∈ lw_all := lw_g (lw_at lw_m1 7 rfl) rfl
theorem q34 : (Jvm.Cond.methodLink "ConceptLattice" (1 : Nat) ({ cls := "java/lang/Object", name := "<init>", desc := "()V" } : Jvm.MethodName)) ∈ lw_all := lw_g (lw_at lw_m1 8 rfl) rfl
theorem q37 : (Jvm.Cond.fieldLink "ConceptLattice" (7 : Nat) "ConceptLattice" "rows" "[I") ∈ lw_all := lw_g (lw_at lw_m1 11 rfl) rfl
theorem q38 : (Jvm.Cond.fieldLink "ConceptLattice" (13 : Nat) "ConceptLattice" "columns" "[I") ∈ lw_all := lw_g (lw_at lw_m1 12 rfl) rfl
theorem q39 : (Jvm.Cond.fieldLink "ConceptLattice" (16 : Nat) "ConceptLattice" "closed" "[I") ∈ lw_all := lw_g (lw_at lw_m1 13 rfl) rfl
theorem q40 : (Jvm.Cond.fieldLink "ConceptLattice" (19 : Nat) "ConceptLattice" "pseudo" "[I") ∈ lw_all := lw_g (lw_at lw_m1 14 rfl) rfl
theorem q41 : (Jvm.Cond.fieldLink "ConceptLattice" (22 : Nat) "ConceptLattice" "pseudoEnd" "[I") ∈ lw_all := lw_g (lw_at lw_m1 15 rfl) rfl
theorem q42 : (Jvm.Cond.fieldLink "ConceptLattice" (25 : Nat) "ConceptLattice" "level" "[I") ∈ lw_all := lw_g (lw_at lw_m1 16 rfl) rfl
theorem q43 : (Jvm.Cond.fieldLink "ConceptLattice" (28 : Nat) "ConceptLattice" "n" "I") ∈ lw_all := lw_g (lw_at lw_m1 17 rfl) rfl
theorem q44 : (Jvm.Cond.fieldLink "ConceptLattice" (32 : Nat) "ConceptLattice" "m" "I") ∈ lw_all := lw_g (lw_at lw_m1 18 rfl) rfl
theorem q45 : (Jvm.Cond.fieldLink "ConceptLattice" (61 : Nat) "ConceptLattice" "closedCount" "I") ∈ lw_all := lw_g (lw_at lw_m1 19 rfl) rfl
theorem q46 : (Jvm.Cond.fieldLink "ConceptLattice" (67 : Nat) "ConceptLattice" "pseudoCount" "I") ∈ lw_all := lw_g (lw_at lw_m1 20 rfl) rfl
theorem q47 : (Jvm.Cond.fieldLink "ConceptLattice" (76 : Nat) "ConceptLattice" "current" "Z") ∈ lw_all := lw_g (lw_at lw_m1 21 rfl) rfl
theorem q48 : (Jvm.Cond.laysFinal "ConceptLattice" "ConceptLattice" "rows" "[I") ∈ lw_all := lw_g (lw_at lw_m1 22 rfl) rfl
theorem q49 : (Jvm.Cond.soleField "ConceptLattice" "rows") ∈ lw_all := lw_g (lw_at lw_m1 23 rfl) rfl
theorem q50 : (Jvm.Cond.laysFinal "ConceptLattice" "ConceptLattice" "columns" "[I") ∈ lw_all := lw_g (lw_at lw_m1 24 rfl) rfl
theorem q51 : (Jvm.Cond.soleField "ConceptLattice" "columns") ∈ lw_all := lw_g (lw_at lw_m1 25 rfl) rfl
theorem q52 : (Jvm.Cond.laysFinal "ConceptLattice" "ConceptLattice" "closed" "[I") ∈ lw_all := lw_g (lw_at lw_m1 26 rfl) rfl
theorem q53 : (Jvm.Cond.soleField "ConceptLattice" "closed") ∈ lw_all := lw_g (lw_at lw_m1 27 rfl) rfl
theorem q54 : (Jvm.Cond.laysFinal "ConceptLattice" "ConceptLattice" "pseudo" "[I") ∈ lw_all := lw_g (lw_at lw_m1 28 rfl) rfl
theorem q55 : (Jvm.Cond.soleField "ConceptLattice" "pseudo") ∈ lw_all := lw_g (lw_at lw_m1 29 rfl) rfl
theorem q56 : (Jvm.Cond.laysFinal "ConceptLattice" "ConceptLattice" "pseudoEnd" "[I") ∈ lw_all := lw_g (lw_at lw_m1 30 rfl) rfl
theorem q57 : (Jvm.Cond.soleField "ConceptLattice" "pseudoEnd") ∈ lw_all := lw_g (lw_at lw_m1 31 rfl) rfl
theorem q58 : (Jvm.Cond.laysFinal "ConceptLattice" "ConceptLattice" "level" "[I") ∈ lw_all := lw_g (lw_at lw_m1 32 rfl) rfl
theorem q59 : (Jvm.Cond.soleField "ConceptLattice" "level") ∈ lw_all := lw_g (lw_at lw_m1 33 rfl) rfl
theorem q60 : (Jvm.Cond.lays "ConceptLattice" "ConceptLattice" "n" "I") ∈ lw_all := lw_g (lw_at lw_m1 34 rfl) rfl
theorem q61 : (Jvm.Cond.soleField "ConceptLattice" "n") ∈ lw_all := lw_g (lw_at lw_m1 35 rfl) rfl
theorem q62 : (Jvm.Cond.lays "ConceptLattice" "ConceptLattice" "m" "I") ∈ lw_all := lw_g (lw_at lw_m1 36 rfl) rfl
theorem q63 : (Jvm.Cond.soleField "ConceptLattice" "m") ∈ lw_all := lw_g (lw_at lw_m1 37 rfl) rfl
theorem q64 : (Jvm.Cond.lays "ConceptLattice" "ConceptLattice" "closedCount" "I") ∈ lw_all := lw_g (lw_at lw_m1 38 rfl) rfl
theorem q65 : (Jvm.Cond.soleField "ConceptLattice" "closedCount") ∈ lw_all := lw_g (lw_at lw_m1 39 rfl) rfl
theorem q66 : (Jvm.Cond.lays "ConceptLattice" "ConceptLattice" "pseudoCount" "I") ∈ lw_all := lw_g (lw_at lw_m1 40 rfl) rfl
theorem q67 : (Jvm.Cond.soleField "ConceptLattice" "pseudoCount") ∈ lw_all := lw_g (lw_at lw_m1 41 rfl) rfl
theorem q68 : (Jvm.Cond.lays "ConceptLattice" "ConceptLattice" "current" "Z") ∈ lw_all := lw_g (lw_at lw_m1 42 rfl) rfl
theorem q69 : (Jvm.Cond.soleField "ConceptLattice" "current") ∈ lw_all := lw_g (lw_at lw_m1 43 rfl) rfl
theorem q70 : (Jvm.Cond.superclass "ConceptLattice" "java/lang/Object") ∈ lw_all := lw_g (lw_at lw_m1 44 rfl) rfl
theorem q73 : (Jvm.Cond.instanceMethod ({ cls := "ConceptLattice", name := "objects", desc := "()I" } : Jvm.MethodName)) ∈ lw_all := lw_g (lw_at lw_m1 47 rfl) rfl
theorem q74 : (Jvm.Cond.selects "ConceptLattice" ({ cls := "ConceptLattice", name := "objects", desc := "()I" } : Jvm.MethodName) ({ cls := "ConceptLattice", name := "objects", desc := "()I" } : Jvm.MethodName)) ∈ lw_all := lw_g (lw_at lw_m1 48 rfl) rfl
theorem q75 : (Jvm.Cond.code ({ cls := "ConceptLattice", name := "objects", desc := "()I" } : Jvm.MethodName) prog_1_method_2_code (1 : Nat) (Option.some Jvm.ClassFile.FieldType.int)) ∈ lw_all := lw_g (lw_at lw_m1 49 rfl) rfl
theorem q77 : (Jvm.Cond.instanceMethod ({ cls := "ConceptLattice", name := "attributes", desc := "()I" } : Jvm.MethodName)) ∈ lw_all := lw_g (lw_at lw_m1 51 rfl) rfl
theorem q78 : (Jvm.Cond.selects "ConceptLattice" ({ cls := "ConceptLattice", name := "attributes", desc := "()I" } : Jvm.MethodName) ({ cls := "ConceptLattice", name := "attributes", desc := "()I" } : Jvm.MethodName)) ∈ lw_all := lw_g (lw_at lw_m1 52 rfl) rfl
theorem q79 : (Jvm.Cond.code ({ cls := "ConceptLattice", name := "attributes", desc := "()I" } : Jvm.MethodName) prog_1_method_3_code (1 : Nat) (Option.some Jvm.ClassFile.FieldType.int)) ∈ lw_all := lw_g (lw_at lw_m1 53 rfl) rfl
theorem q81 : (Jvm.Cond.instanceMethod ({ cls := "ConceptLattice", name := "cross", desc := "(III)I" } : Jvm.MethodName)) ∈ lw_all := lw_g (lw_at lw_m1 55 rfl) rfl
theorem q82 : (Jvm.Cond.selects "ConceptLattice" ({ cls := "ConceptLattice", name := "cross", desc := "(III)I" } : Jvm.MethodName) ({ cls := "ConceptLattice", name := "cross", desc := "(III)I" } : Jvm.MethodName)) ∈ lw_all := lw_g (lw_at lw_m1 56 rfl) rfl
theorem q83 : (Jvm.Cond.code ({ cls := "ConceptLattice", name := "cross", desc := "(III)I" } : Jvm.MethodName) prog_1_method_4_code (6 : Nat) (Option.some Jvm.ClassFile.FieldType.int)) ∈ lw_all := lw_g (lw_at lw_m1 57 rfl) rfl
theorem q84 : (Jvm.Cond.methodLink "ConceptLattice" (35 : Nat) ({ cls := "ConceptLattice", name := "isObject", desc := "(I)Z" } : Jvm.MethodName)) ∈ lw_all := lw_g (lw_at lw_m1 58 rfl) rfl
theorem q85 : (Jvm.Cond.privateMethod ({ cls := "ConceptLattice", name := "isObject", desc := "(I)Z" } : Jvm.MethodName)) ∈ lw_tbl := lw_at lw_m1 59 rfl
theorem q86 : (Jvm.Cond.instanceMethod ({ cls := "ConceptLattice", name := "isObject", desc := "(I)Z" } : Jvm.MethodName)) ∈ lw_all := lw_g (lw_at lw_m1 60 rfl) rfl
theorem q87 : (Jvm.Cond.code ({ cls := "ConceptLattice", name := "isObject", desc := "(I)Z" } : Jvm.MethodName) prog_1_method_21_code (2 : Nat) (Option.some Jvm.ClassFile.FieldType.boolean)) ∈ lw_all := lw_g (lw_at lw_m1 61 rfl) rfl
theorem q88 : (Jvm.Cond.methodLink "ConceptLattice" (39 : Nat) ({ cls := "ConceptLattice", name := "isAttribute", desc := "(I)Z" } : Jvm.MethodName)) ∈ lw_all := lw_g (lw_at lw_m1 62 rfl) rfl
theorem q89 : (Jvm.Cond.privateMethod ({ cls := "ConceptLattice", name := "isAttribute", desc := "(I)Z" } : Jvm.MethodName)) ∈ lw_tbl := lw_at lw_m1 63 rfl
theorem q90 : (Jvm.Cond.instanceMethod ({ cls := "ConceptLattice", name := "isAttribute", desc := "(I)Z" } : Jvm.MethodName)) ∈ lw_all := lw_g (lw_at lw_m1 64 rfl) rfl
theorem q91 : (Jvm.Cond.code ({ cls := "ConceptLattice", name := "isAttribute", desc := "(I)Z" } : Jvm.MethodName) prog_1_method_22_code (2 : Nat) (Option.some Jvm.ClassFile.FieldType.boolean)) ∈ lw_all := lw_g (lw_at lw_m1 65 rfl) rfl
theorem q92 : (Jvm.Cond.methodLink "ConceptLattice" (42 : Nat) ({ cls := "ConceptLattice", name := "setRow", desc := "(II)V" } : Jvm.MethodName)) ∈ lw_all := lw_g (lw_at lw_m1 66 rfl) rfl
theorem q93 : (Jvm.Cond.privateMethod ({ cls := "ConceptLattice", name := "setRow", desc := "(II)V" } : Jvm.MethodName)) ∈ lw_tbl := lw_at lw_m1 67 rfl
theorem q94 : (Jvm.Cond.instanceMethod ({ cls := "ConceptLattice", name := "setRow", desc := "(II)V" } : Jvm.MethodName)) ∈ lw_all := lw_g (lw_at lw_m1 68 rfl) rfl
theorem q95 : (Jvm.Cond.code ({ cls := "ConceptLattice", name := "setRow", desc := "(II)V" } : Jvm.MethodName) prog_1_method_25_code (5 : Nat) (Option.none : Option Jvm.ClassFile.FieldType)) ∈ lw_all := lw_g (lw_at lw_m1 69 rfl) rfl
theorem q97 : (Jvm.Cond.instanceMethod ({ cls := "ConceptLattice", name := "row", desc := "(II)I" } : Jvm.MethodName)) ∈ lw_all := lw_g (lw_at lw_m1 71 rfl) rfl
theorem q98 : (Jvm.Cond.selects "ConceptLattice" ({ cls := "ConceptLattice", name := "row", desc := "(II)I" } : Jvm.MethodName) ({ cls := "ConceptLattice", name := "row", desc := "(II)I" } : Jvm.MethodName)) ∈ lw_all := lw_g (lw_at lw_m1 72 rfl) rfl
theorem q99 : (Jvm.Cond.code ({ cls := "ConceptLattice", name := "row", desc := "(II)I" } : Jvm.MethodName) prog_1_method_5_code (4 : Nat) (Option.some Jvm.ClassFile.FieldType.int)) ∈ lw_all := lw_g (lw_at lw_m1 73 rfl) rfl
theorem q100 : (Jvm.Cond.methodLink "ConceptLattice" (46 : Nat) ({ cls := "ConceptLattice", name := "isSet", desc := "(I)Z" } : Jvm.MethodName)) ∈ lw_all := lw_g (lw_at lw_m1 74 rfl) rfl
theorem q101 : (Jvm.Cond.privateMethod ({ cls := "ConceptLattice", name := "isSet", desc := "(I)Z" } : Jvm.MethodName)) ∈ lw_tbl := lw_at lw_m1 75 rfl
theorem q102 : (Jvm.Cond.instanceMethod ({ cls := "ConceptLattice", name := "isSet", desc := "(I)Z" } : Jvm.MethodName)) ∈ lw_all := lw_g (lw_at lw_m1 76 rfl) rfl
theorem q103 : (Jvm.Cond.code ({ cls := "ConceptLattice", name := "isSet", desc := "(I)Z" } : Jvm.MethodName) prog_1_method_23_code (2 : Nat) (Option.some Jvm.ClassFile.FieldType.boolean)) ∈ lw_all := lw_g (lw_at lw_m1 77 rfl) rfl
theorem q105 : (Jvm.Cond.instanceMethod ({ cls := "ConceptLattice", name := "rowOf", desc := "(I)I" } : Jvm.MethodName)) ∈ lw_all := lw_g (lw_at lw_m1 79 rfl) rfl
theorem q106 : (Jvm.Cond.selects "ConceptLattice" ({ cls := "ConceptLattice", name := "rowOf", desc := "(I)I" } : Jvm.MethodName) ({ cls := "ConceptLattice", name := "rowOf", desc := "(I)I" } : Jvm.MethodName)) ∈ lw_all := lw_g (lw_at lw_m1 80 rfl) rfl
theorem q107 : (Jvm.Cond.code ({ cls := "ConceptLattice", name := "rowOf", desc := "(I)I" } : Jvm.MethodName) prog_1_method_6_code (2 : Nat) (Option.some Jvm.ClassFile.FieldType.int)) ∈ lw_all := lw_g (lw_at lw_m1 81 rfl) rfl
theorem q109 : (Jvm.Cond.instanceMethod ({ cls := "ConceptLattice", name := "extent", desc := "(I)I" } : Jvm.MethodName)) ∈ lw_all := lw_g (lw_at lw_m1 83 rfl) rfl
theorem q110 : (Jvm.Cond.selects "ConceptLattice" ({ cls := "ConceptLattice", name := "extent", desc := "(I)I" } : Jvm.MethodName) ({ cls := "ConceptLattice", name := "extent", desc := "(I)I" } : Jvm.MethodName)) ∈ lw_all := lw_g (lw_at lw_m1 84 rfl) rfl
theorem q111 : (Jvm.Cond.code ({ cls := "ConceptLattice", name := "extent", desc := "(I)I" } : Jvm.MethodName) prog_1_method_7_code (2 : Nat) (Option.some Jvm.ClassFile.FieldType.int)) ∈ lw_all := lw_g (lw_at lw_m1 85 rfl) rfl
theorem q112 : (Jvm.Cond.methodLink "ConceptLattice" (49 : Nat) ({ cls := "ConceptLattice", name := "extentOf", desc := "(I)I" } : Jvm.MethodName)) ∈ lw_all := lw_g (lw_at lw_m1 86 rfl) rfl
theorem q113 : (Jvm.Cond.privateMethod ({ cls := "ConceptLattice", name := "extentOf", desc := "(I)I" } : Jvm.MethodName)) ∈ lw_tbl := lw_at lw_m1 87 rfl
theorem q114 : (Jvm.Cond.instanceMethod ({ cls := "ConceptLattice", name := "extentOf", desc := "(I)I" } : Jvm.MethodName)) ∈ lw_all := lw_g (lw_at lw_m1 88 rfl) rfl
theorem q115 : (Jvm.Cond.code ({ cls := "ConceptLattice", name := "extentOf", desc := "(I)I" } : Jvm.MethodName) prog_1_method_26_code (4 : Nat) (Option.some Jvm.ClassFile.FieldType.int)) ∈ lw_all := lw_g (lw_at lw_m1 89 rfl) rfl
theorem q117 : (Jvm.Cond.instanceMethod ({ cls := "ConceptLattice", name := "intent", desc := "(I)I" } : Jvm.MethodName)) ∈ lw_all := lw_g (lw_at lw_m1 91 rfl) rfl
theorem q118 : (Jvm.Cond.selects "ConceptLattice" ({ cls := "ConceptLattice", name := "intent", desc := "(I)I" } : Jvm.MethodName) ({ cls := "ConceptLattice", name := "intent", desc := "(I)I" } : Jvm.MethodName)) ∈ lw_all := lw_g (lw_at lw_m1 92 rfl) rfl
theorem q119 : (Jvm.Cond.code ({ cls := "ConceptLattice", name := "intent", desc := "(I)I" } : Jvm.MethodName) prog_1_method_8_code (2 : Nat) (Option.some Jvm.ClassFile.FieldType.int)) ∈ lw_all := lw_g (lw_at lw_m1 93 rfl) rfl
theorem q120 : (Jvm.Cond.methodLink "ConceptLattice" (53 : Nat) ({ cls := "ConceptLattice", name := "intentOf", desc := "(I)I" } : Jvm.MethodName)) ∈ lw_all := lw_g (lw_at lw_m1 94 rfl) rfl
theorem q121 : (Jvm.Cond.privateMethod ({ cls := "ConceptLattice", name := "intentOf", desc := "(I)I" } : Jvm.MethodName)) ∈ lw_tbl := lw_at lw_m1 95 rfl
theorem q122 : (Jvm.Cond.instanceMethod ({ cls := "ConceptLattice", name := "intentOf", desc := "(I)I" } : Jvm.MethodName)) ∈ lw_all := lw_g (lw_at lw_m1 96 rfl) rfl
theorem q123 : (Jvm.Cond.code ({ cls := "ConceptLattice", name := "intentOf", desc := "(I)I" } : Jvm.MethodName) prog_1_method_27_code (4 : Nat) (Option.some Jvm.ClassFile.FieldType.int)) ∈ lw_all := lw_g (lw_at lw_m1 97 rfl) rfl
theorem q125 : (Jvm.Cond.instanceMethod ({ cls := "ConceptLattice", name := "closure", desc := "(I)I" } : Jvm.MethodName)) ∈ lw_all := lw_g (lw_at lw_m1 99 rfl) rfl
theorem q126 : (Jvm.Cond.selects "ConceptLattice" ({ cls := "ConceptLattice", name := "closure", desc := "(I)I" } : Jvm.MethodName) ({ cls := "ConceptLattice", name := "closure", desc := "(I)I" } : Jvm.MethodName)) ∈ lw_all := lw_g (lw_at lw_m1 100 rfl) rfl
theorem q127 : (Jvm.Cond.code ({ cls := "ConceptLattice", name := "closure", desc := "(I)I" } : Jvm.MethodName) prog_1_method_9_code (2 : Nat) (Option.some Jvm.ClassFile.FieldType.int)) ∈ lw_all := lw_g (lw_at lw_m1 101 rfl) rfl
theorem q128 : (Jvm.Cond.methodLink "ConceptLattice" (56 : Nat) ({ cls := "ConceptLattice", name := "closed", desc := "(I)I" } : Jvm.MethodName)) ∈ lw_all := lw_g (lw_at lw_m1 102 rfl) rfl
theorem q129 : (Jvm.Cond.privateMethod ({ cls := "ConceptLattice", name := "closed", desc := "(I)I" } : Jvm.MethodName)) ∈ lw_tbl := lw_at lw_m1 103 rfl
theorem q130 : (Jvm.Cond.instanceMethod ({ cls := "ConceptLattice", name := "closed", desc := "(I)I" } : Jvm.MethodName)) ∈ lw_all := lw_g (lw_at lw_m1 104 rfl) rfl
theorem q131 : (Jvm.Cond.code ({ cls := "ConceptLattice", name := "closed", desc := "(I)I" } : Jvm.MethodName) prog_1_method_28_code (3 : Nat) (Option.some Jvm.ClassFile.FieldType.int)) ∈ lw_all := lw_g (lw_at lw_m1 105 rfl) rfl
theorem q133 : (Jvm.Cond.instanceMethod ({ cls := "ConceptLattice", name := "closedSets", desc := "()I" } : Jvm.MethodName)) ∈ lw_all := lw_g (lw_at lw_m1 107 rfl) rfl
theorem q134 : (Jvm.Cond.selects "ConceptLattice" ({ cls := "ConceptLattice", name := "closedSets", desc := "()I" } : Jvm.MethodName) ({ cls := "ConceptLattice", name := "closedSets", desc := "()I" } : Jvm.MethodName)) ∈ lw_all := lw_g (lw_at lw_m1 108 rfl) rfl
theorem q135 : (Jvm.Cond.code ({ cls := "ConceptLattice", name := "closedSets", desc := "()I" } : Jvm.MethodName) prog_1_method_10_code (1 : Nat) (Option.some Jvm.ClassFile.FieldType.int)) ∈ lw_all := lw_g (lw_at lw_m1 109 rfl) rfl
theorem q136 : (Jvm.Cond.methodLink "ConceptLattice" (58 : Nat) ({ cls := "ConceptLattice", name := "refresh", desc := "()V" } : Jvm.MethodName)) ∈ lw_all := lw_g (lw_at lw_m1 110 rfl) rfl
theorem q137 : (Jvm.Cond.privateMethod ({ cls := "ConceptLattice", name := "refresh", desc := "()V" } : Jvm.MethodName)) ∈ lw_tbl := lw_at lw_m1 111 rfl
theorem q138 : (Jvm.Cond.instanceMethod ({ cls := "ConceptLattice", name := "refresh", desc := "()V" } : Jvm.MethodName)) ∈ lw_all := lw_g (lw_at lw_m1 112 rfl) rfl
theorem q139 : (Jvm.Cond.code ({ cls := "ConceptLattice", name := "refresh", desc := "()V" } : Jvm.MethodName) prog_1_method_32_code (5 : Nat) (Option.none : Option Jvm.ClassFile.FieldType)) ∈ lw_all := lw_g (lw_at lw_m1 113 rfl) rfl
theorem q140 : (Jvm.Cond.methodLink "ConceptLattice" (64 : Nat) ({ cls := "ConceptLattice", name := "stepClosed", desc := "(I)I" } : Jvm.MethodName)) ∈ lw_all := lw_g (lw_at lw_m1 114 rfl) rfl
theorem q141 : (Jvm.Cond.privateMethod ({ cls := "ConceptLattice", name := "stepClosed", desc := "(I)I" } : Jvm.MethodName)) ∈ lw_tbl := lw_at lw_m1 115 rfl
theorem q142 : (Jvm.Cond.instanceMethod ({ cls := "ConceptLattice", name := "stepClosed", desc := "(I)I" } : Jvm.MethodName)) ∈ lw_all := lw_g (lw_at lw_m1 116 rfl) rfl
theorem q143 : (Jvm.Cond.code ({ cls := "ConceptLattice", name := "stepClosed", desc := "(I)I" } : Jvm.MethodName) prog_1_method_29_code (6 : Nat) (Option.some Jvm.ClassFile.FieldType.int)) ∈ lw_all := lw_g (lw_at lw_m1 117 rfl) rfl
theorem q144 : (Jvm.Cond.methodLink "ConceptLattice" (83 : Nat) ({ cls := "ConceptLattice", name := "stepRules", desc := "(I)I" } : Jvm.MethodName)) ∈ lw_all := lw_g (lw_at lw_m1 118 rfl) rfl
theorem q145 : (Jvm.Cond.privateMethod ({ cls := "ConceptLattice", name := "stepRules", desc := "(I)I" } : Jvm.MethodName)) ∈ lw_tbl := lw_at lw_m1 119 rfl
theorem q146 : (Jvm.Cond.instanceMethod ({ cls := "ConceptLattice", name := "stepRules", desc := "(I)I" } : Jvm.MethodName)) ∈ lw_all := lw_g (lw_at lw_m1 120 rfl) rfl
theorem q147 : (Jvm.Cond.code ({ cls := "ConceptLattice", name := "stepRules", desc := "(I)I" } : Jvm.MethodName) prog_1_method_31_code (6 : Nat) (Option.some Jvm.ClassFile.FieldType.int)) ∈ lw_all := lw_g (lw_at lw_m1 121 rfl) rfl
theorem q148 : (Jvm.Cond.methodLink "ConceptLattice" (80 : Nat) ({ cls := "ConceptLattice", name := "underRules", desc := "(I)I" } : Jvm.MethodName)) ∈ lw_all := lw_g (lw_at lw_m1 122 rfl) rfl
theorem q149 : (Jvm.Cond.privateMethod ({ cls := "ConceptLattice", name := "underRules", desc := "(I)I" } : Jvm.MethodName)) ∈ lw_tbl := lw_at lw_m1 123 rfl
theorem q150 : (Jvm.Cond.instanceMethod ({ cls := "ConceptLattice", name := "underRules", desc := "(I)I" } : Jvm.MethodName)) ∈ lw_all := lw_g (lw_at lw_m1 124 rfl) rfl
theorem q151 : (Jvm.Cond.code ({ cls := "ConceptLattice", name := "underRules", desc := "(I)I" } : Jvm.MethodName) prog_1_method_30_code (6 : Nat) (Option.some Jvm.ClassFile.FieldType.int)) ∈ lw_all := lw_g (lw_at lw_m1 125 rfl) rfl
theorem q153 : (Jvm.Cond.instanceMethod ({ cls := "ConceptLattice", name := "closedSet", desc := "(I)I" } : Jvm.MethodName)) ∈ lw_all := lw_g (lw_at lw_m1 127 rfl) rfl
theorem q154 : (Jvm.Cond.selects "ConceptLattice" ({ cls := "ConceptLattice", name := "closedSet", desc := "(I)I" } : Jvm.MethodName) ({ cls := "ConceptLattice", name := "closedSet", desc := "(I)I" } : Jvm.MethodName)) ∈ lw_all := lw_g (lw_at lw_m1 128 rfl) rfl
theorem q155 : (Jvm.Cond.code ({ cls := "ConceptLattice", name := "closedSet", desc := "(I)I" } : Jvm.MethodName) prog_1_method_11_code (2 : Nat) (Option.some Jvm.ClassFile.FieldType.int)) ∈ lw_all := lw_g (lw_at lw_m1 129 rfl) rfl
theorem q157 : (Jvm.Cond.instanceMethod ({ cls := "ConceptLattice", name := "nextClosed", desc := "(I)I" } : Jvm.MethodName)) ∈ lw_all := lw_g (lw_at lw_m1 131 rfl) rfl
theorem q158 : (Jvm.Cond.selects "ConceptLattice" ({ cls := "ConceptLattice", name := "nextClosed", desc := "(I)I" } : Jvm.MethodName) ({ cls := "ConceptLattice", name := "nextClosed", desc := "(I)I" } : Jvm.MethodName)) ∈ lw_all := lw_g (lw_at lw_m1 132 rfl) rfl
theorem q159 : (Jvm.Cond.code ({ cls := "ConceptLattice", name := "nextClosed", desc := "(I)I" } : Jvm.MethodName) prog_1_method_12_code (3 : Nat) (Option.some Jvm.ClassFile.FieldType.int)) ∈ lw_all := lw_g (lw_at lw_m1 133 rfl) rfl
theorem q161 : (Jvm.Cond.instanceMethod ({ cls := "ConceptLattice", name := "follows", desc := "(II)I" } : Jvm.MethodName)) ∈ lw_all := lw_g (lw_at lw_m1 135 rfl) rfl
theorem q162 : (Jvm.Cond.selects "ConceptLattice" ({ cls := "ConceptLattice", name := "follows", desc := "(II)I" } : Jvm.MethodName) ({ cls := "ConceptLattice", name := "follows", desc := "(II)I" } : Jvm.MethodName)) ∈ lw_all := lw_g (lw_at lw_m1 136 rfl) rfl
theorem q163 : (Jvm.Cond.code ({ cls := "ConceptLattice", name := "follows", desc := "(II)I" } : Jvm.MethodName) prog_1_method_13_code (3 : Nat) (Option.some Jvm.ClassFile.FieldType.int)) ∈ lw_all := lw_g (lw_at lw_m1 137 rfl) rfl
theorem q165 : (Jvm.Cond.instanceMethod ({ cls := "ConceptLattice", name := "rules", desc := "()I" } : Jvm.MethodName)) ∈ lw_all := lw_g (lw_at lw_m1 139 rfl) rfl
theorem q166 : (Jvm.Cond.selects "ConceptLattice" ({ cls := "ConceptLattice", name := "rules", desc := "()I" } : Jvm.MethodName) ({ cls := "ConceptLattice", name := "rules", desc := "()I" } : Jvm.MethodName)) ∈ lw_all := lw_g (lw_at lw_m1 140 rfl) rfl
theorem q167 : (Jvm.Cond.code ({ cls := "ConceptLattice", name := "rules", desc := "()I" } : Jvm.MethodName) prog_1_method_14_code (1 : Nat) (Option.some Jvm.ClassFile.FieldType.int)) ∈ lw_all := lw_g (lw_at lw_m1 141 rfl) rfl
theorem q169 : (Jvm.Cond.instanceMethod ({ cls := "ConceptLattice", name := "rule", desc := "(I)I" } : Jvm.MethodName)) ∈ lw_all := lw_g (lw_at lw_m1 143 rfl) rfl
theorem q170 : (Jvm.Cond.selects "ConceptLattice" ({ cls := "ConceptLattice", name := "rule", desc := "(I)I" } : Jvm.MethodName) ({ cls := "ConceptLattice", name := "rule", desc := "(I)I" } : Jvm.MethodName)) ∈ lw_all := lw_g (lw_at lw_m1 144 rfl) rfl
theorem q171 : (Jvm.Cond.code ({ cls := "ConceptLattice", name := "rule", desc := "(I)I" } : Jvm.MethodName) prog_1_method_15_code (2 : Nat) (Option.some Jvm.ClassFile.FieldType.int)) ∈ lw_all := lw_g (lw_at lw_m1 145 rfl) rfl
theorem q173 : (Jvm.Cond.instanceMethod ({ cls := "ConceptLattice", name := "covers", desc := "(I)I" } : Jvm.MethodName)) ∈ lw_all := lw_g (lw_at lw_m1 147 rfl) rfl
theorem q174 : (Jvm.Cond.selects "ConceptLattice" ({ cls := "ConceptLattice", name := "covers", desc := "(I)I" } : Jvm.MethodName) ({ cls := "ConceptLattice", name := "covers", desc := "(I)I" } : Jvm.MethodName)) ∈ lw_all := lw_g (lw_at lw_m1 148 rfl) rfl
theorem q175 : (Jvm.Cond.code ({ cls := "ConceptLattice", name := "covers", desc := "(I)I" } : Jvm.MethodName) prog_1_method_16_code (3 : Nat) (Option.some Jvm.ClassFile.FieldType.int)) ∈ lw_all := lw_g (lw_at lw_m1 149 rfl) rfl
theorem q176 : (Jvm.Cond.methodLink "ConceptLattice" (70 : Nat) ({ cls := "ConceptLattice", name := "coversOf", desc := "(I)I" } : Jvm.MethodName)) ∈ lw_all := lw_g (lw_at lw_m1 150 rfl) rfl
theorem q177 : (Jvm.Cond.privateMethod ({ cls := "ConceptLattice", name := "coversOf", desc := "(I)I" } : Jvm.MethodName)) ∈ lw_tbl := lw_at lw_m1 151 rfl
theorem q178 : (Jvm.Cond.instanceMethod ({ cls := "ConceptLattice", name := "coversOf", desc := "(I)I" } : Jvm.MethodName)) ∈ lw_all := lw_g (lw_at lw_m1 152 rfl) rfl
theorem q179 : (Jvm.Cond.code ({ cls := "ConceptLattice", name := "coversOf", desc := "(I)I" } : Jvm.MethodName) prog_1_method_33_code (4 : Nat) (Option.some Jvm.ClassFile.FieldType.int)) ∈ lw_all := lw_g (lw_at lw_m1 153 rfl) rfl
theorem q180 : (Jvm.Cond.methodLink "ConceptLattice" (86 : Nat) ({ cls := "ConceptLattice", name := "isLeast", desc := "(II)Z" } : Jvm.MethodName)) ∈ lw_all := lw_g (lw_at lw_m1 154 rfl) rfl
theorem q181 : (Jvm.Cond.privateMethod ({ cls := "ConceptLattice", name := "isLeast", desc := "(II)Z" } : Jvm.MethodName)) ∈ lw_tbl := lw_at lw_m1 155 rfl
theorem q182 : (Jvm.Cond.instanceMethod ({ cls := "ConceptLattice", name := "isLeast", desc := "(II)Z" } : Jvm.MethodName)) ∈ lw_all := lw_g (lw_at lw_m1 156 rfl) rfl
theorem q183 : (Jvm.Cond.code ({ cls := "ConceptLattice", name := "isLeast", desc := "(II)Z" } : Jvm.MethodName) prog_1_method_34_code (6 : Nat) (Option.some Jvm.ClassFile.FieldType.boolean)) ∈ lw_all := lw_g (lw_at lw_m1 157 rfl) rfl
theorem q185 : (Jvm.Cond.instanceMethod ({ cls := "ConceptLattice", name := "links", desc := "()I" } : Jvm.MethodName)) ∈ lw_all := lw_g (lw_at lw_m1 159 rfl) rfl
theorem q186 : (Jvm.Cond.selects "ConceptLattice" ({ cls := "ConceptLattice", name := "links", desc := "()I" } : Jvm.MethodName) ({ cls := "ConceptLattice", name := "links", desc := "()I" } : Jvm.MethodName)) ∈ lw_all := lw_g (lw_at lw_m1 160 rfl) rfl
theorem q187 : (Jvm.Cond.code ({ cls := "ConceptLattice", name := "links", desc := "()I" } : Jvm.MethodName) prog_1_method_17_code (3 : Nat) (Option.some Jvm.ClassFile.FieldType.int)) ∈ lw_all := lw_g (lw_at lw_m1 161 rfl) rfl
theorem q189 : (Jvm.Cond.instanceMethod ({ cls := "ConceptLattice", name := "height", desc := "()I" } : Jvm.MethodName)) ∈ lw_all := lw_g (lw_at lw_m1 163 rfl) rfl
theorem q190 : (Jvm.Cond.selects "ConceptLattice" ({ cls := "ConceptLattice", name := "height", desc := "()I" } : Jvm.MethodName) ({ cls := "ConceptLattice", name := "height", desc := "()I" } : Jvm.MethodName)) ∈ lw_all := lw_g (lw_at lw_m1 164 rfl) rfl
theorem q191 : (Jvm.Cond.code ({ cls := "ConceptLattice", name := "height", desc := "()I" } : Jvm.MethodName) prog_1_method_18_code (4 : Nat) (Option.some Jvm.ClassFile.FieldType.int)) ∈ lw_all := lw_g (lw_at lw_m1 165 rfl) rfl
theorem q193 : (Jvm.Cond.instanceMethod ({ cls := "ConceptLattice", name := "generatorSize", desc := "(I)I" } : Jvm.MethodName)) ∈ lw_all := lw_g (lw_at lw_m1 167 rfl) rfl
theorem q194 : (Jvm.Cond.selects "ConceptLattice" ({ cls := "ConceptLattice", name := "generatorSize", desc := "(I)I" } : Jvm.MethodName) ({ cls := "ConceptLattice", name := "generatorSize", desc := "(I)I" } : Jvm.MethodName)) ∈ lw_all := lw_g (lw_at lw_m1 168 rfl) rfl
theorem q195 : (Jvm.Cond.code ({ cls := "ConceptLattice", name := "generatorSize", desc := "(I)I" } : Jvm.MethodName) prog_1_method_19_code (7 : Nat) (Option.some Jvm.ClassFile.FieldType.int)) ∈ lw_all := lw_g (lw_at lw_m1 169 rfl) rfl
theorem q196 : (Jvm.Cond.methodLink "ConceptLattice" (73 : Nat) ({ cls := "ConceptLattice", name := "ones", desc := "(I)I" } : Jvm.MethodName)) ∈ lw_all := lw_g (lw_at lw_m1 170 rfl) rfl
theorem q197 : (Jvm.Cond.static ({ cls := "ConceptLattice", name := "ones", desc := "(I)I" } : Jvm.MethodName)) ∈ lw_all := lw_g (lw_at lw_m1 171 rfl) rfl
theorem q198 : (Jvm.Cond.code ({ cls := "ConceptLattice", name := "ones", desc := "(I)I" } : Jvm.MethodName) prog_1_method_24_code (3 : Nat) (Option.some Jvm.ClassFile.FieldType.int)) ∈ lw_all := lw_g (lw_at lw_m1 172 rfl) rfl
theorem q200 : (Jvm.Cond.instanceMethod ({ cls := "ConceptLattice", name := "dispensable", desc := "(I)I" } : Jvm.MethodName)) ∈ lw_all := lw_g (lw_at lw_m1 174 rfl) rfl
theorem q201 : (Jvm.Cond.selects "ConceptLattice" ({ cls := "ConceptLattice", name := "dispensable", desc := "(I)I" } : Jvm.MethodName) ({ cls := "ConceptLattice", name := "dispensable", desc := "(I)I" } : Jvm.MethodName)) ∈ lw_all := lw_g (lw_at lw_m1 175 rfl) rfl
theorem q202 : (Jvm.Cond.code ({ cls := "ConceptLattice", name := "dispensable", desc := "(I)I" } : Jvm.MethodName) prog_1_method_20_code (5 : Nat) (Option.some Jvm.ClassFile.FieldType.int)) ∈ lw_all := lw_g (lw_at lw_m1 176 rfl) rfl
theorem in_X1 : ∀ w ∈ wsX10, w ∈ lw_all := lw_in wsX10 [48, 50, 52, 54, 56, 58, 60, 62, 64, 66, 68] (by decide +kernel) (by decide +kernel)
end
section
/-! ConceptLatticeModel -/
set_option maxRecDepth 100000
def RX2 : String := "ConceptLatticeModel"
def TX2 : u_T := fun k => match k with
  | 0 => ("ConceptLatticeModel", "n", "I", false)
  | 1 => ("ConceptLatticeModel", "m", "I", false)
  | 2 => ("ConceptLatticeModel", "all", "I", false)
  | 3 => ("ConceptLatticeModel", "rows", "[I", false)
  | 4 => ("ConceptLatticeModel", "closed", "[Z", false)
  | 5 => ("ConceptLatticeModel", "pseudo", "[Z", false)
  | 6 => ("ConceptLatticeModel", "closures", "[I", false)
  | _ => ("ConceptLatticeModel", "chain", "[I", false)
def tyX2 : Nat → FieldType := fun k => match k with
  | 0 => .int
  | 1 => .int
  | 2 => .int
  | 3 => .array .int
  | 4 => .array .boolean
  | 5 => .array .boolean
  | 6 => .array .int
  | _ => .array .int
abbrev wsX20 : List Cond := u_ws RX2 TX2 8
theorem nmX2 : ∀ a, a < 8 → ∀ b, b < 8 → a ≠ b → (TX2 a).2.1 ≠ (TX2 b).2.1 := by decide +kernel
theorem tyX2_ok : ∀ k, k < 8 → parseFieldDescriptor (TX2 k).2.2.1 = some (tyX2 k) := by decide +kernel
abbrev cX2_init : ByteArray := prog_3_method_1_code
def yX2_init : MethodName := ⟨RX2, "<init>", "(II)V"⟩
theorem dX2_init_0 : decode cX2_init 0 = .ok (.aload_n 0, 1) := by decide +kernel
theorem dX2_init_1 : decode cX2_init 1 = .ok (.invokespecial 1, 3) := by decide +kernel
theorem dX2_init_4 : decode cX2_init 4 = .ok (.aload_n 0, 1) := by decide +kernel
theorem dX2_init_5 : decode cX2_init 5 = .ok (.bipush 8, 2) := by decide +kernel
theorem dX2_init_7 : decode cX2_init 7 = .ok (.newarray .int, 2) := by decide +kernel
theorem dX2_init_9 : decode cX2_init 9 = .ok (.putfield 7, 3) := by decide +kernel
theorem dX2_init_12 : decode cX2_init 12 = .ok (.aload_n 0, 1) := by decide +kernel
theorem dX2_init_13 : decode cX2_init 13 = .ok (.sipush 128, 3) := by decide +kernel
theorem dX2_init_16 : decode cX2_init 16 = .ok (.newarray .boolean, 2) := by decide +kernel
theorem dX2_init_18 : decode cX2_init 18 = .ok (.putfield 13, 3) := by decide +kernel
theorem dX2_init_21 : decode cX2_init 21 = .ok (.aload_n 0, 1) := by decide +kernel
theorem dX2_init_22 : decode cX2_init 22 = .ok (.sipush 128, 3) := by decide +kernel
theorem dX2_init_25 : decode cX2_init 25 = .ok (.newarray .boolean, 2) := by decide +kernel
theorem dX2_init_27 : decode cX2_init 27 = .ok (.putfield 17, 3) := by decide +kernel
theorem dX2_init_30 : decode cX2_init 30 = .ok (.aload_n 0, 1) := by decide +kernel
theorem dX2_init_31 : decode cX2_init 31 = .ok (.sipush 128, 3) := by decide +kernel
theorem dX2_init_34 : decode cX2_init 34 = .ok (.newarray .int, 2) := by decide +kernel
theorem dX2_init_36 : decode cX2_init 36 = .ok (.putfield 20, 3) := by decide +kernel
theorem dX2_init_39 : decode cX2_init 39 = .ok (.aload_n 0, 1) := by decide +kernel
theorem dX2_init_40 : decode cX2_init 40 = .ok (.sipush 128, 3) := by decide +kernel
theorem dX2_init_43 : decode cX2_init 43 = .ok (.newarray .int, 2) := by decide +kernel
theorem dX2_init_45 : decode cX2_init 45 = .ok (.putfield 23, 3) := by decide +kernel
theorem dX2_init_48 : decode cX2_init 48 = .ok (.aload_n 0, 1) := by decide +kernel
theorem dX2_init_49 : decode cX2_init 49 = .ok (.iload_n 1, 1) := by decide +kernel
theorem dX2_init_50 : decode cX2_init 50 = .ok (.iconst 1, 1) := by decide +kernel
theorem dX2_init_51 : decode cX2_init 51 = .ok (.if_icmp .ge 7, 3) := by decide +kernel
theorem dX2_init_54 : decode cX2_init 54 = .ok (.iconst 1, 1) := by decide +kernel
theorem dX2_init_55 : decode cX2_init 55 = .ok (.goto 15, 3) := by decide +kernel
theorem dX2_init_58 : decode cX2_init 58 = .ok (.iload_n 1, 1) := by decide +kernel
theorem dX2_init_59 : decode cX2_init 59 = .ok (.bipush 8, 2) := by decide +kernel
theorem dX2_init_61 : decode cX2_init 61 = .ok (.if_icmp .le 8, 3) := by decide +kernel
theorem dX2_init_64 : decode cX2_init 64 = .ok (.bipush 8, 2) := by decide +kernel
theorem dX2_init_66 : decode cX2_init 66 = .ok (.goto 4, 3) := by decide +kernel
theorem dX2_init_69 : decode cX2_init 69 = .ok (.iload_n 1, 1) := by decide +kernel
theorem dX2_init_70 : decode cX2_init 70 = .ok (.putfield 26, 3) := by decide +kernel
theorem dX2_init_73 : decode cX2_init 73 = .ok (.aload_n 0, 1) := by decide +kernel
theorem dX2_init_74 : decode cX2_init 74 = .ok (.iload_n 2, 1) := by decide +kernel
theorem dX2_init_75 : decode cX2_init 75 = .ok (.iconst 2, 1) := by decide +kernel
theorem dX2_init_76 : decode cX2_init 76 = .ok (.if_icmp .ge 7, 3) := by decide +kernel
theorem dX2_init_79 : decode cX2_init 79 = .ok (.iconst 2, 1) := by decide +kernel
theorem dX2_init_80 : decode cX2_init 80 = .ok (.goto 15, 3) := by decide +kernel
theorem dX2_init_83 : decode cX2_init 83 = .ok (.iload_n 2, 1) := by decide +kernel
theorem dX2_init_84 : decode cX2_init 84 = .ok (.bipush 7, 2) := by decide +kernel
theorem dX2_init_86 : decode cX2_init 86 = .ok (.if_icmp .le 8, 3) := by decide +kernel
theorem dX2_init_89 : decode cX2_init 89 = .ok (.bipush 7, 2) := by decide +kernel
theorem dX2_init_91 : decode cX2_init 91 = .ok (.goto 4, 3) := by decide +kernel
theorem dX2_init_94 : decode cX2_init 94 = .ok (.iload_n 2, 1) := by decide +kernel
theorem dX2_init_95 : decode cX2_init 95 = .ok (.putfield 30, 3) := by decide +kernel
theorem dX2_init_98 : decode cX2_init 98 = .ok (.aload_n 0, 1) := by decide +kernel
theorem dX2_init_99 : decode cX2_init 99 = .ok (.iconst 1, 1) := by decide +kernel
theorem dX2_init_100 : decode cX2_init 100 = .ok (.aload_n 0, 1) := by decide +kernel
theorem dX2_init_101 : decode cX2_init 101 = .ok (.getfield 30, 3) := by decide +kernel
theorem dX2_init_104 : decode cX2_init 104 = .ok (.ishl, 1) := by decide +kernel
theorem dX2_init_105 : decode cX2_init 105 = .ok (.iconst 1, 1) := by decide +kernel
theorem dX2_init_106 : decode cX2_init 106 = .ok (.isub, 1) := by decide +kernel
theorem dX2_init_107 : decode cX2_init 107 = .ok (.putfield 33, 3) := by decide +kernel
theorem dX2_init_110 : decode cX2_init 110 = .ok (.return_, 1) := by decide +kernel
abbrev cX2_objects : ByteArray := prog_3_method_2_code
def yX2_objects : MethodName := ⟨RX2, "objects", "()I"⟩
theorem dX2_objects_0 : decode cX2_objects 0 = .ok (.aload_n 0, 1) := by decide +kernel
theorem dX2_objects_1 : decode cX2_objects 1 = .ok (.getfield 26, 3) := by decide +kernel
theorem dX2_objects_4 : decode cX2_objects 4 = .ok (.ireturn, 1) := by decide +kernel
abbrev cX2_attributes : ByteArray := prog_3_method_3_code
def yX2_attributes : MethodName := ⟨RX2, "attributes", "()I"⟩
theorem dX2_attributes_0 : decode cX2_attributes 0 = .ok (.aload_n 0, 1) := by decide +kernel
theorem dX2_attributes_1 : decode cX2_attributes 1 = .ok (.getfield 30, 3) := by decide +kernel
theorem dX2_attributes_4 : decode cX2_attributes 4 = .ok (.ireturn, 1) := by decide +kernel
abbrev cX2_cross : ByteArray := prog_3_method_9_code
def yX2_cross : MethodName := ⟨RX2, "cross", "(III)I"⟩
theorem dX2_cross_0 : decode cX2_cross 0 = .ok (.aload_n 0, 1) := by decide +kernel
theorem dX2_cross_1 : decode cX2_cross 1 = .ok (.iload_n 1, 1) := by decide +kernel
theorem dX2_cross_2 : decode cX2_cross 2 = .ok (.invokevirtual 40, 3) := by decide +kernel
theorem dX2_cross_5 : decode cX2_cross 5 = .ok (.ifCond .eq 5, 3) := by decide +kernel
theorem dX2_cross_8 : decode cX2_cross 8 = .ok (.iconst (-1), 1) := by decide +kernel
theorem dX2_cross_9 : decode cX2_cross 9 = .ok (.ireturn, 1) := by decide +kernel
theorem dX2_cross_10 : decode cX2_cross 10 = .ok (.aload_n 0, 1) := by decide +kernel
theorem dX2_cross_11 : decode cX2_cross 11 = .ok (.iload_n 2, 1) := by decide +kernel
theorem dX2_cross_12 : decode cX2_cross 12 = .ok (.invokevirtual 44, 3) := by decide +kernel
theorem dX2_cross_15 : decode cX2_cross 15 = .ok (.ifCond .eq 6, 3) := by decide +kernel
theorem dX2_cross_18 : decode cX2_cross 18 = .ok (.bipush (-2), 2) := by decide +kernel
theorem dX2_cross_20 : decode cX2_cross 20 = .ok (.ireturn, 1) := by decide +kernel
theorem dX2_cross_21 : decode cX2_cross 21 = .ok (.aload_n 0, 1) := by decide +kernel
theorem dX2_cross_22 : decode cX2_cross 22 = .ok (.getfield 7, 3) := by decide +kernel
theorem dX2_cross_25 : decode cX2_cross 25 = .ok (.iload_n 1, 1) := by decide +kernel
theorem dX2_cross_26 : decode cX2_cross 26 = .ok (.iaload, 1) := by decide +kernel
theorem dX2_cross_27 : decode cX2_cross 27 = .ok (.iload_n 2, 1) := by decide +kernel
theorem dX2_cross_28 : decode cX2_cross 28 = .ok (.ishr, 1) := by decide +kernel
theorem dX2_cross_29 : decode cX2_cross 29 = .ok (.iconst 1, 1) := by decide +kernel
theorem dX2_cross_30 : decode cX2_cross 30 = .ok (.iand, 1) := by decide +kernel
theorem dX2_cross_31 : decode cX2_cross 31 = .ok (.istore 4, 2) := by decide +kernel
theorem dX2_cross_33 : decode cX2_cross 33 = .ok (.aload_n 0, 1) := by decide +kernel
theorem dX2_cross_34 : decode cX2_cross 34 = .ok (.getfield 7, 3) := by decide +kernel
theorem dX2_cross_37 : decode cX2_cross 37 = .ok (.iload_n 1, 1) := by decide +kernel
theorem dX2_cross_38 : decode cX2_cross 38 = .ok (.iload_n 3, 1) := by decide +kernel
theorem dX2_cross_39 : decode cX2_cross 39 = .ok (.ifCond .eq 16, 3) := by decide +kernel
theorem dX2_cross_42 : decode cX2_cross 42 = .ok (.aload_n 0, 1) := by decide +kernel
theorem dX2_cross_43 : decode cX2_cross 43 = .ok (.getfield 7, 3) := by decide +kernel
theorem dX2_cross_46 : decode cX2_cross 46 = .ok (.iload_n 1, 1) := by decide +kernel
theorem dX2_cross_47 : decode cX2_cross 47 = .ok (.iaload, 1) := by decide +kernel
theorem dX2_cross_48 : decode cX2_cross 48 = .ok (.iconst 1, 1) := by decide +kernel
theorem dX2_cross_49 : decode cX2_cross 49 = .ok (.iload_n 2, 1) := by decide +kernel
theorem dX2_cross_50 : decode cX2_cross 50 = .ok (.ishl, 1) := by decide +kernel
theorem dX2_cross_51 : decode cX2_cross 51 = .ok (.ior, 1) := by decide +kernel
theorem dX2_cross_52 : decode cX2_cross 52 = .ok (.goto 15, 3) := by decide +kernel
theorem dX2_cross_55 : decode cX2_cross 55 = .ok (.aload_n 0, 1) := by decide +kernel
theorem dX2_cross_56 : decode cX2_cross 56 = .ok (.getfield 7, 3) := by decide +kernel
theorem dX2_cross_59 : decode cX2_cross 59 = .ok (.iload_n 1, 1) := by decide +kernel
theorem dX2_cross_60 : decode cX2_cross 60 = .ok (.iaload, 1) := by decide +kernel
theorem dX2_cross_61 : decode cX2_cross 61 = .ok (.iconst 1, 1) := by decide +kernel
theorem dX2_cross_62 : decode cX2_cross 62 = .ok (.iload_n 2, 1) := by decide +kernel
theorem dX2_cross_63 : decode cX2_cross 63 = .ok (.ishl, 1) := by decide +kernel
theorem dX2_cross_64 : decode cX2_cross 64 = .ok (.iconst (-1), 1) := by decide +kernel
theorem dX2_cross_65 : decode cX2_cross 65 = .ok (.ixor, 1) := by decide +kernel
theorem dX2_cross_66 : decode cX2_cross 66 = .ok (.iand, 1) := by decide +kernel
theorem dX2_cross_67 : decode cX2_cross 67 = .ok (.iastore, 1) := by decide +kernel
theorem dX2_cross_68 : decode cX2_cross 68 = .ok (.iload 4, 2) := by decide +kernel
theorem dX2_cross_70 : decode cX2_cross 70 = .ok (.ireturn, 1) := by decide +kernel
abbrev cX2_badObject : ByteArray := prog_3_method_4_code
def yX2_badObject : MethodName := ⟨RX2, "badObject", "(I)Z"⟩
theorem dX2_badObject_0 : decode cX2_badObject 0 = .ok (.iload_n 1, 1) := by decide +kernel
theorem dX2_badObject_1 : decode cX2_badObject 1 = .ok (.ifCond .lt 17, 3) := by decide +kernel
theorem dX2_badObject_4 : decode cX2_badObject 4 = .ok (.iload_n 1, 1) := by decide +kernel
theorem dX2_badObject_5 : decode cX2_badObject 5 = .ok (.aload_n 0, 1) := by decide +kernel
theorem dX2_badObject_6 : decode cX2_badObject 6 = .ok (.getfield 26, 3) := by decide +kernel
theorem dX2_badObject_9 : decode cX2_badObject 9 = .ok (.if_icmp .ge 9, 3) := by decide +kernel
theorem dX2_badObject_12 : decode cX2_badObject 12 = .ok (.iload_n 1, 1) := by decide +kernel
theorem dX2_badObject_13 : decode cX2_badObject 13 = .ok (.bipush 7, 2) := by decide +kernel
theorem dX2_badObject_15 : decode cX2_badObject 15 = .ok (.if_icmp .le 7, 3) := by decide +kernel
theorem dX2_badObject_18 : decode cX2_badObject 18 = .ok (.iconst 1, 1) := by decide +kernel
theorem dX2_badObject_19 : decode cX2_badObject 19 = .ok (.goto 4, 3) := by decide +kernel
theorem dX2_badObject_22 : decode cX2_badObject 22 = .ok (.iconst 0, 1) := by decide +kernel
theorem dX2_badObject_23 : decode cX2_badObject 23 = .ok (.ireturn, 1) := by decide +kernel
abbrev cX2_badAttribute : ByteArray := prog_3_method_5_code
def yX2_badAttribute : MethodName := ⟨RX2, "badAttribute", "(I)Z"⟩
theorem dX2_badAttribute_0 : decode cX2_badAttribute 0 = .ok (.iload_n 1, 1) := by decide +kernel
theorem dX2_badAttribute_1 : decode cX2_badAttribute 1 = .ok (.ifCond .lt 11, 3) := by decide +kernel
theorem dX2_badAttribute_4 : decode cX2_badAttribute 4 = .ok (.iload_n 1, 1) := by decide +kernel
theorem dX2_badAttribute_5 : decode cX2_badAttribute 5 = .ok (.aload_n 0, 1) := by decide +kernel
theorem dX2_badAttribute_6 : decode cX2_badAttribute 6 = .ok (.getfield 30, 3) := by decide +kernel
theorem dX2_badAttribute_9 : decode cX2_badAttribute 9 = .ok (.if_icmp .lt 7, 3) := by decide +kernel
theorem dX2_badAttribute_12 : decode cX2_badAttribute 12 = .ok (.iconst 1, 1) := by decide +kernel
theorem dX2_badAttribute_13 : decode cX2_badAttribute 13 = .ok (.goto 4, 3) := by decide +kernel
theorem dX2_badAttribute_16 : decode cX2_badAttribute 16 = .ok (.iconst 0, 1) := by decide +kernel
theorem dX2_badAttribute_17 : decode cX2_badAttribute 17 = .ok (.ireturn, 1) := by decide +kernel
abbrev cX2_row : ByteArray := prog_3_method_10_code
def yX2_row : MethodName := ⟨RX2, "row", "(II)I"⟩
theorem dX2_row_0 : decode cX2_row 0 = .ok (.aload_n 0, 1) := by decide +kernel
theorem dX2_row_1 : decode cX2_row 1 = .ok (.iload_n 1, 1) := by decide +kernel
theorem dX2_row_2 : decode cX2_row 2 = .ok (.invokevirtual 40, 3) := by decide +kernel
theorem dX2_row_5 : decode cX2_row 5 = .ok (.ifCond .eq 5, 3) := by decide +kernel
theorem dX2_row_8 : decode cX2_row 8 = .ok (.iconst (-1), 1) := by decide +kernel
theorem dX2_row_9 : decode cX2_row 9 = .ok (.ireturn, 1) := by decide +kernel
theorem dX2_row_10 : decode cX2_row 10 = .ok (.aload_n 0, 1) := by decide +kernel
theorem dX2_row_11 : decode cX2_row 11 = .ok (.iload_n 2, 1) := by decide +kernel
theorem dX2_row_12 : decode cX2_row 12 = .ok (.invokevirtual 47, 3) := by decide +kernel
theorem dX2_row_15 : decode cX2_row 15 = .ok (.ifCond .eq 6, 3) := by decide +kernel
theorem dX2_row_18 : decode cX2_row 18 = .ok (.bipush (-2), 2) := by decide +kernel
theorem dX2_row_20 : decode cX2_row 20 = .ok (.ireturn, 1) := by decide +kernel
theorem dX2_row_21 : decode cX2_row 21 = .ok (.aload_n 0, 1) := by decide +kernel
theorem dX2_row_22 : decode cX2_row 22 = .ok (.getfield 7, 3) := by decide +kernel
theorem dX2_row_25 : decode cX2_row 25 = .ok (.iload_n 1, 1) := by decide +kernel
theorem dX2_row_26 : decode cX2_row 26 = .ok (.iaload, 1) := by decide +kernel
theorem dX2_row_27 : decode cX2_row 27 = .ok (.istore_n 3, 1) := by decide +kernel
theorem dX2_row_28 : decode cX2_row 28 = .ok (.aload_n 0, 1) := by decide +kernel
theorem dX2_row_29 : decode cX2_row 29 = .ok (.getfield 7, 3) := by decide +kernel
theorem dX2_row_32 : decode cX2_row 32 = .ok (.iload_n 1, 1) := by decide +kernel
theorem dX2_row_33 : decode cX2_row 33 = .ok (.iload_n 2, 1) := by decide +kernel
theorem dX2_row_34 : decode cX2_row 34 = .ok (.iastore, 1) := by decide +kernel
theorem dX2_row_35 : decode cX2_row 35 = .ok (.iload_n 3, 1) := by decide +kernel
theorem dX2_row_36 : decode cX2_row 36 = .ok (.ireturn, 1) := by decide +kernel
abbrev cX2_badSet : ByteArray := prog_3_method_6_code
def yX2_badSet : MethodName := ⟨RX2, "badSet", "(I)Z"⟩
theorem dX2_badSet_0 : decode cX2_badSet 0 = .ok (.iload_n 1, 1) := by decide +kernel
theorem dX2_badSet_1 : decode cX2_badSet 1 = .ok (.ifCond .lt 11, 3) := by decide +kernel
theorem dX2_badSet_4 : decode cX2_badSet 4 = .ok (.iload_n 1, 1) := by decide +kernel
theorem dX2_badSet_5 : decode cX2_badSet 5 = .ok (.aload_n 0, 1) := by decide +kernel
theorem dX2_badSet_6 : decode cX2_badSet 6 = .ok (.getfield 33, 3) := by decide +kernel
theorem dX2_badSet_9 : decode cX2_badSet 9 = .ok (.if_icmp .le 7, 3) := by decide +kernel
theorem dX2_badSet_12 : decode cX2_badSet 12 = .ok (.iconst 1, 1) := by decide +kernel
theorem dX2_badSet_13 : decode cX2_badSet 13 = .ok (.goto 4, 3) := by decide +kernel
theorem dX2_badSet_16 : decode cX2_badSet 16 = .ok (.iconst 0, 1) := by decide +kernel
theorem dX2_badSet_17 : decode cX2_badSet 17 = .ok (.ireturn, 1) := by decide +kernel
abbrev cX2_rowOf : ByteArray := prog_3_method_11_code
def yX2_rowOf : MethodName := ⟨RX2, "rowOf", "(I)I"⟩
theorem dX2_rowOf_0 : decode cX2_rowOf 0 = .ok (.aload_n 0, 1) := by decide +kernel
theorem dX2_rowOf_1 : decode cX2_rowOf 1 = .ok (.iload_n 1, 1) := by decide +kernel
theorem dX2_rowOf_2 : decode cX2_rowOf 2 = .ok (.invokevirtual 40, 3) := by decide +kernel
theorem dX2_rowOf_5 : decode cX2_rowOf 5 = .ok (.ifCond .eq 7, 3) := by decide +kernel
theorem dX2_rowOf_8 : decode cX2_rowOf 8 = .ok (.iconst (-1), 1) := by decide +kernel
theorem dX2_rowOf_9 : decode cX2_rowOf 9 = .ok (.goto 9, 3) := by decide +kernel
theorem dX2_rowOf_12 : decode cX2_rowOf 12 = .ok (.aload_n 0, 1) := by decide +kernel
theorem dX2_rowOf_13 : decode cX2_rowOf 13 = .ok (.getfield 7, 3) := by decide +kernel
theorem dX2_rowOf_16 : decode cX2_rowOf 16 = .ok (.iload_n 1, 1) := by decide +kernel
theorem dX2_rowOf_17 : decode cX2_rowOf 17 = .ok (.iaload, 1) := by decide +kernel
theorem dX2_rowOf_18 : decode cX2_rowOf 18 = .ok (.ireturn, 1) := by decide +kernel
abbrev cX2_extent : ByteArray := prog_3_method_15_code
def yX2_extent : MethodName := ⟨RX2, "extent", "(I)I"⟩
theorem dX2_extent_0 : decode cX2_extent 0 = .ok (.aload_n 0, 1) := by decide +kernel
theorem dX2_extent_1 : decode cX2_extent 1 = .ok (.iload_n 1, 1) := by decide +kernel
theorem dX2_extent_2 : decode cX2_extent 2 = .ok (.invokevirtual 47, 3) := by decide +kernel
theorem dX2_extent_5 : decode cX2_extent 5 = .ok (.ifCond .eq 7, 3) := by decide +kernel
theorem dX2_extent_8 : decode cX2_extent 8 = .ok (.iconst (-1), 1) := by decide +kernel
theorem dX2_extent_9 : decode cX2_extent 9 = .ok (.goto 8, 3) := by decide +kernel
theorem dX2_extent_12 : decode cX2_extent 12 = .ok (.aload_n 0, 1) := by decide +kernel
theorem dX2_extent_13 : decode cX2_extent 13 = .ok (.iload_n 1, 1) := by decide +kernel
theorem dX2_extent_14 : decode cX2_extent 14 = .ok (.invokevirtual 50, 3) := by decide +kernel
theorem dX2_extent_17 : decode cX2_extent 17 = .ok (.ireturn, 1) := by decide +kernel
abbrev cX2_havers : ByteArray := prog_3_method_12_code
def yX2_havers : MethodName := ⟨RX2, "havers", "(I)I"⟩
theorem dX2_havers_0 : decode cX2_havers 0 = .ok (.iconst 0, 1) := by decide +kernel
theorem dX2_havers_1 : decode cX2_havers 1 = .ok (.istore_n 2, 1) := by decide +kernel
theorem dX2_havers_2 : decode cX2_havers 2 = .ok (.iconst 0, 1) := by decide +kernel
theorem dX2_havers_3 : decode cX2_havers 3 = .ok (.istore_n 3, 1) := by decide +kernel
theorem dX2_havers_4 : decode cX2_havers 4 = .ok (.iload_n 3, 1) := by decide +kernel
theorem dX2_havers_5 : decode cX2_havers 5 = .ok (.aload_n 0, 1) := by decide +kernel
theorem dX2_havers_6 : decode cX2_havers 6 = .ok (.getfield 26, 3) := by decide +kernel
theorem dX2_havers_9 : decode cX2_havers 9 = .ok (.if_icmp .ge 35, 3) := by decide +kernel
theorem dX2_havers_12 : decode cX2_havers 12 = .ok (.iload_n 3, 1) := by decide +kernel
theorem dX2_havers_13 : decode cX2_havers 13 = .ok (.bipush 8, 2) := by decide +kernel
theorem dX2_havers_15 : decode cX2_havers 15 = .ok (.if_icmp .ge 29, 3) := by decide +kernel
theorem dX2_havers_18 : decode cX2_havers 18 = .ok (.aload_n 0, 1) := by decide +kernel
theorem dX2_havers_19 : decode cX2_havers 19 = .ok (.iload_n 1, 1) := by decide +kernel
theorem dX2_havers_20 : decode cX2_havers 20 = .ok (.aload_n 0, 1) := by decide +kernel
theorem dX2_havers_21 : decode cX2_havers 21 = .ok (.getfield 7, 3) := by decide +kernel
theorem dX2_havers_24 : decode cX2_havers 24 = .ok (.iload_n 3, 1) := by decide +kernel
theorem dX2_havers_25 : decode cX2_havers 25 = .ok (.iaload, 1) := by decide +kernel
theorem dX2_havers_26 : decode cX2_havers 26 = .ok (.invokevirtual 36, 3) := by decide +kernel
theorem dX2_havers_29 : decode cX2_havers 29 = .ok (.ifCond .eq 9, 3) := by decide +kernel
theorem dX2_havers_32 : decode cX2_havers 32 = .ok (.iload_n 2, 1) := by decide +kernel
theorem dX2_havers_33 : decode cX2_havers 33 = .ok (.iconst 1, 1) := by decide +kernel
theorem dX2_havers_34 : decode cX2_havers 34 = .ok (.iload_n 3, 1) := by decide +kernel
theorem dX2_havers_35 : decode cX2_havers 35 = .ok (.ishl, 1) := by decide +kernel
theorem dX2_havers_36 : decode cX2_havers 36 = .ok (.ior, 1) := by decide +kernel
theorem dX2_havers_37 : decode cX2_havers 37 = .ok (.istore_n 2, 1) := by decide +kernel
theorem dX2_havers_38 : decode cX2_havers 38 = .ok (.iinc 3 1, 3) := by decide +kernel
theorem dX2_havers_41 : decode cX2_havers 41 = .ok (.goto (-37), 3) := by decide +kernel
theorem dX2_havers_44 : decode cX2_havers 44 = .ok (.iload_n 2, 1) := by decide +kernel
theorem dX2_havers_45 : decode cX2_havers 45 = .ok (.ireturn, 1) := by decide +kernel
abbrev cX2_part : ByteArray := prog_3_method_7_code
def yX2_part : MethodName := ⟨RX2, "part", "(II)Z"⟩
theorem dX2_part_0 : decode cX2_part 0 = .ok (.iload_n 1, 1) := by decide +kernel
theorem dX2_part_1 : decode cX2_part 1 = .ok (.iload_n 2, 1) := by decide +kernel
theorem dX2_part_2 : decode cX2_part 2 = .ok (.iand, 1) := by decide +kernel
theorem dX2_part_3 : decode cX2_part 3 = .ok (.iload_n 1, 1) := by decide +kernel
theorem dX2_part_4 : decode cX2_part 4 = .ok (.if_icmp .ne 7, 3) := by decide +kernel
theorem dX2_part_7 : decode cX2_part 7 = .ok (.iconst 1, 1) := by decide +kernel
theorem dX2_part_8 : decode cX2_part 8 = .ok (.goto 4, 3) := by decide +kernel
theorem dX2_part_11 : decode cX2_part 11 = .ok (.iconst 0, 1) := by decide +kernel
theorem dX2_part_12 : decode cX2_part 12 = .ok (.ireturn, 1) := by decide +kernel
abbrev cX2_intent : ByteArray := prog_3_method_16_code
def yX2_intent : MethodName := ⟨RX2, "intent", "(I)I"⟩
theorem dX2_intent_0 : decode cX2_intent 0 = .ok (.iload_n 1, 1) := by decide +kernel
theorem dX2_intent_1 : decode cX2_intent 1 = .ok (.ifCond .lt 13, 3) := by decide +kernel
theorem dX2_intent_4 : decode cX2_intent 4 = .ok (.iload_n 1, 1) := by decide +kernel
theorem dX2_intent_5 : decode cX2_intent 5 = .ok (.iconst 1, 1) := by decide +kernel
theorem dX2_intent_6 : decode cX2_intent 6 = .ok (.aload_n 0, 1) := by decide +kernel
theorem dX2_intent_7 : decode cX2_intent 7 = .ok (.getfield 26, 3) := by decide +kernel
theorem dX2_intent_10 : decode cX2_intent 10 = .ok (.ishl, 1) := by decide +kernel
theorem dX2_intent_11 : decode cX2_intent 11 = .ok (.if_icmp .lt 7, 3) := by decide +kernel
theorem dX2_intent_14 : decode cX2_intent 14 = .ok (.iconst (-1), 1) := by decide +kernel
theorem dX2_intent_15 : decode cX2_intent 15 = .ok (.goto 8, 3) := by decide +kernel
theorem dX2_intent_18 : decode cX2_intent 18 = .ok (.aload_n 0, 1) := by decide +kernel
theorem dX2_intent_19 : decode cX2_intent 19 = .ok (.iload_n 1, 1) := by decide +kernel
theorem dX2_intent_20 : decode cX2_intent 20 = .ok (.invokevirtual 54, 3) := by decide +kernel
theorem dX2_intent_23 : decode cX2_intent 23 = .ok (.ireturn, 1) := by decide +kernel
abbrev cX2_shared : ByteArray := prog_3_method_13_code
def yX2_shared : MethodName := ⟨RX2, "shared", "(I)I"⟩
theorem dX2_shared_0 : decode cX2_shared 0 = .ok (.aload_n 0, 1) := by decide +kernel
theorem dX2_shared_1 : decode cX2_shared 1 = .ok (.getfield 33, 3) := by decide +kernel
theorem dX2_shared_4 : decode cX2_shared 4 = .ok (.istore_n 2, 1) := by decide +kernel
theorem dX2_shared_5 : decode cX2_shared 5 = .ok (.iconst 0, 1) := by decide +kernel
theorem dX2_shared_6 : decode cX2_shared 6 = .ok (.istore_n 3, 1) := by decide +kernel
theorem dX2_shared_7 : decode cX2_shared 7 = .ok (.iload_n 3, 1) := by decide +kernel
theorem dX2_shared_8 : decode cX2_shared 8 = .ok (.aload_n 0, 1) := by decide +kernel
theorem dX2_shared_9 : decode cX2_shared 9 = .ok (.getfield 26, 3) := by decide +kernel
theorem dX2_shared_12 : decode cX2_shared 12 = .ok (.if_icmp .ge 33, 3) := by decide +kernel
theorem dX2_shared_15 : decode cX2_shared 15 = .ok (.iload_n 3, 1) := by decide +kernel
theorem dX2_shared_16 : decode cX2_shared 16 = .ok (.bipush 8, 2) := by decide +kernel
theorem dX2_shared_18 : decode cX2_shared 18 = .ok (.if_icmp .ge 27, 3) := by decide +kernel
theorem dX2_shared_21 : decode cX2_shared 21 = .ok (.iload_n 1, 1) := by decide +kernel
theorem dX2_shared_22 : decode cX2_shared 22 = .ok (.iload_n 3, 1) := by decide +kernel
theorem dX2_shared_23 : decode cX2_shared 23 = .ok (.ishr, 1) := by decide +kernel
theorem dX2_shared_24 : decode cX2_shared 24 = .ok (.iconst 1, 1) := by decide +kernel
theorem dX2_shared_25 : decode cX2_shared 25 = .ok (.iand, 1) := by decide +kernel
theorem dX2_shared_26 : decode cX2_shared 26 = .ok (.iconst 1, 1) := by decide +kernel
theorem dX2_shared_27 : decode cX2_shared 27 = .ok (.if_icmp .ne 12, 3) := by decide +kernel
theorem dX2_shared_30 : decode cX2_shared 30 = .ok (.iload_n 2, 1) := by decide +kernel
theorem dX2_shared_31 : decode cX2_shared 31 = .ok (.aload_n 0, 1) := by decide +kernel
theorem dX2_shared_32 : decode cX2_shared 32 = .ok (.getfield 7, 3) := by decide +kernel
theorem dX2_shared_35 : decode cX2_shared 35 = .ok (.iload_n 3, 1) := by decide +kernel
theorem dX2_shared_36 : decode cX2_shared 36 = .ok (.iaload, 1) := by decide +kernel
theorem dX2_shared_37 : decode cX2_shared 37 = .ok (.iand, 1) := by decide +kernel
theorem dX2_shared_38 : decode cX2_shared 38 = .ok (.istore_n 2, 1) := by decide +kernel
theorem dX2_shared_39 : decode cX2_shared 39 = .ok (.iinc 3 1, 3) := by decide +kernel
theorem dX2_shared_42 : decode cX2_shared 42 = .ok (.goto (-35), 3) := by decide +kernel
theorem dX2_shared_45 : decode cX2_shared 45 = .ok (.iload_n 2, 1) := by decide +kernel
theorem dX2_shared_46 : decode cX2_shared 46 = .ok (.ireturn, 1) := by decide +kernel
abbrev cX2_closure : ByteArray := prog_3_method_17_code
def yX2_closure : MethodName := ⟨RX2, "closure", "(I)I"⟩
theorem dX2_closure_0 : decode cX2_closure 0 = .ok (.aload_n 0, 1) := by decide +kernel
theorem dX2_closure_1 : decode cX2_closure 1 = .ok (.iload_n 1, 1) := by decide +kernel
theorem dX2_closure_2 : decode cX2_closure 2 = .ok (.invokevirtual 47, 3) := by decide +kernel
theorem dX2_closure_5 : decode cX2_closure 5 = .ok (.ifCond .eq 7, 3) := by decide +kernel
theorem dX2_closure_8 : decode cX2_closure 8 = .ok (.iconst (-1), 1) := by decide +kernel
theorem dX2_closure_9 : decode cX2_closure 9 = .ok (.goto 8, 3) := by decide +kernel
theorem dX2_closure_12 : decode cX2_closure 12 = .ok (.aload_n 0, 1) := by decide +kernel
theorem dX2_closure_13 : decode cX2_closure 13 = .ok (.iload_n 1, 1) := by decide +kernel
theorem dX2_closure_14 : decode cX2_closure 14 = .ok (.invokevirtual 57, 3) := by decide +kernel
theorem dX2_closure_17 : decode cX2_closure 17 = .ok (.ireturn, 1) := by decide +kernel
abbrev cX2_closureOf : ByteArray := prog_3_method_14_code
def yX2_closureOf : MethodName := ⟨RX2, "closureOf", "(I)I"⟩
theorem dX2_closureOf_0 : decode cX2_closureOf 0 = .ok (.aload_n 0, 1) := by decide +kernel
theorem dX2_closureOf_1 : decode cX2_closureOf 1 = .ok (.iload_n 1, 1) := by decide +kernel
theorem dX2_closureOf_2 : decode cX2_closureOf 2 = .ok (.invokevirtual 50, 3) := by decide +kernel
theorem dX2_closureOf_5 : decode cX2_closureOf 5 = .ok (.istore_n 2, 1) := by decide +kernel
theorem dX2_closureOf_6 : decode cX2_closureOf 6 = .ok (.aload_n 0, 1) := by decide +kernel
theorem dX2_closureOf_7 : decode cX2_closureOf 7 = .ok (.iload_n 2, 1) := by decide +kernel
theorem dX2_closureOf_8 : decode cX2_closureOf 8 = .ok (.invokevirtual 54, 3) := by decide +kernel
theorem dX2_closureOf_11 : decode cX2_closureOf 11 = .ok (.ireturn, 1) := by decide +kernel
abbrev cX2_closedSets : ByteArray := prog_3_method_20_code
def yX2_closedSets : MethodName := ⟨RX2, "closedSets", "()I"⟩
theorem dX2_closedSets_0 : decode cX2_closedSets 0 = .ok (.aload_n 0, 1) := by decide +kernel
theorem dX2_closedSets_1 : decode cX2_closedSets 1 = .ok (.invokevirtual 66, 3) := by decide +kernel
theorem dX2_closedSets_4 : decode cX2_closedSets 4 = .ok (.iconst 0, 1) := by decide +kernel
theorem dX2_closedSets_5 : decode cX2_closedSets 5 = .ok (.istore_n 1, 1) := by decide +kernel
theorem dX2_closedSets_6 : decode cX2_closedSets 6 = .ok (.iconst 0, 1) := by decide +kernel
theorem dX2_closedSets_7 : decode cX2_closedSets 7 = .ok (.istore_n 2, 1) := by decide +kernel
theorem dX2_closedSets_8 : decode cX2_closedSets 8 = .ok (.iload_n 2, 1) := by decide +kernel
theorem dX2_closedSets_9 : decode cX2_closedSets 9 = .ok (.aload_n 0, 1) := by decide +kernel
theorem dX2_closedSets_10 : decode cX2_closedSets 10 = .ok (.getfield 33, 3) := by decide +kernel
theorem dX2_closedSets_13 : decode cX2_closedSets 13 = .ok (.if_icmp .gt 21, 3) := by decide +kernel
theorem dX2_closedSets_16 : decode cX2_closedSets 16 = .ok (.aload_n 0, 1) := by decide +kernel
theorem dX2_closedSets_17 : decode cX2_closedSets 17 = .ok (.getfield 13, 3) := by decide +kernel
theorem dX2_closedSets_20 : decode cX2_closedSets 20 = .ok (.iload_n 2, 1) := by decide +kernel
theorem dX2_closedSets_21 : decode cX2_closedSets 21 = .ok (.baload, 1) := by decide +kernel
theorem dX2_closedSets_22 : decode cX2_closedSets 22 = .ok (.ifCond .eq 6, 3) := by decide +kernel
theorem dX2_closedSets_25 : decode cX2_closedSets 25 = .ok (.iinc 1 1, 3) := by decide +kernel
theorem dX2_closedSets_28 : decode cX2_closedSets 28 = .ok (.iinc 2 1, 3) := by decide +kernel
theorem dX2_closedSets_31 : decode cX2_closedSets 31 = .ok (.goto (-23), 3) := by decide +kernel
theorem dX2_closedSets_34 : decode cX2_closedSets 34 = .ok (.iload_n 1, 1) := by decide +kernel
theorem dX2_closedSets_35 : decode cX2_closedSets 35 = .ok (.ireturn, 1) := by decide +kernel
abbrev cX2_tabulate : ByteArray := prog_3_method_19_code
def yX2_tabulate : MethodName := ⟨RX2, "tabulate", "()V"⟩
theorem dX2_tabulate_0 : decode cX2_tabulate 0 = .ok (.iconst 0, 1) := by decide +kernel
theorem dX2_tabulate_1 : decode cX2_tabulate 1 = .ok (.istore_n 1, 1) := by decide +kernel
theorem dX2_tabulate_2 : decode cX2_tabulate 2 = .ok (.iload_n 1, 1) := by decide +kernel
theorem dX2_tabulate_3 : decode cX2_tabulate 3 = .ok (.aload_n 0, 1) := by decide +kernel
theorem dX2_tabulate_4 : decode cX2_tabulate 4 = .ok (.getfield 33, 3) := by decide +kernel
theorem dX2_tabulate_7 : decode cX2_tabulate 7 = .ok (.if_icmp .gt 59, 3) := by decide +kernel
theorem dX2_tabulate_10 : decode cX2_tabulate 10 = .ok (.iload_n 1, 1) := by decide +kernel
theorem dX2_tabulate_11 : decode cX2_tabulate 11 = .ok (.sipush 128, 3) := by decide +kernel
theorem dX2_tabulate_14 : decode cX2_tabulate 14 = .ok (.if_icmp .ge 52, 3) := by decide +kernel
theorem dX2_tabulate_17 : decode cX2_tabulate 17 = .ok (.aload_n 0, 1) := by decide +kernel
theorem dX2_tabulate_18 : decode cX2_tabulate 18 = .ok (.getfield 20, 3) := by decide +kernel
theorem dX2_tabulate_21 : decode cX2_tabulate 21 = .ok (.iload_n 1, 1) := by decide +kernel
theorem dX2_tabulate_22 : decode cX2_tabulate 22 = .ok (.aload_n 0, 1) := by decide +kernel
theorem dX2_tabulate_23 : decode cX2_tabulate 23 = .ok (.iload_n 1, 1) := by decide +kernel
theorem dX2_tabulate_24 : decode cX2_tabulate 24 = .ok (.invokevirtual 57, 3) := by decide +kernel
theorem dX2_tabulate_27 : decode cX2_tabulate 27 = .ok (.iastore, 1) := by decide +kernel
theorem dX2_tabulate_28 : decode cX2_tabulate 28 = .ok (.aload_n 0, 1) := by decide +kernel
theorem dX2_tabulate_29 : decode cX2_tabulate 29 = .ok (.getfield 13, 3) := by decide +kernel
theorem dX2_tabulate_32 : decode cX2_tabulate 32 = .ok (.iload_n 1, 1) := by decide +kernel
theorem dX2_tabulate_33 : decode cX2_tabulate 33 = .ok (.aload_n 0, 1) := by decide +kernel
theorem dX2_tabulate_34 : decode cX2_tabulate 34 = .ok (.getfield 20, 3) := by decide +kernel
theorem dX2_tabulate_37 : decode cX2_tabulate 37 = .ok (.iload_n 1, 1) := by decide +kernel
theorem dX2_tabulate_38 : decode cX2_tabulate 38 = .ok (.iaload, 1) := by decide +kernel
theorem dX2_tabulate_39 : decode cX2_tabulate 39 = .ok (.iload_n 1, 1) := by decide +kernel
theorem dX2_tabulate_40 : decode cX2_tabulate 40 = .ok (.if_icmp .ne 7, 3) := by decide +kernel
theorem dX2_tabulate_43 : decode cX2_tabulate 43 = .ok (.iconst 1, 1) := by decide +kernel
theorem dX2_tabulate_44 : decode cX2_tabulate 44 = .ok (.goto 4, 3) := by decide +kernel
theorem dX2_tabulate_47 : decode cX2_tabulate 47 = .ok (.iconst 0, 1) := by decide +kernel
theorem dX2_tabulate_48 : decode cX2_tabulate 48 = .ok (.bastore, 1) := by decide +kernel
theorem dX2_tabulate_49 : decode cX2_tabulate 49 = .ok (.aload_n 0, 1) := by decide +kernel
theorem dX2_tabulate_50 : decode cX2_tabulate 50 = .ok (.getfield 17, 3) := by decide +kernel
theorem dX2_tabulate_53 : decode cX2_tabulate 53 = .ok (.iload_n 1, 1) := by decide +kernel
theorem dX2_tabulate_54 : decode cX2_tabulate 54 = .ok (.aload_n 0, 1) := by decide +kernel
theorem dX2_tabulate_55 : decode cX2_tabulate 55 = .ok (.iload_n 1, 1) := by decide +kernel
theorem dX2_tabulate_56 : decode cX2_tabulate 56 = .ok (.invokevirtual 63, 3) := by decide +kernel
theorem dX2_tabulate_59 : decode cX2_tabulate 59 = .ok (.bastore, 1) := by decide +kernel
theorem dX2_tabulate_60 : decode cX2_tabulate 60 = .ok (.iinc 1 1, 3) := by decide +kernel
theorem dX2_tabulate_63 : decode cX2_tabulate 63 = .ok (.goto (-61), 3) := by decide +kernel
theorem dX2_tabulate_66 : decode cX2_tabulate 66 = .ok (.return_, 1) := by decide +kernel
end
section
set_option maxRecDepth 100000
abbrev cX2_isPseudo : ByteArray := prog_3_method_18_code
def yX2_isPseudo : MethodName := ⟨RX2, "isPseudo", "(I)Z"⟩
theorem dX2_isPseudo_0 : decode cX2_isPseudo 0 = .ok (.aload_n 0, 1) := by decide +kernel
theorem dX2_isPseudo_1 : decode cX2_isPseudo 1 = .ok (.getfield 13, 3) := by decide +kernel
theorem dX2_isPseudo_4 : decode cX2_isPseudo 4 = .ok (.iload_n 1, 1) := by decide +kernel
theorem dX2_isPseudo_5 : decode cX2_isPseudo 5 = .ok (.baload, 1) := by decide +kernel
theorem dX2_isPseudo_6 : decode cX2_isPseudo 6 = .ok (.ifCond .eq 5, 3) := by decide +kernel
theorem dX2_isPseudo_9 : decode cX2_isPseudo 9 = .ok (.iconst 0, 1) := by decide +kernel
theorem dX2_isPseudo_10 : decode cX2_isPseudo 10 = .ok (.ireturn, 1) := by decide +kernel
theorem dX2_isPseudo_11 : decode cX2_isPseudo 11 = .ok (.iconst 0, 1) := by decide +kernel
theorem dX2_isPseudo_12 : decode cX2_isPseudo 12 = .ok (.istore_n 2, 1) := by decide +kernel
theorem dX2_isPseudo_13 : decode cX2_isPseudo 13 = .ok (.iload_n 2, 1) := by decide +kernel
theorem dX2_isPseudo_14 : decode cX2_isPseudo 14 = .ok (.iload_n 1, 1) := by decide +kernel
theorem dX2_isPseudo_15 : decode cX2_isPseudo 15 = .ok (.if_icmp .ge 43, 3) := by decide +kernel
theorem dX2_isPseudo_18 : decode cX2_isPseudo 18 = .ok (.aload_n 0, 1) := by decide +kernel
theorem dX2_isPseudo_19 : decode cX2_isPseudo 19 = .ok (.getfield 17, 3) := by decide +kernel
theorem dX2_isPseudo_22 : decode cX2_isPseudo 22 = .ok (.iload_n 2, 1) := by decide +kernel
theorem dX2_isPseudo_23 : decode cX2_isPseudo 23 = .ok (.baload, 1) := by decide +kernel
theorem dX2_isPseudo_24 : decode cX2_isPseudo 24 = .ok (.ifCond .eq 28, 3) := by decide +kernel
theorem dX2_isPseudo_27 : decode cX2_isPseudo 27 = .ok (.aload_n 0, 1) := by decide +kernel
theorem dX2_isPseudo_28 : decode cX2_isPseudo 28 = .ok (.iload_n 2, 1) := by decide +kernel
theorem dX2_isPseudo_29 : decode cX2_isPseudo 29 = .ok (.iload_n 1, 1) := by decide +kernel
theorem dX2_isPseudo_30 : decode cX2_isPseudo 30 = .ok (.invokevirtual 60, 3) := by decide +kernel
theorem dX2_isPseudo_33 : decode cX2_isPseudo 33 = .ok (.ifCond .eq 19, 3) := by decide +kernel
theorem dX2_isPseudo_36 : decode cX2_isPseudo 36 = .ok (.aload_n 0, 1) := by decide +kernel
theorem dX2_isPseudo_37 : decode cX2_isPseudo 37 = .ok (.aload_n 0, 1) := by decide +kernel
theorem dX2_isPseudo_38 : decode cX2_isPseudo 38 = .ok (.getfield 20, 3) := by decide +kernel
theorem dX2_isPseudo_41 : decode cX2_isPseudo 41 = .ok (.iload_n 2, 1) := by decide +kernel
theorem dX2_isPseudo_42 : decode cX2_isPseudo 42 = .ok (.iaload, 1) := by decide +kernel
theorem dX2_isPseudo_43 : decode cX2_isPseudo 43 = .ok (.iload_n 1, 1) := by decide +kernel
theorem dX2_isPseudo_44 : decode cX2_isPseudo 44 = .ok (.invokevirtual 36, 3) := by decide +kernel
theorem dX2_isPseudo_47 : decode cX2_isPseudo 47 = .ok (.ifCond .ne 5, 3) := by decide +kernel
theorem dX2_isPseudo_50 : decode cX2_isPseudo 50 = .ok (.iconst 0, 1) := by decide +kernel
theorem dX2_isPseudo_51 : decode cX2_isPseudo 51 = .ok (.ireturn, 1) := by decide +kernel
theorem dX2_isPseudo_52 : decode cX2_isPseudo 52 = .ok (.iinc 2 1, 3) := by decide +kernel
theorem dX2_isPseudo_55 : decode cX2_isPseudo 55 = .ok (.goto (-42), 3) := by decide +kernel
theorem dX2_isPseudo_58 : decode cX2_isPseudo 58 = .ok (.iconst 1, 1) := by decide +kernel
theorem dX2_isPseudo_59 : decode cX2_isPseudo 59 = .ok (.ireturn, 1) := by decide +kernel
abbrev cX2_proper : ByteArray := prog_3_method_8_code
def yX2_proper : MethodName := ⟨RX2, "proper", "(II)Z"⟩
theorem dX2_proper_0 : decode cX2_proper 0 = .ok (.iload_n 1, 1) := by decide +kernel
theorem dX2_proper_1 : decode cX2_proper 1 = .ok (.iload_n 2, 1) := by decide +kernel
theorem dX2_proper_2 : decode cX2_proper 2 = .ok (.if_icmp .eq 16, 3) := by decide +kernel
theorem dX2_proper_5 : decode cX2_proper 5 = .ok (.aload_n 0, 1) := by decide +kernel
theorem dX2_proper_6 : decode cX2_proper 6 = .ok (.iload_n 1, 1) := by decide +kernel
theorem dX2_proper_7 : decode cX2_proper 7 = .ok (.iload_n 2, 1) := by decide +kernel
theorem dX2_proper_8 : decode cX2_proper 8 = .ok (.invokevirtual 36, 3) := by decide +kernel
theorem dX2_proper_11 : decode cX2_proper 11 = .ok (.ifCond .eq 7, 3) := by decide +kernel
theorem dX2_proper_14 : decode cX2_proper 14 = .ok (.iconst 1, 1) := by decide +kernel
theorem dX2_proper_15 : decode cX2_proper 15 = .ok (.goto 4, 3) := by decide +kernel
theorem dX2_proper_18 : decode cX2_proper 18 = .ok (.iconst 0, 1) := by decide +kernel
theorem dX2_proper_19 : decode cX2_proper 19 = .ok (.ireturn, 1) := by decide +kernel
abbrev cX2_closedSet : ByteArray := prog_3_method_21_code
def yX2_closedSet : MethodName := ⟨RX2, "closedSet", "(I)I"⟩
theorem dX2_closedSet_0 : decode cX2_closedSet 0 = .ok (.aload_n 0, 1) := by decide +kernel
theorem dX2_closedSet_1 : decode cX2_closedSet 1 = .ok (.invokevirtual 66, 3) := by decide +kernel
theorem dX2_closedSet_4 : decode cX2_closedSet 4 = .ok (.iconst 0, 1) := by decide +kernel
theorem dX2_closedSet_5 : decode cX2_closedSet 5 = .ok (.istore_n 2, 1) := by decide +kernel
theorem dX2_closedSet_6 : decode cX2_closedSet 6 = .ok (.iconst 0, 1) := by decide +kernel
theorem dX2_closedSet_7 : decode cX2_closedSet 7 = .ok (.istore_n 3, 1) := by decide +kernel
theorem dX2_closedSet_8 : decode cX2_closedSet 8 = .ok (.iload_n 3, 1) := by decide +kernel
theorem dX2_closedSet_9 : decode cX2_closedSet 9 = .ok (.aload_n 0, 1) := by decide +kernel
theorem dX2_closedSet_10 : decode cX2_closedSet 10 = .ok (.getfield 33, 3) := by decide +kernel
theorem dX2_closedSet_13 : decode cX2_closedSet 13 = .ok (.if_icmp .gt 28, 3) := by decide +kernel
theorem dX2_closedSet_16 : decode cX2_closedSet 16 = .ok (.aload_n 0, 1) := by decide +kernel
theorem dX2_closedSet_17 : decode cX2_closedSet 17 = .ok (.getfield 13, 3) := by decide +kernel
theorem dX2_closedSet_20 : decode cX2_closedSet 20 = .ok (.iload_n 3, 1) := by decide +kernel
theorem dX2_closedSet_21 : decode cX2_closedSet 21 = .ok (.baload, 1) := by decide +kernel
theorem dX2_closedSet_22 : decode cX2_closedSet 22 = .ok (.ifCond .eq 13, 3) := by decide +kernel
theorem dX2_closedSet_25 : decode cX2_closedSet 25 = .ok (.iload_n 2, 1) := by decide +kernel
theorem dX2_closedSet_26 : decode cX2_closedSet 26 = .ok (.iload_n 1, 1) := by decide +kernel
theorem dX2_closedSet_27 : decode cX2_closedSet 27 = .ok (.if_icmp .ne 5, 3) := by decide +kernel
theorem dX2_closedSet_30 : decode cX2_closedSet 30 = .ok (.iload_n 3, 1) := by decide +kernel
theorem dX2_closedSet_31 : decode cX2_closedSet 31 = .ok (.ireturn, 1) := by decide +kernel
theorem dX2_closedSet_32 : decode cX2_closedSet 32 = .ok (.iinc 2 1, 3) := by decide +kernel
theorem dX2_closedSet_35 : decode cX2_closedSet 35 = .ok (.iinc 3 1, 3) := by decide +kernel
theorem dX2_closedSet_38 : decode cX2_closedSet 38 = .ok (.goto (-30), 3) := by decide +kernel
theorem dX2_closedSet_41 : decode cX2_closedSet 41 = .ok (.iconst (-1), 1) := by decide +kernel
theorem dX2_closedSet_42 : decode cX2_closedSet 42 = .ok (.ireturn, 1) := by decide +kernel
abbrev cX2_nextClosed : ByteArray := prog_3_method_22_code
def yX2_nextClosed : MethodName := ⟨RX2, "nextClosed", "(I)I"⟩
theorem dX2_nextClosed_0 : decode cX2_nextClosed 0 = .ok (.aload_n 0, 1) := by decide +kernel
theorem dX2_nextClosed_1 : decode cX2_nextClosed 1 = .ok (.invokevirtual 66, 3) := by decide +kernel
theorem dX2_nextClosed_4 : decode cX2_nextClosed 4 = .ok (.iconst 0, 1) := by decide +kernel
theorem dX2_nextClosed_5 : decode cX2_nextClosed 5 = .ok (.istore_n 2, 1) := by decide +kernel
theorem dX2_nextClosed_6 : decode cX2_nextClosed 6 = .ok (.iload_n 2, 1) := by decide +kernel
theorem dX2_nextClosed_7 : decode cX2_nextClosed 7 = .ok (.aload_n 0, 1) := by decide +kernel
theorem dX2_nextClosed_8 : decode cX2_nextClosed 8 = .ok (.getfield 33, 3) := by decide +kernel
theorem dX2_nextClosed_11 : decode cX2_nextClosed 11 = .ok (.if_icmp .gt 25, 3) := by decide +kernel
theorem dX2_nextClosed_14 : decode cX2_nextClosed 14 = .ok (.iload_n 2, 1) := by decide +kernel
theorem dX2_nextClosed_15 : decode cX2_nextClosed 15 = .ok (.iload_n 1, 1) := by decide +kernel
theorem dX2_nextClosed_16 : decode cX2_nextClosed 16 = .ok (.if_icmp .le 14, 3) := by decide +kernel
theorem dX2_nextClosed_19 : decode cX2_nextClosed 19 = .ok (.aload_n 0, 1) := by decide +kernel
theorem dX2_nextClosed_20 : decode cX2_nextClosed 20 = .ok (.getfield 13, 3) := by decide +kernel
theorem dX2_nextClosed_23 : decode cX2_nextClosed 23 = .ok (.iload_n 2, 1) := by decide +kernel
theorem dX2_nextClosed_24 : decode cX2_nextClosed 24 = .ok (.baload, 1) := by decide +kernel
theorem dX2_nextClosed_25 : decode cX2_nextClosed 25 = .ok (.ifCond .eq 5, 3) := by decide +kernel
theorem dX2_nextClosed_28 : decode cX2_nextClosed 28 = .ok (.iload_n 2, 1) := by decide +kernel
theorem dX2_nextClosed_29 : decode cX2_nextClosed 29 = .ok (.ireturn, 1) := by decide +kernel
theorem dX2_nextClosed_30 : decode cX2_nextClosed 30 = .ok (.iinc 2 1, 3) := by decide +kernel
theorem dX2_nextClosed_33 : decode cX2_nextClosed 33 = .ok (.goto (-27), 3) := by decide +kernel
theorem dX2_nextClosed_36 : decode cX2_nextClosed 36 = .ok (.iconst (-1), 1) := by decide +kernel
theorem dX2_nextClosed_37 : decode cX2_nextClosed 37 = .ok (.ireturn, 1) := by decide +kernel
abbrev cX2_follows : ByteArray := prog_3_method_23_code
def yX2_follows : MethodName := ⟨RX2, "follows", "(II)I"⟩
theorem dX2_follows_0 : decode cX2_follows 0 = .ok (.aload_n 0, 1) := by decide +kernel
theorem dX2_follows_1 : decode cX2_follows 1 = .ok (.iload_n 1, 1) := by decide +kernel
theorem dX2_follows_2 : decode cX2_follows 2 = .ok (.invokevirtual 47, 3) := by decide +kernel
theorem dX2_follows_5 : decode cX2_follows 5 = .ok (.ifCond .ne 11, 3) := by decide +kernel
theorem dX2_follows_8 : decode cX2_follows 8 = .ok (.aload_n 0, 1) := by decide +kernel
theorem dX2_follows_9 : decode cX2_follows 9 = .ok (.iload_n 2, 1) := by decide +kernel
theorem dX2_follows_10 : decode cX2_follows 10 = .ok (.invokevirtual 47, 3) := by decide +kernel
theorem dX2_follows_13 : decode cX2_follows 13 = .ok (.ifCond .eq 5, 3) := by decide +kernel
theorem dX2_follows_16 : decode cX2_follows 16 = .ok (.iconst (-1), 1) := by decide +kernel
theorem dX2_follows_17 : decode cX2_follows 17 = .ok (.ireturn, 1) := by decide +kernel
theorem dX2_follows_18 : decode cX2_follows 18 = .ok (.iconst 0, 1) := by decide +kernel
theorem dX2_follows_19 : decode cX2_follows 19 = .ok (.istore_n 3, 1) := by decide +kernel
theorem dX2_follows_20 : decode cX2_follows 20 = .ok (.iload_n 3, 1) := by decide +kernel
theorem dX2_follows_21 : decode cX2_follows 21 = .ok (.aload_n 0, 1) := by decide +kernel
theorem dX2_follows_22 : decode cX2_follows 22 = .ok (.getfield 26, 3) := by decide +kernel
theorem dX2_follows_25 : decode cX2_follows 25 = .ok (.if_icmp .ge 45, 3) := by decide +kernel
theorem dX2_follows_28 : decode cX2_follows 28 = .ok (.iload_n 3, 1) := by decide +kernel
theorem dX2_follows_29 : decode cX2_follows 29 = .ok (.bipush 8, 2) := by decide +kernel
theorem dX2_follows_31 : decode cX2_follows 31 = .ok (.if_icmp .ge 39, 3) := by decide +kernel
theorem dX2_follows_34 : decode cX2_follows 34 = .ok (.aload_n 0, 1) := by decide +kernel
theorem dX2_follows_35 : decode cX2_follows 35 = .ok (.iload_n 1, 1) := by decide +kernel
theorem dX2_follows_36 : decode cX2_follows 36 = .ok (.aload_n 0, 1) := by decide +kernel
theorem dX2_follows_37 : decode cX2_follows 37 = .ok (.getfield 7, 3) := by decide +kernel
theorem dX2_follows_40 : decode cX2_follows 40 = .ok (.iload_n 3, 1) := by decide +kernel
theorem dX2_follows_41 : decode cX2_follows 41 = .ok (.iaload, 1) := by decide +kernel
theorem dX2_follows_42 : decode cX2_follows 42 = .ok (.invokevirtual 36, 3) := by decide +kernel
theorem dX2_follows_45 : decode cX2_follows 45 = .ok (.ifCond .eq 19, 3) := by decide +kernel
theorem dX2_follows_48 : decode cX2_follows 48 = .ok (.aload_n 0, 1) := by decide +kernel
theorem dX2_follows_49 : decode cX2_follows 49 = .ok (.iload_n 2, 1) := by decide +kernel
theorem dX2_follows_50 : decode cX2_follows 50 = .ok (.aload_n 0, 1) := by decide +kernel
theorem dX2_follows_51 : decode cX2_follows 51 = .ok (.getfield 7, 3) := by decide +kernel
theorem dX2_follows_54 : decode cX2_follows 54 = .ok (.iload_n 3, 1) := by decide +kernel
theorem dX2_follows_55 : decode cX2_follows 55 = .ok (.iaload, 1) := by decide +kernel
theorem dX2_follows_56 : decode cX2_follows 56 = .ok (.invokevirtual 36, 3) := by decide +kernel
theorem dX2_follows_59 : decode cX2_follows 59 = .ok (.ifCond .ne 5, 3) := by decide +kernel
theorem dX2_follows_62 : decode cX2_follows 62 = .ok (.iconst 0, 1) := by decide +kernel
theorem dX2_follows_63 : decode cX2_follows 63 = .ok (.ireturn, 1) := by decide +kernel
theorem dX2_follows_64 : decode cX2_follows 64 = .ok (.iinc 3 1, 3) := by decide +kernel
theorem dX2_follows_67 : decode cX2_follows 67 = .ok (.goto (-47), 3) := by decide +kernel
theorem dX2_follows_70 : decode cX2_follows 70 = .ok (.iconst 1, 1) := by decide +kernel
theorem dX2_follows_71 : decode cX2_follows 71 = .ok (.ireturn, 1) := by decide +kernel
abbrev cX2_rules : ByteArray := prog_3_method_24_code
def yX2_rules : MethodName := ⟨RX2, "rules", "()I"⟩
theorem dX2_rules_0 : decode cX2_rules 0 = .ok (.aload_n 0, 1) := by decide +kernel
theorem dX2_rules_1 : decode cX2_rules 1 = .ok (.invokevirtual 66, 3) := by decide +kernel
theorem dX2_rules_4 : decode cX2_rules 4 = .ok (.iconst 0, 1) := by decide +kernel
theorem dX2_rules_5 : decode cX2_rules 5 = .ok (.istore_n 1, 1) := by decide +kernel
theorem dX2_rules_6 : decode cX2_rules 6 = .ok (.iconst 0, 1) := by decide +kernel
theorem dX2_rules_7 : decode cX2_rules 7 = .ok (.istore_n 2, 1) := by decide +kernel
theorem dX2_rules_8 : decode cX2_rules 8 = .ok (.iload_n 2, 1) := by decide +kernel
theorem dX2_rules_9 : decode cX2_rules 9 = .ok (.aload_n 0, 1) := by decide +kernel
theorem dX2_rules_10 : decode cX2_rules 10 = .ok (.getfield 33, 3) := by decide +kernel
theorem dX2_rules_13 : decode cX2_rules 13 = .ok (.if_icmp .gt 21, 3) := by decide +kernel
theorem dX2_rules_16 : decode cX2_rules 16 = .ok (.aload_n 0, 1) := by decide +kernel
theorem dX2_rules_17 : decode cX2_rules 17 = .ok (.getfield 17, 3) := by decide +kernel
theorem dX2_rules_20 : decode cX2_rules 20 = .ok (.iload_n 2, 1) := by decide +kernel
theorem dX2_rules_21 : decode cX2_rules 21 = .ok (.baload, 1) := by decide +kernel
theorem dX2_rules_22 : decode cX2_rules 22 = .ok (.ifCond .eq 6, 3) := by decide +kernel
theorem dX2_rules_25 : decode cX2_rules 25 = .ok (.iinc 1 1, 3) := by decide +kernel
theorem dX2_rules_28 : decode cX2_rules 28 = .ok (.iinc 2 1, 3) := by decide +kernel
theorem dX2_rules_31 : decode cX2_rules 31 = .ok (.goto (-23), 3) := by decide +kernel
theorem dX2_rules_34 : decode cX2_rules 34 = .ok (.iload_n 1, 1) := by decide +kernel
theorem dX2_rules_35 : decode cX2_rules 35 = .ok (.ireturn, 1) := by decide +kernel
abbrev cX2_rule : ByteArray := prog_3_method_25_code
def yX2_rule : MethodName := ⟨RX2, "rule", "(I)I"⟩
theorem dX2_rule_0 : decode cX2_rule 0 = .ok (.aload_n 0, 1) := by decide +kernel
theorem dX2_rule_1 : decode cX2_rule 1 = .ok (.invokevirtual 66, 3) := by decide +kernel
theorem dX2_rule_4 : decode cX2_rule 4 = .ok (.iconst 0, 1) := by decide +kernel
theorem dX2_rule_5 : decode cX2_rule 5 = .ok (.istore_n 2, 1) := by decide +kernel
theorem dX2_rule_6 : decode cX2_rule 6 = .ok (.iconst 0, 1) := by decide +kernel
theorem dX2_rule_7 : decode cX2_rule 7 = .ok (.istore_n 3, 1) := by decide +kernel
theorem dX2_rule_8 : decode cX2_rule 8 = .ok (.iload_n 3, 1) := by decide +kernel
theorem dX2_rule_9 : decode cX2_rule 9 = .ok (.aload_n 0, 1) := by decide +kernel
theorem dX2_rule_10 : decode cX2_rule 10 = .ok (.getfield 33, 3) := by decide +kernel
theorem dX2_rule_13 : decode cX2_rule 13 = .ok (.if_icmp .gt 28, 3) := by decide +kernel
theorem dX2_rule_16 : decode cX2_rule 16 = .ok (.aload_n 0, 1) := by decide +kernel
theorem dX2_rule_17 : decode cX2_rule 17 = .ok (.getfield 17, 3) := by decide +kernel
theorem dX2_rule_20 : decode cX2_rule 20 = .ok (.iload_n 3, 1) := by decide +kernel
theorem dX2_rule_21 : decode cX2_rule 21 = .ok (.baload, 1) := by decide +kernel
theorem dX2_rule_22 : decode cX2_rule 22 = .ok (.ifCond .eq 13, 3) := by decide +kernel
theorem dX2_rule_25 : decode cX2_rule 25 = .ok (.iload_n 2, 1) := by decide +kernel
theorem dX2_rule_26 : decode cX2_rule 26 = .ok (.iload_n 1, 1) := by decide +kernel
theorem dX2_rule_27 : decode cX2_rule 27 = .ok (.if_icmp .ne 5, 3) := by decide +kernel
theorem dX2_rule_30 : decode cX2_rule 30 = .ok (.iload_n 3, 1) := by decide +kernel
theorem dX2_rule_31 : decode cX2_rule 31 = .ok (.ireturn, 1) := by decide +kernel
theorem dX2_rule_32 : decode cX2_rule 32 = .ok (.iinc 2 1, 3) := by decide +kernel
theorem dX2_rule_35 : decode cX2_rule 35 = .ok (.iinc 3 1, 3) := by decide +kernel
theorem dX2_rule_38 : decode cX2_rule 38 = .ok (.goto (-30), 3) := by decide +kernel
theorem dX2_rule_41 : decode cX2_rule 41 = .ok (.iconst (-1), 1) := by decide +kernel
theorem dX2_rule_42 : decode cX2_rule 42 = .ok (.ireturn, 1) := by decide +kernel
abbrev cX2_covers : ByteArray := prog_3_method_28_code
def yX2_covers : MethodName := ⟨RX2, "covers", "(I)I"⟩
theorem dX2_covers_0 : decode cX2_covers 0 = .ok (.aload_n 0, 1) := by decide +kernel
theorem dX2_covers_1 : decode cX2_covers 1 = .ok (.iload_n 1, 1) := by decide +kernel
theorem dX2_covers_2 : decode cX2_covers 2 = .ok (.invokevirtual 47, 3) := by decide +kernel
theorem dX2_covers_5 : decode cX2_covers 5 = .ok (.ifCond .eq 5, 3) := by decide +kernel
theorem dX2_covers_8 : decode cX2_covers 8 = .ok (.iconst (-1), 1) := by decide +kernel
theorem dX2_covers_9 : decode cX2_covers 9 = .ok (.ireturn, 1) := by decide +kernel
theorem dX2_covers_10 : decode cX2_covers 10 = .ok (.aload_n 0, 1) := by decide +kernel
theorem dX2_covers_11 : decode cX2_covers 11 = .ok (.invokevirtual 66, 3) := by decide +kernel
theorem dX2_covers_14 : decode cX2_covers 14 = .ok (.aload_n 0, 1) := by decide +kernel
theorem dX2_covers_15 : decode cX2_covers 15 = .ok (.aload_n 0, 1) := by decide +kernel
theorem dX2_covers_16 : decode cX2_covers 16 = .ok (.getfield 20, 3) := by decide +kernel
theorem dX2_covers_19 : decode cX2_covers 19 = .ok (.iload_n 1, 1) := by decide +kernel
theorem dX2_covers_20 : decode cX2_covers 20 = .ok (.iaload, 1) := by decide +kernel
theorem dX2_covers_21 : decode cX2_covers 21 = .ok (.invokevirtual 72, 3) := by decide +kernel
theorem dX2_covers_24 : decode cX2_covers 24 = .ok (.ireturn, 1) := by decide +kernel
abbrev cX2_over : ByteArray := prog_3_method_27_code
def yX2_over : MethodName := ⟨RX2, "over", "(I)I"⟩
theorem dX2_over_0 : decode cX2_over 0 = .ok (.iconst 0, 1) := by decide +kernel
theorem dX2_over_1 : decode cX2_over 1 = .ok (.istore_n 2, 1) := by decide +kernel
theorem dX2_over_2 : decode cX2_over 2 = .ok (.iconst 0, 1) := by decide +kernel
theorem dX2_over_3 : decode cX2_over 3 = .ok (.istore_n 3, 1) := by decide +kernel
theorem dX2_over_4 : decode cX2_over 4 = .ok (.iload_n 3, 1) := by decide +kernel
theorem dX2_over_5 : decode cX2_over 5 = .ok (.aload_n 0, 1) := by decide +kernel
theorem dX2_over_6 : decode cX2_over 6 = .ok (.getfield 33, 3) := by decide +kernel
theorem dX2_over_9 : decode cX2_over 9 = .ok (.if_icmp .gt 39, 3) := by decide +kernel
theorem dX2_over_12 : decode cX2_over 12 = .ok (.aload_n 0, 1) := by decide +kernel
theorem dX2_over_13 : decode cX2_over 13 = .ok (.getfield 13, 3) := by decide +kernel
theorem dX2_over_16 : decode cX2_over 16 = .ok (.iload_n 3, 1) := by decide +kernel
theorem dX2_over_17 : decode cX2_over 17 = .ok (.baload, 1) := by decide +kernel
theorem dX2_over_18 : decode cX2_over 18 = .ok (.ifCond .eq 24, 3) := by decide +kernel
theorem dX2_over_21 : decode cX2_over 21 = .ok (.aload_n 0, 1) := by decide +kernel
theorem dX2_over_22 : decode cX2_over 22 = .ok (.iload_n 1, 1) := by decide +kernel
theorem dX2_over_23 : decode cX2_over 23 = .ok (.iload_n 3, 1) := by decide +kernel
theorem dX2_over_24 : decode cX2_over 24 = .ok (.invokevirtual 60, 3) := by decide +kernel
theorem dX2_over_27 : decode cX2_over 27 = .ok (.ifCond .eq 15, 3) := by decide +kernel
theorem dX2_over_30 : decode cX2_over 30 = .ok (.aload_n 0, 1) := by decide +kernel
theorem dX2_over_31 : decode cX2_over 31 = .ok (.iload_n 1, 1) := by decide +kernel
theorem dX2_over_32 : decode cX2_over 32 = .ok (.iload_n 3, 1) := by decide +kernel
theorem dX2_over_33 : decode cX2_over 33 = .ok (.invokevirtual 69, 3) := by decide +kernel
theorem dX2_over_36 : decode cX2_over 36 = .ok (.ifCond .ne 6, 3) := by decide +kernel
theorem dX2_over_39 : decode cX2_over 39 = .ok (.iinc 2 1, 3) := by decide +kernel
theorem dX2_over_42 : decode cX2_over 42 = .ok (.iinc 3 1, 3) := by decide +kernel
theorem dX2_over_45 : decode cX2_over 45 = .ok (.goto (-41), 3) := by decide +kernel
theorem dX2_over_48 : decode cX2_over 48 = .ok (.iload_n 2, 1) := by decide +kernel
theorem dX2_over_49 : decode cX2_over 49 = .ok (.ireturn, 1) := by decide +kernel
abbrev cX2_between : ByteArray := prog_3_method_26_code
def yX2_between : MethodName := ⟨RX2, "between", "(II)Z"⟩
theorem dX2_between_0 : decode cX2_between 0 = .ok (.iconst 0, 1) := by decide +kernel
theorem dX2_between_1 : decode cX2_between 1 = .ok (.istore_n 3, 1) := by decide +kernel
theorem dX2_between_2 : decode cX2_between 2 = .ok (.iload_n 3, 1) := by decide +kernel
theorem dX2_between_3 : decode cX2_between 3 = .ok (.aload_n 0, 1) := by decide +kernel
theorem dX2_between_4 : decode cX2_between 4 = .ok (.getfield 33, 3) := by decide +kernel
theorem dX2_between_7 : decode cX2_between 7 = .ok (.if_icmp .gt 38, 3) := by decide +kernel
theorem dX2_between_10 : decode cX2_between 10 = .ok (.aload_n 0, 1) := by decide +kernel
theorem dX2_between_11 : decode cX2_between 11 = .ok (.getfield 13, 3) := by decide +kernel
theorem dX2_between_14 : decode cX2_between 14 = .ok (.iload_n 3, 1) := by decide +kernel
theorem dX2_between_15 : decode cX2_between 15 = .ok (.baload, 1) := by decide +kernel
theorem dX2_between_16 : decode cX2_between 16 = .ok (.ifCond .eq 23, 3) := by decide +kernel
theorem dX2_between_19 : decode cX2_between 19 = .ok (.aload_n 0, 1) := by decide +kernel
theorem dX2_between_20 : decode cX2_between 20 = .ok (.iload_n 1, 1) := by decide +kernel
theorem dX2_between_21 : decode cX2_between 21 = .ok (.iload_n 3, 1) := by decide +kernel
theorem dX2_between_22 : decode cX2_between 22 = .ok (.invokevirtual 60, 3) := by decide +kernel
theorem dX2_between_25 : decode cX2_between 25 = .ok (.ifCond .eq 14, 3) := by decide +kernel
theorem dX2_between_28 : decode cX2_between 28 = .ok (.aload_n 0, 1) := by decide +kernel
theorem dX2_between_29 : decode cX2_between 29 = .ok (.iload_n 3, 1) := by decide +kernel
theorem dX2_between_30 : decode cX2_between 30 = .ok (.iload_n 2, 1) := by decide +kernel
theorem dX2_between_31 : decode cX2_between 31 = .ok (.invokevirtual 60, 3) := by decide +kernel
theorem dX2_between_34 : decode cX2_between 34 = .ok (.ifCond .eq 5, 3) := by decide +kernel
theorem dX2_between_37 : decode cX2_between 37 = .ok (.iconst 1, 1) := by decide +kernel
theorem dX2_between_38 : decode cX2_between 38 = .ok (.ireturn, 1) := by decide +kernel
theorem dX2_between_39 : decode cX2_between 39 = .ok (.iinc 3 1, 3) := by decide +kernel
theorem dX2_between_42 : decode cX2_between 42 = .ok (.goto (-40), 3) := by decide +kernel
theorem dX2_between_45 : decode cX2_between 45 = .ok (.iconst 0, 1) := by decide +kernel
theorem dX2_between_46 : decode cX2_between 46 = .ok (.ireturn, 1) := by decide +kernel
abbrev cX2_links : ByteArray := prog_3_method_29_code
def yX2_links : MethodName := ⟨RX2, "links", "()I"⟩
theorem dX2_links_0 : decode cX2_links 0 = .ok (.aload_n 0, 1) := by decide +kernel
theorem dX2_links_1 : decode cX2_links 1 = .ok (.invokevirtual 66, 3) := by decide +kernel
theorem dX2_links_4 : decode cX2_links 4 = .ok (.iconst 0, 1) := by decide +kernel
theorem dX2_links_5 : decode cX2_links 5 = .ok (.istore_n 1, 1) := by decide +kernel
theorem dX2_links_6 : decode cX2_links 6 = .ok (.iconst 0, 1) := by decide +kernel
theorem dX2_links_7 : decode cX2_links 7 = .ok (.istore_n 2, 1) := by decide +kernel
theorem dX2_links_8 : decode cX2_links 8 = .ok (.iload_n 2, 1) := by decide +kernel
theorem dX2_links_9 : decode cX2_links 9 = .ok (.aload_n 0, 1) := by decide +kernel
theorem dX2_links_10 : decode cX2_links 10 = .ok (.getfield 33, 3) := by decide +kernel
theorem dX2_links_13 : decode cX2_links 13 = .ok (.if_icmp .gt 26, 3) := by decide +kernel
theorem dX2_links_16 : decode cX2_links 16 = .ok (.aload_n 0, 1) := by decide +kernel
theorem dX2_links_17 : decode cX2_links 17 = .ok (.getfield 13, 3) := by decide +kernel
theorem dX2_links_20 : decode cX2_links 20 = .ok (.iload_n 2, 1) := by decide +kernel
theorem dX2_links_21 : decode cX2_links 21 = .ok (.baload, 1) := by decide +kernel
theorem dX2_links_22 : decode cX2_links 22 = .ok (.ifCond .eq 11, 3) := by decide +kernel
theorem dX2_links_25 : decode cX2_links 25 = .ok (.iload_n 1, 1) := by decide +kernel
theorem dX2_links_26 : decode cX2_links 26 = .ok (.aload_n 0, 1) := by decide +kernel
theorem dX2_links_27 : decode cX2_links 27 = .ok (.iload_n 2, 1) := by decide +kernel
theorem dX2_links_28 : decode cX2_links 28 = .ok (.invokevirtual 72, 3) := by decide +kernel
theorem dX2_links_31 : decode cX2_links 31 = .ok (.iadd, 1) := by decide +kernel
theorem dX2_links_32 : decode cX2_links 32 = .ok (.istore_n 1, 1) := by decide +kernel
theorem dX2_links_33 : decode cX2_links 33 = .ok (.iinc 2 1, 3) := by decide +kernel
theorem dX2_links_36 : decode cX2_links 36 = .ok (.goto (-28), 3) := by decide +kernel
theorem dX2_links_39 : decode cX2_links 39 = .ok (.iload_n 1, 1) := by decide +kernel
theorem dX2_links_40 : decode cX2_links 40 = .ok (.ireturn, 1) := by decide +kernel
abbrev cX2_height : ByteArray := prog_3_method_30_code
def yX2_height : MethodName := ⟨RX2, "height", "()I"⟩
theorem dX2_height_0 : decode cX2_height 0 = .ok (.aload_n 0, 1) := by decide +kernel
theorem dX2_height_1 : decode cX2_height 1 = .ok (.invokevirtual 66, 3) := by decide +kernel
theorem dX2_height_4 : decode cX2_height 4 = .ok (.iconst 0, 1) := by decide +kernel
theorem dX2_height_5 : decode cX2_height 5 = .ok (.istore_n 1, 1) := by decide +kernel
theorem dX2_height_6 : decode cX2_height 6 = .ok (.iconst 0, 1) := by decide +kernel
theorem dX2_height_7 : decode cX2_height 7 = .ok (.istore_n 2, 1) := by decide +kernel
theorem dX2_height_8 : decode cX2_height 8 = .ok (.iload_n 2, 1) := by decide +kernel
theorem dX2_height_9 : decode cX2_height 9 = .ok (.aload_n 0, 1) := by decide +kernel
theorem dX2_height_10 : decode cX2_height 10 = .ok (.getfield 33, 3) := by decide +kernel
theorem dX2_height_13 : decode cX2_height 13 = .ok (.if_icmp .gt 124, 3) := by decide +kernel
theorem dX2_height_16 : decode cX2_height 16 = .ok (.iload_n 2, 1) := by decide +kernel
theorem dX2_height_17 : decode cX2_height 17 = .ok (.sipush 128, 3) := by decide +kernel
theorem dX2_height_20 : decode cX2_height 20 = .ok (.if_icmp .ge 117, 3) := by decide +kernel
theorem dX2_height_23 : decode cX2_height 23 = .ok (.aload_n 0, 1) := by decide +kernel
theorem dX2_height_24 : decode cX2_height 24 = .ok (.getfield 23, 3) := by decide +kernel
theorem dX2_height_27 : decode cX2_height 27 = .ok (.iload_n 2, 1) := by decide +kernel
theorem dX2_height_28 : decode cX2_height 28 = .ok (.aload_n 0, 1) := by decide +kernel
theorem dX2_height_29 : decode cX2_height 29 = .ok (.getfield 13, 3) := by decide +kernel
theorem dX2_height_32 : decode cX2_height 32 = .ok (.iload_n 2, 1) := by decide +kernel
theorem dX2_height_33 : decode cX2_height 33 = .ok (.baload, 1) := by decide +kernel
theorem dX2_height_34 : decode cX2_height 34 = .ok (.ifCond .eq 7, 3) := by decide +kernel
theorem dX2_height_37 : decode cX2_height 37 = .ok (.iconst 1, 1) := by decide +kernel
theorem dX2_height_38 : decode cX2_height 38 = .ok (.goto 4, 3) := by decide +kernel
theorem dX2_height_41 : decode cX2_height 41 = .ok (.iconst 0, 1) := by decide +kernel
theorem dX2_height_42 : decode cX2_height 42 = .ok (.iastore, 1) := by decide +kernel
theorem dX2_height_43 : decode cX2_height 43 = .ok (.iconst 0, 1) := by decide +kernel
theorem dX2_height_44 : decode cX2_height 44 = .ok (.istore_n 3, 1) := by decide +kernel
theorem dX2_height_45 : decode cX2_height 45 = .ok (.iload_n 3, 1) := by decide +kernel
theorem dX2_height_46 : decode cX2_height 46 = .ok (.iload_n 2, 1) := by decide +kernel
theorem dX2_height_47 : decode cX2_height 47 = .ok (.if_icmp .ge 67, 3) := by decide +kernel
theorem dX2_height_50 : decode cX2_height 50 = .ok (.aload_n 0, 1) := by decide +kernel
theorem dX2_height_51 : decode cX2_height 51 = .ok (.getfield 13, 3) := by decide +kernel
theorem dX2_height_54 : decode cX2_height 54 = .ok (.iload_n 2, 1) := by decide +kernel
theorem dX2_height_55 : decode cX2_height 55 = .ok (.baload, 1) := by decide +kernel
theorem dX2_height_56 : decode cX2_height 56 = .ok (.ifCond .eq 52, 3) := by decide +kernel
theorem dX2_height_59 : decode cX2_height 59 = .ok (.aload_n 0, 1) := by decide +kernel
theorem dX2_height_60 : decode cX2_height 60 = .ok (.getfield 13, 3) := by decide +kernel
theorem dX2_height_63 : decode cX2_height 63 = .ok (.iload_n 3, 1) := by decide +kernel
theorem dX2_height_64 : decode cX2_height 64 = .ok (.baload, 1) := by decide +kernel
theorem dX2_height_65 : decode cX2_height 65 = .ok (.ifCond .eq 43, 3) := by decide +kernel
theorem dX2_height_68 : decode cX2_height 68 = .ok (.aload_n 0, 1) := by decide +kernel
theorem dX2_height_69 : decode cX2_height 69 = .ok (.iload_n 3, 1) := by decide +kernel
theorem dX2_height_70 : decode cX2_height 70 = .ok (.iload_n 2, 1) := by decide +kernel
theorem dX2_height_71 : decode cX2_height 71 = .ok (.invokevirtual 60, 3) := by decide +kernel
theorem dX2_height_74 : decode cX2_height 74 = .ok (.ifCond .eq 34, 3) := by decide +kernel
theorem dX2_height_77 : decode cX2_height 77 = .ok (.aload_n 0, 1) := by decide +kernel
theorem dX2_height_78 : decode cX2_height 78 = .ok (.getfield 23, 3) := by decide +kernel
theorem dX2_height_81 : decode cX2_height 81 = .ok (.iload_n 3, 1) := by decide +kernel
theorem dX2_height_82 : decode cX2_height 82 = .ok (.iaload, 1) := by decide +kernel
theorem dX2_height_83 : decode cX2_height 83 = .ok (.iconst 1, 1) := by decide +kernel
theorem dX2_height_84 : decode cX2_height 84 = .ok (.iadd, 1) := by decide +kernel
theorem dX2_height_85 : decode cX2_height 85 = .ok (.aload_n 0, 1) := by decide +kernel
theorem dX2_height_86 : decode cX2_height 86 = .ok (.getfield 23, 3) := by decide +kernel
theorem dX2_height_89 : decode cX2_height 89 = .ok (.iload_n 2, 1) := by decide +kernel
theorem dX2_height_90 : decode cX2_height 90 = .ok (.iaload, 1) := by decide +kernel
theorem dX2_height_91 : decode cX2_height 91 = .ok (.if_icmp .le 17, 3) := by decide +kernel
theorem dX2_height_94 : decode cX2_height 94 = .ok (.aload_n 0, 1) := by decide +kernel
theorem dX2_height_95 : decode cX2_height 95 = .ok (.getfield 23, 3) := by decide +kernel
theorem dX2_height_98 : decode cX2_height 98 = .ok (.iload_n 2, 1) := by decide +kernel
theorem dX2_height_99 : decode cX2_height 99 = .ok (.aload_n 0, 1) := by decide +kernel
theorem dX2_height_100 : decode cX2_height 100 = .ok (.getfield 23, 3) := by decide +kernel
theorem dX2_height_103 : decode cX2_height 103 = .ok (.iload_n 3, 1) := by decide +kernel
theorem dX2_height_104 : decode cX2_height 104 = .ok (.iaload, 1) := by decide +kernel
theorem dX2_height_105 : decode cX2_height 105 = .ok (.iconst 1, 1) := by decide +kernel
theorem dX2_height_106 : decode cX2_height 106 = .ok (.iadd, 1) := by decide +kernel
theorem dX2_height_107 : decode cX2_height 107 = .ok (.iastore, 1) := by decide +kernel
theorem dX2_height_108 : decode cX2_height 108 = .ok (.iinc 3 1, 3) := by decide +kernel
theorem dX2_height_111 : decode cX2_height 111 = .ok (.goto (-66), 3) := by decide +kernel
theorem dX2_height_114 : decode cX2_height 114 = .ok (.aload_n 0, 1) := by decide +kernel
theorem dX2_height_115 : decode cX2_height 115 = .ok (.getfield 23, 3) := by decide +kernel
theorem dX2_height_118 : decode cX2_height 118 = .ok (.iload_n 2, 1) := by decide +kernel
theorem dX2_height_119 : decode cX2_height 119 = .ok (.iaload, 1) := by decide +kernel
theorem dX2_height_120 : decode cX2_height 120 = .ok (.iload_n 1, 1) := by decide +kernel
theorem dX2_height_121 : decode cX2_height 121 = .ok (.if_icmp .le 10, 3) := by decide +kernel
theorem dX2_height_124 : decode cX2_height 124 = .ok (.aload_n 0, 1) := by decide +kernel
theorem dX2_height_125 : decode cX2_height 125 = .ok (.getfield 23, 3) := by decide +kernel
theorem dX2_height_128 : decode cX2_height 128 = .ok (.iload_n 2, 1) := by decide +kernel
theorem dX2_height_129 : decode cX2_height 129 = .ok (.iaload, 1) := by decide +kernel
theorem dX2_height_130 : decode cX2_height 130 = .ok (.istore_n 1, 1) := by decide +kernel
theorem dX2_height_131 : decode cX2_height 131 = .ok (.iinc 2 1, 3) := by decide +kernel
theorem dX2_height_134 : decode cX2_height 134 = .ok (.goto (-126), 3) := by decide +kernel
theorem dX2_height_137 : decode cX2_height 137 = .ok (.iload_n 1, 1) := by decide +kernel
theorem dX2_height_138 : decode cX2_height 138 = .ok (.ireturn, 1) := by decide +kernel
end
section
set_option maxRecDepth 100000
abbrev cX2_generatorSize : ByteArray := prog_3_method_32_code
def yX2_generatorSize : MethodName := ⟨RX2, "generatorSize", "(I)I"⟩
theorem dX2_generatorSize_0 : decode cX2_generatorSize 0 = .ok (.aload_n 0, 1) := by decide +kernel
theorem dX2_generatorSize_1 : decode cX2_generatorSize 1 = .ok (.iload_n 1, 1) := by decide +kernel
theorem dX2_generatorSize_2 : decode cX2_generatorSize 2 = .ok (.invokevirtual 47, 3) := by decide +kernel
theorem dX2_generatorSize_5 : decode cX2_generatorSize 5 = .ok (.ifCond .eq 5, 3) := by decide +kernel
theorem dX2_generatorSize_8 : decode cX2_generatorSize 8 = .ok (.iconst (-1), 1) := by decide +kernel
theorem dX2_generatorSize_9 : decode cX2_generatorSize 9 = .ok (.ireturn, 1) := by decide +kernel
theorem dX2_generatorSize_10 : decode cX2_generatorSize 10 = .ok (.aload_n 0, 1) := by decide +kernel
theorem dX2_generatorSize_11 : decode cX2_generatorSize 11 = .ok (.invokevirtual 66, 3) := by decide +kernel
theorem dX2_generatorSize_14 : decode cX2_generatorSize 14 = .ok (.bipush 7, 2) := by decide +kernel
theorem dX2_generatorSize_16 : decode cX2_generatorSize 16 = .ok (.istore_n 2, 1) := by decide +kernel
theorem dX2_generatorSize_17 : decode cX2_generatorSize 17 = .ok (.iconst 0, 1) := by decide +kernel
theorem dX2_generatorSize_18 : decode cX2_generatorSize 18 = .ok (.istore_n 3, 1) := by decide +kernel
theorem dX2_generatorSize_19 : decode cX2_generatorSize 19 = .ok (.iload_n 3, 1) := by decide +kernel
theorem dX2_generatorSize_20 : decode cX2_generatorSize 20 = .ok (.aload_n 0, 1) := by decide +kernel
theorem dX2_generatorSize_21 : decode cX2_generatorSize 21 = .ok (.getfield 33, 3) := by decide +kernel
theorem dX2_generatorSize_24 : decode cX2_generatorSize 24 = .ok (.if_icmp .gt 39, 3) := by decide +kernel
theorem dX2_generatorSize_27 : decode cX2_generatorSize 27 = .ok (.aload_n 0, 1) := by decide +kernel
theorem dX2_generatorSize_28 : decode cX2_generatorSize 28 = .ok (.getfield 20, 3) := by decide +kernel
theorem dX2_generatorSize_31 : decode cX2_generatorSize 31 = .ok (.iload_n 3, 1) := by decide +kernel
theorem dX2_generatorSize_32 : decode cX2_generatorSize 32 = .ok (.iaload, 1) := by decide +kernel
theorem dX2_generatorSize_33 : decode cX2_generatorSize 33 = .ok (.aload_n 0, 1) := by decide +kernel
theorem dX2_generatorSize_34 : decode cX2_generatorSize 34 = .ok (.getfield 20, 3) := by decide +kernel
theorem dX2_generatorSize_37 : decode cX2_generatorSize 37 = .ok (.iload_n 1, 1) := by decide +kernel
theorem dX2_generatorSize_38 : decode cX2_generatorSize 38 = .ok (.iaload, 1) := by decide +kernel
theorem dX2_generatorSize_39 : decode cX2_generatorSize 39 = .ok (.if_icmp .ne 18, 3) := by decide +kernel
theorem dX2_generatorSize_42 : decode cX2_generatorSize 42 = .ok (.aload_n 0, 1) := by decide +kernel
theorem dX2_generatorSize_43 : decode cX2_generatorSize 43 = .ok (.iload_n 3, 1) := by decide +kernel
theorem dX2_generatorSize_44 : decode cX2_generatorSize 44 = .ok (.invokevirtual 75, 3) := by decide +kernel
theorem dX2_generatorSize_47 : decode cX2_generatorSize 47 = .ok (.iload_n 2, 1) := by decide +kernel
theorem dX2_generatorSize_48 : decode cX2_generatorSize 48 = .ok (.if_icmp .ge 9, 3) := by decide +kernel
theorem dX2_generatorSize_51 : decode cX2_generatorSize 51 = .ok (.aload_n 0, 1) := by decide +kernel
theorem dX2_generatorSize_52 : decode cX2_generatorSize 52 = .ok (.iload_n 3, 1) := by decide +kernel
theorem dX2_generatorSize_53 : decode cX2_generatorSize 53 = .ok (.invokevirtual 75, 3) := by decide +kernel
theorem dX2_generatorSize_56 : decode cX2_generatorSize 56 = .ok (.istore_n 2, 1) := by decide +kernel
theorem dX2_generatorSize_57 : decode cX2_generatorSize 57 = .ok (.iinc 3 1, 3) := by decide +kernel
theorem dX2_generatorSize_60 : decode cX2_generatorSize 60 = .ok (.goto (-41), 3) := by decide +kernel
theorem dX2_generatorSize_63 : decode cX2_generatorSize 63 = .ok (.iload_n 2, 1) := by decide +kernel
theorem dX2_generatorSize_64 : decode cX2_generatorSize 64 = .ok (.ireturn, 1) := by decide +kernel
abbrev cX2_size : ByteArray := prog_3_method_31_code
def yX2_size : MethodName := ⟨RX2, "size", "(I)I"⟩
theorem dX2_size_0 : decode cX2_size 0 = .ok (.iconst 0, 1) := by decide +kernel
theorem dX2_size_1 : decode cX2_size 1 = .ok (.istore_n 2, 1) := by decide +kernel
theorem dX2_size_2 : decode cX2_size 2 = .ok (.iconst 0, 1) := by decide +kernel
theorem dX2_size_3 : decode cX2_size 3 = .ok (.istore_n 3, 1) := by decide +kernel
theorem dX2_size_4 : decode cX2_size 4 = .ok (.iload_n 3, 1) := by decide +kernel
theorem dX2_size_5 : decode cX2_size 5 = .ok (.bipush 7, 2) := by decide +kernel
theorem dX2_size_7 : decode cX2_size 7 = .ok (.if_icmp .ge 17, 3) := by decide +kernel
theorem dX2_size_10 : decode cX2_size 10 = .ok (.iload_n 2, 1) := by decide +kernel
theorem dX2_size_11 : decode cX2_size 11 = .ok (.iload_n 1, 1) := by decide +kernel
theorem dX2_size_12 : decode cX2_size 12 = .ok (.iload_n 3, 1) := by decide +kernel
theorem dX2_size_13 : decode cX2_size 13 = .ok (.ishr, 1) := by decide +kernel
theorem dX2_size_14 : decode cX2_size 14 = .ok (.iconst 1, 1) := by decide +kernel
theorem dX2_size_15 : decode cX2_size 15 = .ok (.iand, 1) := by decide +kernel
theorem dX2_size_16 : decode cX2_size 16 = .ok (.iadd, 1) := by decide +kernel
theorem dX2_size_17 : decode cX2_size 17 = .ok (.istore_n 2, 1) := by decide +kernel
theorem dX2_size_18 : decode cX2_size 18 = .ok (.iinc 3 1, 3) := by decide +kernel
theorem dX2_size_21 : decode cX2_size 21 = .ok (.goto (-17), 3) := by decide +kernel
theorem dX2_size_24 : decode cX2_size 24 = .ok (.iload_n 2, 1) := by decide +kernel
theorem dX2_size_25 : decode cX2_size 25 = .ok (.ireturn, 1) := by decide +kernel
abbrev cX2_dispensable : ByteArray := prog_3_method_33_code
def yX2_dispensable : MethodName := ⟨RX2, "dispensable", "(I)I"⟩
theorem dX2_dispensable_0 : decode cX2_dispensable 0 = .ok (.aload_n 0, 1) := by decide +kernel
theorem dX2_dispensable_1 : decode cX2_dispensable 1 = .ok (.iload_n 1, 1) := by decide +kernel
theorem dX2_dispensable_2 : decode cX2_dispensable 2 = .ok (.invokevirtual 44, 3) := by decide +kernel
theorem dX2_dispensable_5 : decode cX2_dispensable 5 = .ok (.ifCond .eq 5, 3) := by decide +kernel
theorem dX2_dispensable_8 : decode cX2_dispensable 8 = .ok (.iconst (-1), 1) := by decide +kernel
theorem dX2_dispensable_9 : decode cX2_dispensable 9 = .ok (.ireturn, 1) := by decide +kernel
theorem dX2_dispensable_10 : decode cX2_dispensable 10 = .ok (.aload_n 0, 1) := by decide +kernel
theorem dX2_dispensable_11 : decode cX2_dispensable 11 = .ok (.invokevirtual 66, 3) := by decide +kernel
theorem dX2_dispensable_14 : decode cX2_dispensable 14 = .ok (.iconst 0, 1) := by decide +kernel
theorem dX2_dispensable_15 : decode cX2_dispensable 15 = .ok (.istore_n 2, 1) := by decide +kernel
theorem dX2_dispensable_16 : decode cX2_dispensable 16 = .ok (.iload_n 2, 1) := by decide +kernel
theorem dX2_dispensable_17 : decode cX2_dispensable 17 = .ok (.aload_n 0, 1) := by decide +kernel
theorem dX2_dispensable_18 : decode cX2_dispensable 18 = .ok (.getfield 33, 3) := by decide +kernel
theorem dX2_dispensable_21 : decode cX2_dispensable 21 = .ok (.if_icmp .gt 33, 3) := by decide +kernel
theorem dX2_dispensable_24 : decode cX2_dispensable 24 = .ok (.aload_n 0, 1) := by decide +kernel
theorem dX2_dispensable_25 : decode cX2_dispensable 25 = .ok (.getfield 13, 3) := by decide +kernel
theorem dX2_dispensable_28 : decode cX2_dispensable 28 = .ok (.iload_n 2, 1) := by decide +kernel
theorem dX2_dispensable_29 : decode cX2_dispensable 29 = .ok (.baload, 1) := by decide +kernel
theorem dX2_dispensable_30 : decode cX2_dispensable 30 = .ok (.ifCond .eq 18, 3) := by decide +kernel
theorem dX2_dispensable_33 : decode cX2_dispensable 33 = .ok (.aload_n 0, 1) := by decide +kernel
theorem dX2_dispensable_34 : decode cX2_dispensable 34 = .ok (.getfield 13, 3) := by decide +kernel
theorem dX2_dispensable_37 : decode cX2_dispensable 37 = .ok (.iload_n 2, 1) := by decide +kernel
theorem dX2_dispensable_38 : decode cX2_dispensable 38 = .ok (.iconst 1, 1) := by decide +kernel
theorem dX2_dispensable_39 : decode cX2_dispensable 39 = .ok (.iload_n 1, 1) := by decide +kernel
theorem dX2_dispensable_40 : decode cX2_dispensable 40 = .ok (.ishl, 1) := by decide +kernel
theorem dX2_dispensable_41 : decode cX2_dispensable 41 = .ok (.ixor, 1) := by decide +kernel
theorem dX2_dispensable_42 : decode cX2_dispensable 42 = .ok (.baload, 1) := by decide +kernel
theorem dX2_dispensable_43 : decode cX2_dispensable 43 = .ok (.ifCond .eq 5, 3) := by decide +kernel
theorem dX2_dispensable_46 : decode cX2_dispensable 46 = .ok (.iconst 0, 1) := by decide +kernel
theorem dX2_dispensable_47 : decode cX2_dispensable 47 = .ok (.ireturn, 1) := by decide +kernel
theorem dX2_dispensable_48 : decode cX2_dispensable 48 = .ok (.iinc 2 1, 3) := by decide +kernel
theorem dX2_dispensable_51 : decode cX2_dispensable 51 = .ok (.goto (-35), 3) := by decide +kernel
theorem dX2_dispensable_54 : decode cX2_dispensable 54 = .ok (.iconst 1, 1) := by decide +kernel
theorem dX2_dispensable_55 : decode cX2_dispensable 55 = .ok (.ireturn, 1) := by decide +kernel
end
section
set_option maxRecDepth 100000
theorem q28 : (Jvm.Cond.initialized "ConceptLatticeModel") ∈ lw_all := lw_g (lw_at lw_m1 2 rfl) rfl
theorem q207 : (Jvm.Cond.instantiable "ConceptLatticeModel" (8 : Nat)) ∈ lw_all := lw_g (lw_at lw_m1 181 rfl) rfl
theorem q209 : (Jvm.Cond.instanceMethod ({ cls := "ConceptLatticeModel", name := "<init>", desc := "(II)V" } : Jvm.MethodName)) ∈ lw_all := lw_g (lw_at lw_m1 183 rfl) rfl
theorem q210 : (Jvm.Cond.code ({ cls := "ConceptLatticeModel", name := "<init>", desc := "(II)V" } : Jvm.MethodName) prog_3_method_1_code (3 : Nat) (Option.none : Option Jvm.ClassFile.FieldType)) ∈ lw_all := lw_g (lw_at lw_m1 184 rfl) rfl
theorem q211 : (Jvm.Cond.methodLink "ConceptLatticeModel" (1 : Nat) ({ cls := "java/lang/Object", name := "<init>", desc := "()V" } : Jvm.MethodName)) ∈ lw_all := lw_g (lw_at lw_m1 185 rfl) rfl
theorem q212 : (Jvm.Cond.fieldLink "ConceptLatticeModel" (26 : Nat) "ConceptLatticeModel" "n" "I") ∈ lw_all := lw_g (lw_at lw_m1 186 rfl) rfl
theorem q213 : (Jvm.Cond.fieldLink "ConceptLatticeModel" (30 : Nat) "ConceptLatticeModel" "m" "I") ∈ lw_all := lw_g (lw_at lw_m1 187 rfl) rfl
theorem q214 : (Jvm.Cond.fieldLink "ConceptLatticeModel" (33 : Nat) "ConceptLatticeModel" "all" "I") ∈ lw_all := lw_g (lw_at lw_m1 188 rfl) rfl
theorem q215 : (Jvm.Cond.fieldLink "ConceptLatticeModel" (7 : Nat) "ConceptLatticeModel" "rows" "[I") ∈ lw_all := lw_g (lw_at lw_m1 189 rfl) rfl
theorem q216 : (Jvm.Cond.fieldLink "ConceptLatticeModel" (13 : Nat) "ConceptLatticeModel" "closed" "[Z") ∈ lw_all := lw_g (lw_at lw_m1 190 rfl) rfl
theorem q217 : (Jvm.Cond.fieldLink "ConceptLatticeModel" (17 : Nat) "ConceptLatticeModel" "pseudo" "[Z") ∈ lw_all := lw_g (lw_at lw_m1 191 rfl) rfl
theorem q218 : (Jvm.Cond.fieldLink "ConceptLatticeModel" (20 : Nat) "ConceptLatticeModel" "closures" "[I") ∈ lw_all := lw_g (lw_at lw_m1 192 rfl) rfl
theorem q219 : (Jvm.Cond.fieldLink "ConceptLatticeModel" (23 : Nat) "ConceptLatticeModel" "chain" "[I") ∈ lw_all := lw_g (lw_at lw_m1 193 rfl) rfl
theorem q220 : (Jvm.Cond.lays "ConceptLatticeModel" "ConceptLatticeModel" "n" "I") ∈ lw_all := lw_g (lw_at lw_m1 194 rfl) rfl
theorem q221 : (Jvm.Cond.soleField "ConceptLatticeModel" "n") ∈ lw_all := lw_g (lw_at lw_m1 195 rfl) rfl
theorem q222 : (Jvm.Cond.lays "ConceptLatticeModel" "ConceptLatticeModel" "m" "I") ∈ lw_all := lw_g (lw_at lw_m1 196 rfl) rfl
theorem q223 : (Jvm.Cond.soleField "ConceptLatticeModel" "m") ∈ lw_all := lw_g (lw_at lw_m1 197 rfl) rfl
theorem q224 : (Jvm.Cond.lays "ConceptLatticeModel" "ConceptLatticeModel" "all" "I") ∈ lw_all := lw_g (lw_at lw_m1 198 rfl) rfl
theorem q225 : (Jvm.Cond.soleField "ConceptLatticeModel" "all") ∈ lw_all := lw_g (lw_at lw_m1 199 rfl) rfl
theorem q226 : (Jvm.Cond.lays "ConceptLatticeModel" "ConceptLatticeModel" "rows" "[I") ∈ lw_all := lw_g (lw_at lw_m1 200 rfl) rfl
theorem q227 : (Jvm.Cond.soleField "ConceptLatticeModel" "rows") ∈ lw_all := lw_g (lw_at lw_m1 201 rfl) rfl
theorem q228 : (Jvm.Cond.lays "ConceptLatticeModel" "ConceptLatticeModel" "closed" "[Z") ∈ lw_all := lw_g (lw_at lw_m1 202 rfl) rfl
theorem q229 : (Jvm.Cond.soleField "ConceptLatticeModel" "closed") ∈ lw_all := lw_g (lw_at lw_m1 203 rfl) rfl
theorem q230 : (Jvm.Cond.lays "ConceptLatticeModel" "ConceptLatticeModel" "pseudo" "[Z") ∈ lw_all := lw_g (lw_at lw_m1 204 rfl) rfl
theorem q231 : (Jvm.Cond.soleField "ConceptLatticeModel" "pseudo") ∈ lw_all := lw_g (lw_at lw_m1 205 rfl) rfl
theorem q232 : (Jvm.Cond.lays "ConceptLatticeModel" "ConceptLatticeModel" "closures" "[I") ∈ lw_all := lw_g (lw_at lw_m1 206 rfl) rfl
theorem q233 : (Jvm.Cond.soleField "ConceptLatticeModel" "closures") ∈ lw_all := lw_g (lw_at lw_m1 207 rfl) rfl
theorem q234 : (Jvm.Cond.lays "ConceptLatticeModel" "ConceptLatticeModel" "chain" "[I") ∈ lw_all := lw_g (lw_at lw_m1 208 rfl) rfl
theorem q235 : (Jvm.Cond.soleField "ConceptLatticeModel" "chain") ∈ lw_all := lw_g (lw_at lw_m1 209 rfl) rfl
theorem q236 : (Jvm.Cond.superclass "ConceptLatticeModel" "java/lang/Object") ∈ lw_all := lw_g (lw_at lw_m1 210 rfl) rfl
theorem q239 : (Jvm.Cond.instanceMethod ({ cls := "ConceptLatticeModel", name := "objects", desc := "()I" } : Jvm.MethodName)) ∈ lw_all := lw_g (lw_at lw_m1 213 rfl) rfl
theorem q240 : (Jvm.Cond.selects "ConceptLatticeModel" ({ cls := "ConceptLatticeModel", name := "objects", desc := "()I" } : Jvm.MethodName) ({ cls := "ConceptLatticeModel", name := "objects", desc := "()I" } : Jvm.MethodName)) ∈ lw_all := lw_g (lw_at lw_m1 214 rfl) rfl
theorem q241 : (Jvm.Cond.code ({ cls := "ConceptLatticeModel", name := "objects", desc := "()I" } : Jvm.MethodName) prog_3_method_2_code (1 : Nat) (Option.some Jvm.ClassFile.FieldType.int)) ∈ lw_all := lw_g (lw_at lw_m1 215 rfl) rfl
theorem q243 : (Jvm.Cond.instanceMethod ({ cls := "ConceptLatticeModel", name := "attributes", desc := "()I" } : Jvm.MethodName)) ∈ lw_all := lw_g (lw_at lw_m1 217 rfl) rfl
theorem q244 : (Jvm.Cond.selects "ConceptLatticeModel" ({ cls := "ConceptLatticeModel", name := "attributes", desc := "()I" } : Jvm.MethodName) ({ cls := "ConceptLatticeModel", name := "attributes", desc := "()I" } : Jvm.MethodName)) ∈ lw_all := lw_g (lw_at lw_m1 218 rfl) rfl
theorem q245 : (Jvm.Cond.code ({ cls := "ConceptLatticeModel", name := "attributes", desc := "()I" } : Jvm.MethodName) prog_3_method_3_code (1 : Nat) (Option.some Jvm.ClassFile.FieldType.int)) ∈ lw_all := lw_g (lw_at lw_m1 219 rfl) rfl
theorem q247 : (Jvm.Cond.instanceMethod ({ cls := "ConceptLatticeModel", name := "cross", desc := "(III)I" } : Jvm.MethodName)) ∈ lw_all := lw_g (lw_at lw_m1 221 rfl) rfl
theorem q248 : (Jvm.Cond.selects "ConceptLatticeModel" ({ cls := "ConceptLatticeModel", name := "cross", desc := "(III)I" } : Jvm.MethodName) ({ cls := "ConceptLatticeModel", name := "cross", desc := "(III)I" } : Jvm.MethodName)) ∈ lw_all := lw_g (lw_at lw_m1 222 rfl) rfl
theorem q249 : (Jvm.Cond.code ({ cls := "ConceptLatticeModel", name := "cross", desc := "(III)I" } : Jvm.MethodName) prog_3_method_9_code (5 : Nat) (Option.some Jvm.ClassFile.FieldType.int)) ∈ lw_all := lw_g (lw_at lw_m1 223 rfl) rfl
theorem q250 : (Jvm.Cond.methodLink "ConceptLatticeModel" (40 : Nat) ({ cls := "ConceptLatticeModel", name := "badObject", desc := "(I)Z" } : Jvm.MethodName)) ∈ lw_all := lw_g (lw_at lw_m1 224 rfl) rfl
theorem q251 : (Jvm.Cond.privateMethod ({ cls := "ConceptLatticeModel", name := "badObject", desc := "(I)Z" } : Jvm.MethodName)) ∈ lw_tbl := lw_at lw_m1 225 rfl
theorem q252 : (Jvm.Cond.instanceMethod ({ cls := "ConceptLatticeModel", name := "badObject", desc := "(I)Z" } : Jvm.MethodName)) ∈ lw_all := lw_g (lw_at lw_m1 226 rfl) rfl
theorem q253 : (Jvm.Cond.code ({ cls := "ConceptLatticeModel", name := "badObject", desc := "(I)Z" } : Jvm.MethodName) prog_3_method_4_code (2 : Nat) (Option.some Jvm.ClassFile.FieldType.boolean)) ∈ lw_all := lw_g (lw_at lw_m1 227 rfl) rfl
theorem q254 : (Jvm.Cond.methodLink "ConceptLatticeModel" (44 : Nat) ({ cls := "ConceptLatticeModel", name := "badAttribute", desc := "(I)Z" } : Jvm.MethodName)) ∈ lw_all := lw_g (lw_at lw_m1 228 rfl) rfl
theorem q255 : (Jvm.Cond.privateMethod ({ cls := "ConceptLatticeModel", name := "badAttribute", desc := "(I)Z" } : Jvm.MethodName)) ∈ lw_tbl := lw_at lw_m1 229 rfl
theorem q256 : (Jvm.Cond.instanceMethod ({ cls := "ConceptLatticeModel", name := "badAttribute", desc := "(I)Z" } : Jvm.MethodName)) ∈ lw_all := lw_g (lw_at lw_m1 230 rfl) rfl
theorem q257 : (Jvm.Cond.code ({ cls := "ConceptLatticeModel", name := "badAttribute", desc := "(I)Z" } : Jvm.MethodName) prog_3_method_5_code (2 : Nat) (Option.some Jvm.ClassFile.FieldType.boolean)) ∈ lw_all := lw_g (lw_at lw_m1 231 rfl) rfl
theorem q259 : (Jvm.Cond.instanceMethod ({ cls := "ConceptLatticeModel", name := "row", desc := "(II)I" } : Jvm.MethodName)) ∈ lw_all := lw_g (lw_at lw_m1 233 rfl) rfl
theorem q260 : (Jvm.Cond.selects "ConceptLatticeModel" ({ cls := "ConceptLatticeModel", name := "row", desc := "(II)I" } : Jvm.MethodName) ({ cls := "ConceptLatticeModel", name := "row", desc := "(II)I" } : Jvm.MethodName)) ∈ lw_all := lw_g (lw_at lw_m1 234 rfl) rfl
theorem q261 : (Jvm.Cond.code ({ cls := "ConceptLatticeModel", name := "row", desc := "(II)I" } : Jvm.MethodName) prog_3_method_10_code (4 : Nat) (Option.some Jvm.ClassFile.FieldType.int)) ∈ lw_all := lw_g (lw_at lw_m1 235 rfl) rfl
theorem q262 : (Jvm.Cond.methodLink "ConceptLatticeModel" (47 : Nat) ({ cls := "ConceptLatticeModel", name := "badSet", desc := "(I)Z" } : Jvm.MethodName)) ∈ lw_all := lw_g (lw_at lw_m1 236 rfl) rfl
theorem q263 : (Jvm.Cond.privateMethod ({ cls := "ConceptLatticeModel", name := "badSet", desc := "(I)Z" } : Jvm.MethodName)) ∈ lw_tbl := lw_at lw_m1 237 rfl
theorem q264 : (Jvm.Cond.instanceMethod ({ cls := "ConceptLatticeModel", name := "badSet", desc := "(I)Z" } : Jvm.MethodName)) ∈ lw_all := lw_g (lw_at lw_m1 238 rfl) rfl
theorem q265 : (Jvm.Cond.code ({ cls := "ConceptLatticeModel", name := "badSet", desc := "(I)Z" } : Jvm.MethodName) prog_3_method_6_code (2 : Nat) (Option.some Jvm.ClassFile.FieldType.boolean)) ∈ lw_all := lw_g (lw_at lw_m1 239 rfl) rfl
theorem q267 : (Jvm.Cond.instanceMethod ({ cls := "ConceptLatticeModel", name := "rowOf", desc := "(I)I" } : Jvm.MethodName)) ∈ lw_all := lw_g (lw_at lw_m2 1 rfl) rfl
theorem q268 : (Jvm.Cond.selects "ConceptLatticeModel" ({ cls := "ConceptLatticeModel", name := "rowOf", desc := "(I)I" } : Jvm.MethodName) ({ cls := "ConceptLatticeModel", name := "rowOf", desc := "(I)I" } : Jvm.MethodName)) ∈ lw_all := lw_g (lw_at lw_m2 2 rfl) rfl
theorem q269 : (Jvm.Cond.code ({ cls := "ConceptLatticeModel", name := "rowOf", desc := "(I)I" } : Jvm.MethodName) prog_3_method_11_code (2 : Nat) (Option.some Jvm.ClassFile.FieldType.int)) ∈ lw_all := lw_g (lw_at lw_m2 3 rfl) rfl
theorem q271 : (Jvm.Cond.instanceMethod ({ cls := "ConceptLatticeModel", name := "extent", desc := "(I)I" } : Jvm.MethodName)) ∈ lw_all := lw_g (lw_at lw_m2 5 rfl) rfl
theorem q272 : (Jvm.Cond.selects "ConceptLatticeModel" ({ cls := "ConceptLatticeModel", name := "extent", desc := "(I)I" } : Jvm.MethodName) ({ cls := "ConceptLatticeModel", name := "extent", desc := "(I)I" } : Jvm.MethodName)) ∈ lw_all := lw_g (lw_at lw_m2 6 rfl) rfl
theorem q273 : (Jvm.Cond.code ({ cls := "ConceptLatticeModel", name := "extent", desc := "(I)I" } : Jvm.MethodName) prog_3_method_15_code (2 : Nat) (Option.some Jvm.ClassFile.FieldType.int)) ∈ lw_all := lw_g (lw_at lw_m2 7 rfl) rfl
theorem q274 : (Jvm.Cond.methodLink "ConceptLatticeModel" (50 : Nat) ({ cls := "ConceptLatticeModel", name := "havers", desc := "(I)I" } : Jvm.MethodName)) ∈ lw_all := lw_g (lw_at lw_m2 8 rfl) rfl
theorem q275 : (Jvm.Cond.privateMethod ({ cls := "ConceptLatticeModel", name := "havers", desc := "(I)I" } : Jvm.MethodName)) ∈ lw_tbl := lw_at lw_m2 9 rfl
theorem q276 : (Jvm.Cond.instanceMethod ({ cls := "ConceptLatticeModel", name := "havers", desc := "(I)I" } : Jvm.MethodName)) ∈ lw_all := lw_g (lw_at lw_m2 10 rfl) rfl
theorem q277 : (Jvm.Cond.code ({ cls := "ConceptLatticeModel", name := "havers", desc := "(I)I" } : Jvm.MethodName) prog_3_method_12_code (4 : Nat) (Option.some Jvm.ClassFile.FieldType.int)) ∈ lw_all := lw_g (lw_at lw_m2 11 rfl) rfl
theorem q278 : (Jvm.Cond.methodLink "ConceptLatticeModel" (36 : Nat) ({ cls := "ConceptLatticeModel", name := "part", desc := "(II)Z" } : Jvm.MethodName)) ∈ lw_all := lw_g (lw_at lw_m2 12 rfl) rfl
theorem q279 : (Jvm.Cond.privateMethod ({ cls := "ConceptLatticeModel", name := "part", desc := "(II)Z" } : Jvm.MethodName)) ∈ lw_tbl := lw_at lw_m2 13 rfl
theorem q280 : (Jvm.Cond.instanceMethod ({ cls := "ConceptLatticeModel", name := "part", desc := "(II)Z" } : Jvm.MethodName)) ∈ lw_all := lw_g (lw_at lw_m2 14 rfl) rfl
theorem q281 : (Jvm.Cond.code ({ cls := "ConceptLatticeModel", name := "part", desc := "(II)Z" } : Jvm.MethodName) prog_3_method_7_code (3 : Nat) (Option.some Jvm.ClassFile.FieldType.boolean)) ∈ lw_all := lw_g (lw_at lw_m2 15 rfl) rfl
theorem q283 : (Jvm.Cond.instanceMethod ({ cls := "ConceptLatticeModel", name := "intent", desc := "(I)I" } : Jvm.MethodName)) ∈ lw_all := lw_g (lw_at lw_m2 17 rfl) rfl
theorem q284 : (Jvm.Cond.selects "ConceptLatticeModel" ({ cls := "ConceptLatticeModel", name := "intent", desc := "(I)I" } : Jvm.MethodName) ({ cls := "ConceptLatticeModel", name := "intent", desc := "(I)I" } : Jvm.MethodName)) ∈ lw_all := lw_g (lw_at lw_m2 18 rfl) rfl
theorem q285 : (Jvm.Cond.code ({ cls := "ConceptLatticeModel", name := "intent", desc := "(I)I" } : Jvm.MethodName) prog_3_method_16_code (2 : Nat) (Option.some Jvm.ClassFile.FieldType.int)) ∈ lw_all := lw_g (lw_at lw_m2 19 rfl) rfl
theorem q286 : (Jvm.Cond.methodLink "ConceptLatticeModel" (54 : Nat) ({ cls := "ConceptLatticeModel", name := "shared", desc := "(I)I" } : Jvm.MethodName)) ∈ lw_all := lw_g (lw_at lw_m2 20 rfl) rfl
theorem q287 : (Jvm.Cond.privateMethod ({ cls := "ConceptLatticeModel", name := "shared", desc := "(I)I" } : Jvm.MethodName)) ∈ lw_tbl := lw_at lw_m2 21 rfl
theorem q288 : (Jvm.Cond.instanceMethod ({ cls := "ConceptLatticeModel", name := "shared", desc := "(I)I" } : Jvm.MethodName)) ∈ lw_all := lw_g (lw_at lw_m2 22 rfl) rfl
theorem q289 : (Jvm.Cond.code ({ cls := "ConceptLatticeModel", name := "shared", desc := "(I)I" } : Jvm.MethodName) prog_3_method_13_code (4 : Nat) (Option.some Jvm.ClassFile.FieldType.int)) ∈ lw_all := lw_g (lw_at lw_m2 23 rfl) rfl
theorem q291 : (Jvm.Cond.instanceMethod ({ cls := "ConceptLatticeModel", name := "closure", desc := "(I)I" } : Jvm.MethodName)) ∈ lw_all := lw_g (lw_at lw_m2 25 rfl) rfl
theorem q292 : (Jvm.Cond.selects "ConceptLatticeModel" ({ cls := "ConceptLatticeModel", name := "closure", desc := "(I)I" } : Jvm.MethodName) ({ cls := "ConceptLatticeModel", name := "closure", desc := "(I)I" } : Jvm.MethodName)) ∈ lw_all := lw_g (lw_at lw_m2 26 rfl) rfl
theorem q293 : (Jvm.Cond.code ({ cls := "ConceptLatticeModel", name := "closure", desc := "(I)I" } : Jvm.MethodName) prog_3_method_17_code (2 : Nat) (Option.some Jvm.ClassFile.FieldType.int)) ∈ lw_all := lw_g (lw_at lw_m2 27 rfl) rfl
theorem q294 : (Jvm.Cond.methodLink "ConceptLatticeModel" (57 : Nat) ({ cls := "ConceptLatticeModel", name := "closureOf", desc := "(I)I" } : Jvm.MethodName)) ∈ lw_all := lw_g (lw_at lw_m2 28 rfl) rfl
theorem q295 : (Jvm.Cond.privateMethod ({ cls := "ConceptLatticeModel", name := "closureOf", desc := "(I)I" } : Jvm.MethodName)) ∈ lw_tbl := lw_at lw_m2 29 rfl
theorem q296 : (Jvm.Cond.instanceMethod ({ cls := "ConceptLatticeModel", name := "closureOf", desc := "(I)I" } : Jvm.MethodName)) ∈ lw_all := lw_g (lw_at lw_m2 30 rfl) rfl
theorem q297 : (Jvm.Cond.code ({ cls := "ConceptLatticeModel", name := "closureOf", desc := "(I)I" } : Jvm.MethodName) prog_3_method_14_code (3 : Nat) (Option.some Jvm.ClassFile.FieldType.int)) ∈ lw_all := lw_g (lw_at lw_m2 31 rfl) rfl
theorem q299 : (Jvm.Cond.instanceMethod ({ cls := "ConceptLatticeModel", name := "closedSets", desc := "()I" } : Jvm.MethodName)) ∈ lw_all := lw_g (lw_at lw_m2 33 rfl) rfl
theorem q300 : (Jvm.Cond.selects "ConceptLatticeModel" ({ cls := "ConceptLatticeModel", name := "closedSets", desc := "()I" } : Jvm.MethodName) ({ cls := "ConceptLatticeModel", name := "closedSets", desc := "()I" } : Jvm.MethodName)) ∈ lw_all := lw_g (lw_at lw_m2 34 rfl) rfl
theorem q301 : (Jvm.Cond.code ({ cls := "ConceptLatticeModel", name := "closedSets", desc := "()I" } : Jvm.MethodName) prog_3_method_20_code (3 : Nat) (Option.some Jvm.ClassFile.FieldType.int)) ∈ lw_all := lw_g (lw_at lw_m2 35 rfl) rfl
theorem q302 : (Jvm.Cond.methodLink "ConceptLatticeModel" (66 : Nat) ({ cls := "ConceptLatticeModel", name := "tabulate", desc := "()V" } : Jvm.MethodName)) ∈ lw_all := lw_g (lw_at lw_m2 36 rfl) rfl
theorem q303 : (Jvm.Cond.privateMethod ({ cls := "ConceptLatticeModel", name := "tabulate", desc := "()V" } : Jvm.MethodName)) ∈ lw_tbl := lw_at lw_m2 37 rfl
theorem q304 : (Jvm.Cond.instanceMethod ({ cls := "ConceptLatticeModel", name := "tabulate", desc := "()V" } : Jvm.MethodName)) ∈ lw_all := lw_g (lw_at lw_m2 38 rfl) rfl
theorem q305 : (Jvm.Cond.code ({ cls := "ConceptLatticeModel", name := "tabulate", desc := "()V" } : Jvm.MethodName) prog_3_method_19_code (2 : Nat) (Option.none : Option Jvm.ClassFile.FieldType)) ∈ lw_all := lw_g (lw_at lw_m2 39 rfl) rfl
theorem q306 : (Jvm.Cond.methodLink "ConceptLatticeModel" (63 : Nat) ({ cls := "ConceptLatticeModel", name := "isPseudo", desc := "(I)Z" } : Jvm.MethodName)) ∈ lw_all := lw_g (lw_at lw_m2 40 rfl) rfl
theorem q307 : (Jvm.Cond.privateMethod ({ cls := "ConceptLatticeModel", name := "isPseudo", desc := "(I)Z" } : Jvm.MethodName)) ∈ lw_tbl := lw_at lw_m2 41 rfl
theorem q308 : (Jvm.Cond.instanceMethod ({ cls := "ConceptLatticeModel", name := "isPseudo", desc := "(I)Z" } : Jvm.MethodName)) ∈ lw_all := lw_g (lw_at lw_m2 42 rfl) rfl
theorem q309 : (Jvm.Cond.code ({ cls := "ConceptLatticeModel", name := "isPseudo", desc := "(I)Z" } : Jvm.MethodName) prog_3_method_18_code (3 : Nat) (Option.some Jvm.ClassFile.FieldType.boolean)) ∈ lw_all := lw_g (lw_at lw_m2 43 rfl) rfl
theorem q310 : (Jvm.Cond.methodLink "ConceptLatticeModel" (60 : Nat) ({ cls := "ConceptLatticeModel", name := "proper", desc := "(II)Z" } : Jvm.MethodName)) ∈ lw_all := lw_g (lw_at lw_m2 44 rfl) rfl
theorem q311 : (Jvm.Cond.privateMethod ({ cls := "ConceptLatticeModel", name := "proper", desc := "(II)Z" } : Jvm.MethodName)) ∈ lw_tbl := lw_at lw_m2 45 rfl
theorem q312 : (Jvm.Cond.instanceMethod ({ cls := "ConceptLatticeModel", name := "proper", desc := "(II)Z" } : Jvm.MethodName)) ∈ lw_all := lw_g (lw_at lw_m2 46 rfl) rfl
theorem q313 : (Jvm.Cond.code ({ cls := "ConceptLatticeModel", name := "proper", desc := "(II)Z" } : Jvm.MethodName) prog_3_method_8_code (3 : Nat) (Option.some Jvm.ClassFile.FieldType.boolean)) ∈ lw_all := lw_g (lw_at lw_m2 47 rfl) rfl
theorem q315 : (Jvm.Cond.instanceMethod ({ cls := "ConceptLatticeModel", name := "closedSet", desc := "(I)I" } : Jvm.MethodName)) ∈ lw_all := lw_g (lw_at lw_m2 49 rfl) rfl
theorem q316 : (Jvm.Cond.selects "ConceptLatticeModel" ({ cls := "ConceptLatticeModel", name := "closedSet", desc := "(I)I" } : Jvm.MethodName) ({ cls := "ConceptLatticeModel", name := "closedSet", desc := "(I)I" } : Jvm.MethodName)) ∈ lw_all := lw_g (lw_at lw_m2 50 rfl) rfl
theorem q317 : (Jvm.Cond.code ({ cls := "ConceptLatticeModel", name := "closedSet", desc := "(I)I" } : Jvm.MethodName) prog_3_method_21_code (4 : Nat) (Option.some Jvm.ClassFile.FieldType.int)) ∈ lw_all := lw_g (lw_at lw_m2 51 rfl) rfl
theorem q319 : (Jvm.Cond.instanceMethod ({ cls := "ConceptLatticeModel", name := "nextClosed", desc := "(I)I" } : Jvm.MethodName)) ∈ lw_all := lw_g (lw_at lw_m2 53 rfl) rfl
theorem q320 : (Jvm.Cond.selects "ConceptLatticeModel" ({ cls := "ConceptLatticeModel", name := "nextClosed", desc := "(I)I" } : Jvm.MethodName) ({ cls := "ConceptLatticeModel", name := "nextClosed", desc := "(I)I" } : Jvm.MethodName)) ∈ lw_all := lw_g (lw_at lw_m2 54 rfl) rfl
theorem q321 : (Jvm.Cond.code ({ cls := "ConceptLatticeModel", name := "nextClosed", desc := "(I)I" } : Jvm.MethodName) prog_3_method_22_code (3 : Nat) (Option.some Jvm.ClassFile.FieldType.int)) ∈ lw_all := lw_g (lw_at lw_m2 55 rfl) rfl
theorem q323 : (Jvm.Cond.instanceMethod ({ cls := "ConceptLatticeModel", name := "follows", desc := "(II)I" } : Jvm.MethodName)) ∈ lw_all := lw_g (lw_at lw_m2 57 rfl) rfl
theorem q324 : (Jvm.Cond.selects "ConceptLatticeModel" ({ cls := "ConceptLatticeModel", name := "follows", desc := "(II)I" } : Jvm.MethodName) ({ cls := "ConceptLatticeModel", name := "follows", desc := "(II)I" } : Jvm.MethodName)) ∈ lw_all := lw_g (lw_at lw_m2 58 rfl) rfl
theorem q325 : (Jvm.Cond.code ({ cls := "ConceptLatticeModel", name := "follows", desc := "(II)I" } : Jvm.MethodName) prog_3_method_23_code (4 : Nat) (Option.some Jvm.ClassFile.FieldType.int)) ∈ lw_all := lw_g (lw_at lw_m2 59 rfl) rfl
theorem q327 : (Jvm.Cond.instanceMethod ({ cls := "ConceptLatticeModel", name := "rules", desc := "()I" } : Jvm.MethodName)) ∈ lw_all := lw_g (lw_at lw_m2 61 rfl) rfl
theorem q328 : (Jvm.Cond.selects "ConceptLatticeModel" ({ cls := "ConceptLatticeModel", name := "rules", desc := "()I" } : Jvm.MethodName) ({ cls := "ConceptLatticeModel", name := "rules", desc := "()I" } : Jvm.MethodName)) ∈ lw_all := lw_g (lw_at lw_m2 62 rfl) rfl
theorem q329 : (Jvm.Cond.code ({ cls := "ConceptLatticeModel", name := "rules", desc := "()I" } : Jvm.MethodName) prog_3_method_24_code (3 : Nat) (Option.some Jvm.ClassFile.FieldType.int)) ∈ lw_all := lw_g (lw_at lw_m2 63 rfl) rfl
theorem q331 : (Jvm.Cond.instanceMethod ({ cls := "ConceptLatticeModel", name := "rule", desc := "(I)I" } : Jvm.MethodName)) ∈ lw_all := lw_g (lw_at lw_m2 65 rfl) rfl
theorem q332 : (Jvm.Cond.selects "ConceptLatticeModel" ({ cls := "ConceptLatticeModel", name := "rule", desc := "(I)I" } : Jvm.MethodName) ({ cls := "ConceptLatticeModel", name := "rule", desc := "(I)I" } : Jvm.MethodName)) ∈ lw_all := lw_g (lw_at lw_m2 66 rfl) rfl
theorem q333 : (Jvm.Cond.code ({ cls := "ConceptLatticeModel", name := "rule", desc := "(I)I" } : Jvm.MethodName) prog_3_method_25_code (4 : Nat) (Option.some Jvm.ClassFile.FieldType.int)) ∈ lw_all := lw_g (lw_at lw_m2 67 rfl) rfl
theorem q335 : (Jvm.Cond.instanceMethod ({ cls := "ConceptLatticeModel", name := "covers", desc := "(I)I" } : Jvm.MethodName)) ∈ lw_all := lw_g (lw_at lw_m2 69 rfl) rfl
theorem q336 : (Jvm.Cond.selects "ConceptLatticeModel" ({ cls := "ConceptLatticeModel", name := "covers", desc := "(I)I" } : Jvm.MethodName) ({ cls := "ConceptLatticeModel", name := "covers", desc := "(I)I" } : Jvm.MethodName)) ∈ lw_all := lw_g (lw_at lw_m2 70 rfl) rfl
theorem q337 : (Jvm.Cond.code ({ cls := "ConceptLatticeModel", name := "covers", desc := "(I)I" } : Jvm.MethodName) prog_3_method_28_code (2 : Nat) (Option.some Jvm.ClassFile.FieldType.int)) ∈ lw_all := lw_g (lw_at lw_m2 71 rfl) rfl
theorem q338 : (Jvm.Cond.methodLink "ConceptLatticeModel" (72 : Nat) ({ cls := "ConceptLatticeModel", name := "over", desc := "(I)I" } : Jvm.MethodName)) ∈ lw_all := lw_g (lw_at lw_m2 72 rfl) rfl
theorem q339 : (Jvm.Cond.privateMethod ({ cls := "ConceptLatticeModel", name := "over", desc := "(I)I" } : Jvm.MethodName)) ∈ lw_tbl := lw_at lw_m2 73 rfl
theorem q340 : (Jvm.Cond.instanceMethod ({ cls := "ConceptLatticeModel", name := "over", desc := "(I)I" } : Jvm.MethodName)) ∈ lw_all := lw_g (lw_at lw_m2 74 rfl) rfl
theorem q341 : (Jvm.Cond.code ({ cls := "ConceptLatticeModel", name := "over", desc := "(I)I" } : Jvm.MethodName) prog_3_method_27_code (4 : Nat) (Option.some Jvm.ClassFile.FieldType.int)) ∈ lw_all := lw_g (lw_at lw_m2 75 rfl) rfl
theorem q342 : (Jvm.Cond.methodLink "ConceptLatticeModel" (69 : Nat) ({ cls := "ConceptLatticeModel", name := "between", desc := "(II)Z" } : Jvm.MethodName)) ∈ lw_all := lw_g (lw_at lw_m2 76 rfl) rfl
theorem q343 : (Jvm.Cond.privateMethod ({ cls := "ConceptLatticeModel", name := "between", desc := "(II)Z" } : Jvm.MethodName)) ∈ lw_tbl := lw_at lw_m2 77 rfl
theorem q344 : (Jvm.Cond.instanceMethod ({ cls := "ConceptLatticeModel", name := "between", desc := "(II)Z" } : Jvm.MethodName)) ∈ lw_all := lw_g (lw_at lw_m2 78 rfl) rfl
theorem q345 : (Jvm.Cond.code ({ cls := "ConceptLatticeModel", name := "between", desc := "(II)Z" } : Jvm.MethodName) prog_3_method_26_code (4 : Nat) (Option.some Jvm.ClassFile.FieldType.boolean)) ∈ lw_all := lw_g (lw_at lw_m2 79 rfl) rfl
theorem q347 : (Jvm.Cond.instanceMethod ({ cls := "ConceptLatticeModel", name := "links", desc := "()I" } : Jvm.MethodName)) ∈ lw_all := lw_g (lw_at lw_m2 81 rfl) rfl
theorem q348 : (Jvm.Cond.selects "ConceptLatticeModel" ({ cls := "ConceptLatticeModel", name := "links", desc := "()I" } : Jvm.MethodName) ({ cls := "ConceptLatticeModel", name := "links", desc := "()I" } : Jvm.MethodName)) ∈ lw_all := lw_g (lw_at lw_m2 82 rfl) rfl
theorem q349 : (Jvm.Cond.code ({ cls := "ConceptLatticeModel", name := "links", desc := "()I" } : Jvm.MethodName) prog_3_method_29_code (3 : Nat) (Option.some Jvm.ClassFile.FieldType.int)) ∈ lw_all := lw_g (lw_at lw_m2 83 rfl) rfl
theorem q351 : (Jvm.Cond.instanceMethod ({ cls := "ConceptLatticeModel", name := "height", desc := "()I" } : Jvm.MethodName)) ∈ lw_all := lw_g (lw_at lw_m2 85 rfl) rfl
theorem q352 : (Jvm.Cond.selects "ConceptLatticeModel" ({ cls := "ConceptLatticeModel", name := "height", desc := "()I" } : Jvm.MethodName) ({ cls := "ConceptLatticeModel", name := "height", desc := "()I" } : Jvm.MethodName)) ∈ lw_all := lw_g (lw_at lw_m2 86 rfl) rfl
theorem q353 : (Jvm.Cond.code ({ cls := "ConceptLatticeModel", name := "height", desc := "()I" } : Jvm.MethodName) prog_3_method_30_code (4 : Nat) (Option.some Jvm.ClassFile.FieldType.int)) ∈ lw_all := lw_g (lw_at lw_m2 87 rfl) rfl
theorem q355 : (Jvm.Cond.instanceMethod ({ cls := "ConceptLatticeModel", name := "generatorSize", desc := "(I)I" } : Jvm.MethodName)) ∈ lw_all := lw_g (lw_at lw_m2 89 rfl) rfl
theorem q356 : (Jvm.Cond.selects "ConceptLatticeModel" ({ cls := "ConceptLatticeModel", name := "generatorSize", desc := "(I)I" } : Jvm.MethodName) ({ cls := "ConceptLatticeModel", name := "generatorSize", desc := "(I)I" } : Jvm.MethodName)) ∈ lw_all := lw_g (lw_at lw_m2 90 rfl) rfl
theorem q357 : (Jvm.Cond.code ({ cls := "ConceptLatticeModel", name := "generatorSize", desc := "(I)I" } : Jvm.MethodName) prog_3_method_32_code (4 : Nat) (Option.some Jvm.ClassFile.FieldType.int)) ∈ lw_all := lw_g (lw_at lw_m2 91 rfl) rfl
theorem q358 : (Jvm.Cond.methodLink "ConceptLatticeModel" (75 : Nat) ({ cls := "ConceptLatticeModel", name := "size", desc := "(I)I" } : Jvm.MethodName)) ∈ lw_all := lw_g (lw_at lw_m2 92 rfl) rfl
theorem q359 : (Jvm.Cond.privateMethod ({ cls := "ConceptLatticeModel", name := "size", desc := "(I)I" } : Jvm.MethodName)) ∈ lw_tbl := lw_at lw_m2 93 rfl
theorem q360 : (Jvm.Cond.instanceMethod ({ cls := "ConceptLatticeModel", name := "size", desc := "(I)I" } : Jvm.MethodName)) ∈ lw_all := lw_g (lw_at lw_m2 94 rfl) rfl
theorem q361 : (Jvm.Cond.code ({ cls := "ConceptLatticeModel", name := "size", desc := "(I)I" } : Jvm.MethodName) prog_3_method_31_code (4 : Nat) (Option.some Jvm.ClassFile.FieldType.int)) ∈ lw_all := lw_g (lw_at lw_m2 95 rfl) rfl
theorem q363 : (Jvm.Cond.instanceMethod ({ cls := "ConceptLatticeModel", name := "dispensable", desc := "(I)I" } : Jvm.MethodName)) ∈ lw_all := lw_g (lw_at lw_m2 97 rfl) rfl
theorem q364 : (Jvm.Cond.selects "ConceptLatticeModel" ({ cls := "ConceptLatticeModel", name := "dispensable", desc := "(I)I" } : Jvm.MethodName) ({ cls := "ConceptLatticeModel", name := "dispensable", desc := "(I)I" } : Jvm.MethodName)) ∈ lw_all := lw_g (lw_at lw_m2 98 rfl) rfl
theorem q365 : (Jvm.Cond.code ({ cls := "ConceptLatticeModel", name := "dispensable", desc := "(I)I" } : Jvm.MethodName) prog_3_method_33_code (3 : Nat) (Option.some Jvm.ClassFile.FieldType.int)) ∈ lw_all := lw_g (lw_at lw_m2 99 rfl) rfl
theorem in_X2 : ∀ w ∈ wsX20, w ∈ lw_all := lw_in wsX20 [220, 222, 224, 226, 228, 230, 232, 234] (by decide +kernel) (by decide +kernel)
end
section
/-! the law's own entry -/
set_option maxRecDepth 100000
abbrev cL_law : ByteArray := code
theorem dL_law_0 : decode cL_law 0 = .ok (.new 7, 3) := by decide +kernel
theorem dL_law_3 : decode cL_law 3 = .ok (.dup, 1) := by decide +kernel
theorem dL_law_4 : decode cL_law 4 = .ok (.aload_n 0, 1) := by decide +kernel
theorem dL_law_5 : decode cL_law 5 = .ok (.iconst 0, 1) := by decide +kernel
theorem dL_law_6 : decode cL_law 6 = .ok (.invokestatic 9, 3) := by decide +kernel
theorem dL_law_9 : decode cL_law 9 = .ok (.aload_n 0, 1) := by decide +kernel
theorem dL_law_10 : decode cL_law 10 = .ok (.iconst 1, 1) := by decide +kernel
theorem dL_law_11 : decode cL_law 11 = .ok (.invokestatic 9, 3) := by decide +kernel
theorem dL_law_14 : decode cL_law 14 = .ok (.invokespecial 15, 3) := by decide +kernel
theorem dL_law_17 : decode cL_law 17 = .ok (.astore_n 1, 1) := by decide +kernel
theorem dL_law_18 : decode cL_law 18 = .ok (.new 18, 3) := by decide +kernel
theorem dL_law_21 : decode cL_law 21 = .ok (.dup, 1) := by decide +kernel
theorem dL_law_22 : decode cL_law 22 = .ok (.aload_n 0, 1) := by decide +kernel
theorem dL_law_23 : decode cL_law 23 = .ok (.iconst 0, 1) := by decide +kernel
theorem dL_law_24 : decode cL_law 24 = .ok (.invokestatic 9, 3) := by decide +kernel
theorem dL_law_27 : decode cL_law 27 = .ok (.aload_n 0, 1) := by decide +kernel
theorem dL_law_28 : decode cL_law 28 = .ok (.iconst 1, 1) := by decide +kernel
theorem dL_law_29 : decode cL_law 29 = .ok (.invokestatic 9, 3) := by decide +kernel
theorem dL_law_32 : decode cL_law 32 = .ok (.invokespecial 20, 3) := by decide +kernel
theorem dL_law_35 : decode cL_law 35 = .ok (.astore_n 2, 1) := by decide +kernel
theorem dL_law_36 : decode cL_law 36 = .ok (.iconst 2, 1) := by decide +kernel
theorem dL_law_37 : decode cL_law 37 = .ok (.istore_n 3, 1) := by decide +kernel
theorem dL_law_38 : decode cL_law 38 = .ok (.iload_n 3, 1) := by decide +kernel
theorem dL_law_39 : decode cL_law 39 = .ok (.aload_n 0, 1) := by decide +kernel
theorem dL_law_40 : decode cL_law 40 = .ok (.arraylength, 1) := by decide +kernel
theorem dL_law_41 : decode cL_law 41 = .ok (.iconst 4, 1) := by decide +kernel
theorem dL_law_42 : decode cL_law 42 = .ok (.isub, 1) := by decide +kernel
theorem dL_law_43 : decode cL_law 43 = .ok (.if_icmp .gt 524, 3) := by decide +kernel
theorem dL_law_46 : decode cL_law 46 = .ok (.aload_n 0, 1) := by decide +kernel
theorem dL_law_47 : decode cL_law 47 = .ok (.iload_n 3, 1) := by decide +kernel
theorem dL_law_48 : decode cL_law 48 = .ok (.iaload, 1) := by decide +kernel
theorem dL_law_49 : decode cL_law 49 = .ok (.bipush 31, 2) := by decide +kernel
theorem dL_law_51 : decode cL_law 51 = .ok (.iand, 1) := by decide +kernel
theorem dL_law_52 : decode cL_law 52 = .ok (.tableswitch 509 0 18 #[92, 105, 118, 161, 194, 217, 240, 263, 286, 299, 322, 345, 378, 391, 414, 437, 450, 463, 486], 92) := by decide +kernel
theorem dL_law_144 : decode cL_law 144 = .ok (.aload_n 1, 1) := by decide +kernel
theorem dL_law_145 : decode cL_law 145 = .ok (.invokevirtual 21, 3) := by decide +kernel
theorem dL_law_148 : decode cL_law 148 = .ok (.aload_n 2, 1) := by decide +kernel
theorem dL_law_149 : decode cL_law 149 = .ok (.invokevirtual 25, 3) := by decide +kernel
theorem dL_law_152 : decode cL_law 152 = .ok (.if_icmp .eq 409, 3) := by decide +kernel
theorem dL_law_155 : decode cL_law 155 = .ok (.iconst 0, 1) := by decide +kernel
theorem dL_law_156 : decode cL_law 156 = .ok (.ireturn, 1) := by decide +kernel
theorem dL_law_157 : decode cL_law 157 = .ok (.aload_n 1, 1) := by decide +kernel
theorem dL_law_158 : decode cL_law 158 = .ok (.invokevirtual 26, 3) := by decide +kernel
theorem dL_law_161 : decode cL_law 161 = .ok (.aload_n 2, 1) := by decide +kernel
theorem dL_law_162 : decode cL_law 162 = .ok (.invokevirtual 29, 3) := by decide +kernel
theorem dL_law_165 : decode cL_law 165 = .ok (.if_icmp .eq 396, 3) := by decide +kernel
theorem dL_law_168 : decode cL_law 168 = .ok (.iconst 0, 1) := by decide +kernel
theorem dL_law_169 : decode cL_law 169 = .ok (.ireturn, 1) := by decide +kernel
theorem dL_law_170 : decode cL_law 170 = .ok (.aload_n 1, 1) := by decide +kernel
theorem dL_law_171 : decode cL_law 171 = .ok (.aload_n 0, 1) := by decide +kernel
theorem dL_law_172 : decode cL_law 172 = .ok (.iload_n 3, 1) := by decide +kernel
theorem dL_law_173 : decode cL_law 173 = .ok (.iconst 1, 1) := by decide +kernel
theorem dL_law_174 : decode cL_law 174 = .ok (.iadd, 1) := by decide +kernel
theorem dL_law_175 : decode cL_law 175 = .ok (.iaload, 1) := by decide +kernel
theorem dL_law_176 : decode cL_law 176 = .ok (.aload_n 0, 1) := by decide +kernel
theorem dL_law_177 : decode cL_law 177 = .ok (.iload_n 3, 1) := by decide +kernel
theorem dL_law_178 : decode cL_law 178 = .ok (.iconst 2, 1) := by decide +kernel
theorem dL_law_179 : decode cL_law 179 = .ok (.iadd, 1) := by decide +kernel
theorem dL_law_180 : decode cL_law 180 = .ok (.iaload, 1) := by decide +kernel
theorem dL_law_181 : decode cL_law 181 = .ok (.aload_n 0, 1) := by decide +kernel
theorem dL_law_182 : decode cL_law 182 = .ok (.iload_n 3, 1) := by decide +kernel
theorem dL_law_183 : decode cL_law 183 = .ok (.iconst 3, 1) := by decide +kernel
theorem dL_law_184 : decode cL_law 184 = .ok (.iadd, 1) := by decide +kernel
theorem dL_law_185 : decode cL_law 185 = .ok (.iaload, 1) := by decide +kernel
theorem dL_law_186 : decode cL_law 186 = .ok (.invokevirtual 30, 3) := by decide +kernel
theorem dL_law_189 : decode cL_law 189 = .ok (.aload_n 2, 1) := by decide +kernel
theorem dL_law_190 : decode cL_law 190 = .ok (.aload_n 0, 1) := by decide +kernel
theorem dL_law_191 : decode cL_law 191 = .ok (.iload_n 3, 1) := by decide +kernel
theorem dL_law_192 : decode cL_law 192 = .ok (.iconst 1, 1) := by decide +kernel
theorem dL_law_193 : decode cL_law 193 = .ok (.iadd, 1) := by decide +kernel
theorem dL_law_194 : decode cL_law 194 = .ok (.iaload, 1) := by decide +kernel
theorem dL_law_195 : decode cL_law 195 = .ok (.aload_n 0, 1) := by decide +kernel
theorem dL_law_196 : decode cL_law 196 = .ok (.iload_n 3, 1) := by decide +kernel
theorem dL_law_197 : decode cL_law 197 = .ok (.iconst 2, 1) := by decide +kernel
theorem dL_law_198 : decode cL_law 198 = .ok (.iadd, 1) := by decide +kernel
theorem dL_law_199 : decode cL_law 199 = .ok (.iaload, 1) := by decide +kernel
theorem dL_law_200 : decode cL_law 200 = .ok (.aload_n 0, 1) := by decide +kernel
theorem dL_law_201 : decode cL_law 201 = .ok (.iload_n 3, 1) := by decide +kernel
theorem dL_law_202 : decode cL_law 202 = .ok (.iconst 3, 1) := by decide +kernel
theorem dL_law_203 : decode cL_law 203 = .ok (.iadd, 1) := by decide +kernel
theorem dL_law_204 : decode cL_law 204 = .ok (.iaload, 1) := by decide +kernel
theorem dL_law_205 : decode cL_law 205 = .ok (.invokevirtual 34, 3) := by decide +kernel
theorem dL_law_208 : decode cL_law 208 = .ok (.if_icmp .eq 353, 3) := by decide +kernel
theorem dL_law_211 : decode cL_law 211 = .ok (.iconst 0, 1) := by decide +kernel
theorem dL_law_212 : decode cL_law 212 = .ok (.ireturn, 1) := by decide +kernel
theorem dL_law_213 : decode cL_law 213 = .ok (.aload_n 1, 1) := by decide +kernel
theorem dL_law_214 : decode cL_law 214 = .ok (.aload_n 0, 1) := by decide +kernel
theorem dL_law_215 : decode cL_law 215 = .ok (.iload_n 3, 1) := by decide +kernel
theorem dL_law_216 : decode cL_law 216 = .ok (.iconst 1, 1) := by decide +kernel
theorem dL_law_217 : decode cL_law 217 = .ok (.iadd, 1) := by decide +kernel
theorem dL_law_218 : decode cL_law 218 = .ok (.iaload, 1) := by decide +kernel
theorem dL_law_219 : decode cL_law 219 = .ok (.aload_n 0, 1) := by decide +kernel
theorem dL_law_220 : decode cL_law 220 = .ok (.iload_n 3, 1) := by decide +kernel
theorem dL_law_221 : decode cL_law 221 = .ok (.iconst 2, 1) := by decide +kernel
theorem dL_law_222 : decode cL_law 222 = .ok (.iadd, 1) := by decide +kernel
theorem dL_law_223 : decode cL_law 223 = .ok (.iaload, 1) := by decide +kernel
theorem dL_law_224 : decode cL_law 224 = .ok (.invokevirtual 35, 3) := by decide +kernel
theorem dL_law_227 : decode cL_law 227 = .ok (.aload_n 2, 1) := by decide +kernel
theorem dL_law_228 : decode cL_law 228 = .ok (.aload_n 0, 1) := by decide +kernel
theorem dL_law_229 : decode cL_law 229 = .ok (.iload_n 3, 1) := by decide +kernel
theorem dL_law_230 : decode cL_law 230 = .ok (.iconst 1, 1) := by decide +kernel
theorem dL_law_231 : decode cL_law 231 = .ok (.iadd, 1) := by decide +kernel
theorem dL_law_232 : decode cL_law 232 = .ok (.iaload, 1) := by decide +kernel
theorem dL_law_233 : decode cL_law 233 = .ok (.aload_n 0, 1) := by decide +kernel
theorem dL_law_234 : decode cL_law 234 = .ok (.iload_n 3, 1) := by decide +kernel
theorem dL_law_235 : decode cL_law 235 = .ok (.iconst 2, 1) := by decide +kernel
theorem dL_law_236 : decode cL_law 236 = .ok (.iadd, 1) := by decide +kernel
theorem dL_law_237 : decode cL_law 237 = .ok (.iaload, 1) := by decide +kernel
theorem dL_law_238 : decode cL_law 238 = .ok (.invokevirtual 39, 3) := by decide +kernel
theorem dL_law_241 : decode cL_law 241 = .ok (.if_icmp .eq 320, 3) := by decide +kernel
theorem dL_law_244 : decode cL_law 244 = .ok (.iconst 0, 1) := by decide +kernel
theorem dL_law_245 : decode cL_law 245 = .ok (.ireturn, 1) := by decide +kernel
theorem dL_law_246 : decode cL_law 246 = .ok (.aload_n 1, 1) := by decide +kernel
theorem dL_law_247 : decode cL_law 247 = .ok (.aload_n 0, 1) := by decide +kernel
theorem dL_law_248 : decode cL_law 248 = .ok (.iload_n 3, 1) := by decide +kernel
theorem dL_law_249 : decode cL_law 249 = .ok (.iconst 1, 1) := by decide +kernel
theorem dL_law_250 : decode cL_law 250 = .ok (.iadd, 1) := by decide +kernel
theorem dL_law_251 : decode cL_law 251 = .ok (.iaload, 1) := by decide +kernel
theorem dL_law_252 : decode cL_law 252 = .ok (.invokevirtual 40, 3) := by decide +kernel
theorem dL_law_255 : decode cL_law 255 = .ok (.aload_n 2, 1) := by decide +kernel
theorem dL_law_256 : decode cL_law 256 = .ok (.aload_n 0, 1) := by decide +kernel
theorem dL_law_257 : decode cL_law 257 = .ok (.iload_n 3, 1) := by decide +kernel
theorem dL_law_258 : decode cL_law 258 = .ok (.iconst 1, 1) := by decide +kernel
theorem dL_law_259 : decode cL_law 259 = .ok (.iadd, 1) := by decide +kernel
theorem dL_law_260 : decode cL_law 260 = .ok (.iaload, 1) := by decide +kernel
theorem dL_law_261 : decode cL_law 261 = .ok (.invokevirtual 44, 3) := by decide +kernel
theorem dL_law_264 : decode cL_law 264 = .ok (.if_icmp .eq 297, 3) := by decide +kernel
theorem dL_law_267 : decode cL_law 267 = .ok (.iconst 0, 1) := by decide +kernel
theorem dL_law_268 : decode cL_law 268 = .ok (.ireturn, 1) := by decide +kernel
theorem dL_law_269 : decode cL_law 269 = .ok (.aload_n 1, 1) := by decide +kernel
theorem dL_law_270 : decode cL_law 270 = .ok (.aload_n 0, 1) := by decide +kernel
theorem dL_law_271 : decode cL_law 271 = .ok (.iload_n 3, 1) := by decide +kernel
theorem dL_law_272 : decode cL_law 272 = .ok (.iconst 1, 1) := by decide +kernel
theorem dL_law_273 : decode cL_law 273 = .ok (.iadd, 1) := by decide +kernel
theorem dL_law_274 : decode cL_law 274 = .ok (.iaload, 1) := by decide +kernel
theorem dL_law_275 : decode cL_law 275 = .ok (.invokevirtual 45, 3) := by decide +kernel
theorem dL_law_278 : decode cL_law 278 = .ok (.aload_n 2, 1) := by decide +kernel
theorem dL_law_279 : decode cL_law 279 = .ok (.aload_n 0, 1) := by decide +kernel
theorem dL_law_280 : decode cL_law 280 = .ok (.iload_n 3, 1) := by decide +kernel
theorem dL_law_281 : decode cL_law 281 = .ok (.iconst 1, 1) := by decide +kernel
theorem dL_law_282 : decode cL_law 282 = .ok (.iadd, 1) := by decide +kernel
theorem dL_law_283 : decode cL_law 283 = .ok (.iaload, 1) := by decide +kernel
theorem dL_law_284 : decode cL_law 284 = .ok (.invokevirtual 48, 3) := by decide +kernel
theorem dL_law_287 : decode cL_law 287 = .ok (.if_icmp .eq 274, 3) := by decide +kernel
theorem dL_law_290 : decode cL_law 290 = .ok (.iconst 0, 1) := by decide +kernel
theorem dL_law_291 : decode cL_law 291 = .ok (.ireturn, 1) := by decide +kernel
theorem dL_law_292 : decode cL_law 292 = .ok (.aload_n 1, 1) := by decide +kernel
theorem dL_law_293 : decode cL_law 293 = .ok (.aload_n 0, 1) := by decide +kernel
theorem dL_law_294 : decode cL_law 294 = .ok (.iload_n 3, 1) := by decide +kernel
theorem dL_law_295 : decode cL_law 295 = .ok (.iconst 1, 1) := by decide +kernel
theorem dL_law_296 : decode cL_law 296 = .ok (.iadd, 1) := by decide +kernel
theorem dL_law_297 : decode cL_law 297 = .ok (.iaload, 1) := by decide +kernel
theorem dL_law_298 : decode cL_law 298 = .ok (.invokevirtual 49, 3) := by decide +kernel
theorem dL_law_301 : decode cL_law 301 = .ok (.aload_n 2, 1) := by decide +kernel
theorem dL_law_302 : decode cL_law 302 = .ok (.aload_n 0, 1) := by decide +kernel
theorem dL_law_303 : decode cL_law 303 = .ok (.iload_n 3, 1) := by decide +kernel
theorem dL_law_304 : decode cL_law 304 = .ok (.iconst 1, 1) := by decide +kernel
theorem dL_law_305 : decode cL_law 305 = .ok (.iadd, 1) := by decide +kernel
theorem dL_law_306 : decode cL_law 306 = .ok (.iaload, 1) := by decide +kernel
theorem dL_law_307 : decode cL_law 307 = .ok (.invokevirtual 52, 3) := by decide +kernel
theorem dL_law_310 : decode cL_law 310 = .ok (.if_icmp .eq 251, 3) := by decide +kernel
theorem dL_law_313 : decode cL_law 313 = .ok (.iconst 0, 1) := by decide +kernel
theorem dL_law_314 : decode cL_law 314 = .ok (.ireturn, 1) := by decide +kernel
theorem dL_law_315 : decode cL_law 315 = .ok (.aload_n 1, 1) := by decide +kernel
theorem dL_law_316 : decode cL_law 316 = .ok (.aload_n 0, 1) := by decide +kernel
theorem dL_law_317 : decode cL_law 317 = .ok (.iload_n 3, 1) := by decide +kernel
theorem dL_law_318 : decode cL_law 318 = .ok (.iconst 1, 1) := by decide +kernel
theorem dL_law_319 : decode cL_law 319 = .ok (.iadd, 1) := by decide +kernel
theorem dL_law_320 : decode cL_law 320 = .ok (.iaload, 1) := by decide +kernel
theorem dL_law_321 : decode cL_law 321 = .ok (.invokevirtual 53, 3) := by decide +kernel
end
section
set_option maxRecDepth 100000
theorem dL_law_324 : decode cL_law 324 = .ok (.aload_n 2, 1) := by decide +kernel
theorem dL_law_325 : decode cL_law 325 = .ok (.aload_n 0, 1) := by decide +kernel
theorem dL_law_326 : decode cL_law 326 = .ok (.iload_n 3, 1) := by decide +kernel
theorem dL_law_327 : decode cL_law 327 = .ok (.iconst 1, 1) := by decide +kernel
theorem dL_law_328 : decode cL_law 328 = .ok (.iadd, 1) := by decide +kernel
theorem dL_law_329 : decode cL_law 329 = .ok (.iaload, 1) := by decide +kernel
theorem dL_law_330 : decode cL_law 330 = .ok (.invokevirtual 56, 3) := by decide +kernel
theorem dL_law_333 : decode cL_law 333 = .ok (.if_icmp .eq 228, 3) := by decide +kernel
theorem dL_law_336 : decode cL_law 336 = .ok (.iconst 0, 1) := by decide +kernel
theorem dL_law_337 : decode cL_law 337 = .ok (.ireturn, 1) := by decide +kernel
theorem dL_law_338 : decode cL_law 338 = .ok (.aload_n 1, 1) := by decide +kernel
theorem dL_law_339 : decode cL_law 339 = .ok (.invokevirtual 57, 3) := by decide +kernel
theorem dL_law_342 : decode cL_law 342 = .ok (.aload_n 2, 1) := by decide +kernel
theorem dL_law_343 : decode cL_law 343 = .ok (.invokevirtual 60, 3) := by decide +kernel
theorem dL_law_346 : decode cL_law 346 = .ok (.if_icmp .eq 215, 3) := by decide +kernel
theorem dL_law_349 : decode cL_law 349 = .ok (.iconst 0, 1) := by decide +kernel
theorem dL_law_350 : decode cL_law 350 = .ok (.ireturn, 1) := by decide +kernel
theorem dL_law_351 : decode cL_law 351 = .ok (.aload_n 1, 1) := by decide +kernel
theorem dL_law_352 : decode cL_law 352 = .ok (.aload_n 0, 1) := by decide +kernel
theorem dL_law_353 : decode cL_law 353 = .ok (.iload_n 3, 1) := by decide +kernel
theorem dL_law_354 : decode cL_law 354 = .ok (.iconst 1, 1) := by decide +kernel
theorem dL_law_355 : decode cL_law 355 = .ok (.iadd, 1) := by decide +kernel
theorem dL_law_356 : decode cL_law 356 = .ok (.iaload, 1) := by decide +kernel
theorem dL_law_357 : decode cL_law 357 = .ok (.invokevirtual 61, 3) := by decide +kernel
theorem dL_law_360 : decode cL_law 360 = .ok (.aload_n 2, 1) := by decide +kernel
theorem dL_law_361 : decode cL_law 361 = .ok (.aload_n 0, 1) := by decide +kernel
theorem dL_law_362 : decode cL_law 362 = .ok (.iload_n 3, 1) := by decide +kernel
theorem dL_law_363 : decode cL_law 363 = .ok (.iconst 1, 1) := by decide +kernel
theorem dL_law_364 : decode cL_law 364 = .ok (.iadd, 1) := by decide +kernel
theorem dL_law_365 : decode cL_law 365 = .ok (.iaload, 1) := by decide +kernel
theorem dL_law_366 : decode cL_law 366 = .ok (.invokevirtual 64, 3) := by decide +kernel
theorem dL_law_369 : decode cL_law 369 = .ok (.if_icmp .eq 192, 3) := by decide +kernel
theorem dL_law_372 : decode cL_law 372 = .ok (.iconst 0, 1) := by decide +kernel
theorem dL_law_373 : decode cL_law 373 = .ok (.ireturn, 1) := by decide +kernel
theorem dL_law_374 : decode cL_law 374 = .ok (.aload_n 1, 1) := by decide +kernel
theorem dL_law_375 : decode cL_law 375 = .ok (.aload_n 0, 1) := by decide +kernel
theorem dL_law_376 : decode cL_law 376 = .ok (.iload_n 3, 1) := by decide +kernel
theorem dL_law_377 : decode cL_law 377 = .ok (.iconst 1, 1) := by decide +kernel
theorem dL_law_378 : decode cL_law 378 = .ok (.iadd, 1) := by decide +kernel
theorem dL_law_379 : decode cL_law 379 = .ok (.iaload, 1) := by decide +kernel
theorem dL_law_380 : decode cL_law 380 = .ok (.invokevirtual 65, 3) := by decide +kernel
theorem dL_law_383 : decode cL_law 383 = .ok (.aload_n 2, 1) := by decide +kernel
theorem dL_law_384 : decode cL_law 384 = .ok (.aload_n 0, 1) := by decide +kernel
theorem dL_law_385 : decode cL_law 385 = .ok (.iload_n 3, 1) := by decide +kernel
theorem dL_law_386 : decode cL_law 386 = .ok (.iconst 1, 1) := by decide +kernel
theorem dL_law_387 : decode cL_law 387 = .ok (.iadd, 1) := by decide +kernel
theorem dL_law_388 : decode cL_law 388 = .ok (.iaload, 1) := by decide +kernel
theorem dL_law_389 : decode cL_law 389 = .ok (.invokevirtual 68, 3) := by decide +kernel
theorem dL_law_392 : decode cL_law 392 = .ok (.if_icmp .eq 169, 3) := by decide +kernel
theorem dL_law_395 : decode cL_law 395 = .ok (.iconst 0, 1) := by decide +kernel
theorem dL_law_396 : decode cL_law 396 = .ok (.ireturn, 1) := by decide +kernel
theorem dL_law_397 : decode cL_law 397 = .ok (.aload_n 1, 1) := by decide +kernel
theorem dL_law_398 : decode cL_law 398 = .ok (.aload_n 0, 1) := by decide +kernel
theorem dL_law_399 : decode cL_law 399 = .ok (.iload_n 3, 1) := by decide +kernel
theorem dL_law_400 : decode cL_law 400 = .ok (.iconst 1, 1) := by decide +kernel
theorem dL_law_401 : decode cL_law 401 = .ok (.iadd, 1) := by decide +kernel
theorem dL_law_402 : decode cL_law 402 = .ok (.iaload, 1) := by decide +kernel
theorem dL_law_403 : decode cL_law 403 = .ok (.aload_n 0, 1) := by decide +kernel
theorem dL_law_404 : decode cL_law 404 = .ok (.iload_n 3, 1) := by decide +kernel
theorem dL_law_405 : decode cL_law 405 = .ok (.iconst 2, 1) := by decide +kernel
theorem dL_law_406 : decode cL_law 406 = .ok (.iadd, 1) := by decide +kernel
theorem dL_law_407 : decode cL_law 407 = .ok (.iaload, 1) := by decide +kernel
theorem dL_law_408 : decode cL_law 408 = .ok (.invokevirtual 69, 3) := by decide +kernel
theorem dL_law_411 : decode cL_law 411 = .ok (.aload_n 2, 1) := by decide +kernel
theorem dL_law_412 : decode cL_law 412 = .ok (.aload_n 0, 1) := by decide +kernel
theorem dL_law_413 : decode cL_law 413 = .ok (.iload_n 3, 1) := by decide +kernel
theorem dL_law_414 : decode cL_law 414 = .ok (.iconst 1, 1) := by decide +kernel
theorem dL_law_415 : decode cL_law 415 = .ok (.iadd, 1) := by decide +kernel
theorem dL_law_416 : decode cL_law 416 = .ok (.iaload, 1) := by decide +kernel
theorem dL_law_417 : decode cL_law 417 = .ok (.aload_n 0, 1) := by decide +kernel
theorem dL_law_418 : decode cL_law 418 = .ok (.iload_n 3, 1) := by decide +kernel
theorem dL_law_419 : decode cL_law 419 = .ok (.iconst 2, 1) := by decide +kernel
theorem dL_law_420 : decode cL_law 420 = .ok (.iadd, 1) := by decide +kernel
theorem dL_law_421 : decode cL_law 421 = .ok (.iaload, 1) := by decide +kernel
theorem dL_law_422 : decode cL_law 422 = .ok (.invokevirtual 72, 3) := by decide +kernel
theorem dL_law_425 : decode cL_law 425 = .ok (.if_icmp .eq 136, 3) := by decide +kernel
theorem dL_law_428 : decode cL_law 428 = .ok (.iconst 0, 1) := by decide +kernel
theorem dL_law_429 : decode cL_law 429 = .ok (.ireturn, 1) := by decide +kernel
theorem dL_law_430 : decode cL_law 430 = .ok (.aload_n 1, 1) := by decide +kernel
theorem dL_law_431 : decode cL_law 431 = .ok (.invokevirtual 73, 3) := by decide +kernel
theorem dL_law_434 : decode cL_law 434 = .ok (.aload_n 2, 1) := by decide +kernel
theorem dL_law_435 : decode cL_law 435 = .ok (.invokevirtual 76, 3) := by decide +kernel
theorem dL_law_438 : decode cL_law 438 = .ok (.if_icmp .eq 123, 3) := by decide +kernel
theorem dL_law_441 : decode cL_law 441 = .ok (.iconst 0, 1) := by decide +kernel
theorem dL_law_442 : decode cL_law 442 = .ok (.ireturn, 1) := by decide +kernel
theorem dL_law_443 : decode cL_law 443 = .ok (.aload_n 1, 1) := by decide +kernel
theorem dL_law_444 : decode cL_law 444 = .ok (.aload_n 0, 1) := by decide +kernel
theorem dL_law_445 : decode cL_law 445 = .ok (.iload_n 3, 1) := by decide +kernel
theorem dL_law_446 : decode cL_law 446 = .ok (.iconst 1, 1) := by decide +kernel
theorem dL_law_447 : decode cL_law 447 = .ok (.iadd, 1) := by decide +kernel
theorem dL_law_448 : decode cL_law 448 = .ok (.iaload, 1) := by decide +kernel
theorem dL_law_449 : decode cL_law 449 = .ok (.invokevirtual 77, 3) := by decide +kernel
theorem dL_law_452 : decode cL_law 452 = .ok (.aload_n 2, 1) := by decide +kernel
theorem dL_law_453 : decode cL_law 453 = .ok (.aload_n 0, 1) := by decide +kernel
theorem dL_law_454 : decode cL_law 454 = .ok (.iload_n 3, 1) := by decide +kernel
theorem dL_law_455 : decode cL_law 455 = .ok (.iconst 1, 1) := by decide +kernel
theorem dL_law_456 : decode cL_law 456 = .ok (.iadd, 1) := by decide +kernel
theorem dL_law_457 : decode cL_law 457 = .ok (.iaload, 1) := by decide +kernel
theorem dL_law_458 : decode cL_law 458 = .ok (.invokevirtual 80, 3) := by decide +kernel
theorem dL_law_461 : decode cL_law 461 = .ok (.if_icmp .eq 100, 3) := by decide +kernel
theorem dL_law_464 : decode cL_law 464 = .ok (.iconst 0, 1) := by decide +kernel
theorem dL_law_465 : decode cL_law 465 = .ok (.ireturn, 1) := by decide +kernel
theorem dL_law_466 : decode cL_law 466 = .ok (.aload_n 1, 1) := by decide +kernel
theorem dL_law_467 : decode cL_law 467 = .ok (.aload_n 0, 1) := by decide +kernel
theorem dL_law_468 : decode cL_law 468 = .ok (.iload_n 3, 1) := by decide +kernel
theorem dL_law_469 : decode cL_law 469 = .ok (.iconst 1, 1) := by decide +kernel
theorem dL_law_470 : decode cL_law 470 = .ok (.iadd, 1) := by decide +kernel
theorem dL_law_471 : decode cL_law 471 = .ok (.iaload, 1) := by decide +kernel
theorem dL_law_472 : decode cL_law 472 = .ok (.invokevirtual 81, 3) := by decide +kernel
theorem dL_law_475 : decode cL_law 475 = .ok (.aload_n 2, 1) := by decide +kernel
theorem dL_law_476 : decode cL_law 476 = .ok (.aload_n 0, 1) := by decide +kernel
theorem dL_law_477 : decode cL_law 477 = .ok (.iload_n 3, 1) := by decide +kernel
theorem dL_law_478 : decode cL_law 478 = .ok (.iconst 1, 1) := by decide +kernel
theorem dL_law_479 : decode cL_law 479 = .ok (.iadd, 1) := by decide +kernel
theorem dL_law_480 : decode cL_law 480 = .ok (.iaload, 1) := by decide +kernel
theorem dL_law_481 : decode cL_law 481 = .ok (.invokevirtual 84, 3) := by decide +kernel
theorem dL_law_484 : decode cL_law 484 = .ok (.if_icmp .eq 77, 3) := by decide +kernel
theorem dL_law_487 : decode cL_law 487 = .ok (.iconst 0, 1) := by decide +kernel
theorem dL_law_488 : decode cL_law 488 = .ok (.ireturn, 1) := by decide +kernel
theorem dL_law_489 : decode cL_law 489 = .ok (.aload_n 1, 1) := by decide +kernel
theorem dL_law_490 : decode cL_law 490 = .ok (.invokevirtual 85, 3) := by decide +kernel
theorem dL_law_493 : decode cL_law 493 = .ok (.aload_n 2, 1) := by decide +kernel
theorem dL_law_494 : decode cL_law 494 = .ok (.invokevirtual 88, 3) := by decide +kernel
theorem dL_law_497 : decode cL_law 497 = .ok (.if_icmp .eq 64, 3) := by decide +kernel
theorem dL_law_500 : decode cL_law 500 = .ok (.iconst 0, 1) := by decide +kernel
theorem dL_law_501 : decode cL_law 501 = .ok (.ireturn, 1) := by decide +kernel
theorem dL_law_502 : decode cL_law 502 = .ok (.aload_n 1, 1) := by decide +kernel
theorem dL_law_503 : decode cL_law 503 = .ok (.invokevirtual 89, 3) := by decide +kernel
theorem dL_law_506 : decode cL_law 506 = .ok (.aload_n 2, 1) := by decide +kernel
theorem dL_law_507 : decode cL_law 507 = .ok (.invokevirtual 92, 3) := by decide +kernel
theorem dL_law_510 : decode cL_law 510 = .ok (.if_icmp .eq 51, 3) := by decide +kernel
theorem dL_law_513 : decode cL_law 513 = .ok (.iconst 0, 1) := by decide +kernel
theorem dL_law_514 : decode cL_law 514 = .ok (.ireturn, 1) := by decide +kernel
theorem dL_law_515 : decode cL_law 515 = .ok (.aload_n 1, 1) := by decide +kernel
theorem dL_law_516 : decode cL_law 516 = .ok (.aload_n 0, 1) := by decide +kernel
theorem dL_law_517 : decode cL_law 517 = .ok (.iload_n 3, 1) := by decide +kernel
theorem dL_law_518 : decode cL_law 518 = .ok (.iconst 1, 1) := by decide +kernel
theorem dL_law_519 : decode cL_law 519 = .ok (.iadd, 1) := by decide +kernel
theorem dL_law_520 : decode cL_law 520 = .ok (.iaload, 1) := by decide +kernel
theorem dL_law_521 : decode cL_law 521 = .ok (.invokevirtual 93, 3) := by decide +kernel
theorem dL_law_524 : decode cL_law 524 = .ok (.aload_n 2, 1) := by decide +kernel
theorem dL_law_525 : decode cL_law 525 = .ok (.aload_n 0, 1) := by decide +kernel
theorem dL_law_526 : decode cL_law 526 = .ok (.iload_n 3, 1) := by decide +kernel
theorem dL_law_527 : decode cL_law 527 = .ok (.iconst 1, 1) := by decide +kernel
theorem dL_law_528 : decode cL_law 528 = .ok (.iadd, 1) := by decide +kernel
theorem dL_law_529 : decode cL_law 529 = .ok (.iaload, 1) := by decide +kernel
theorem dL_law_530 : decode cL_law 530 = .ok (.invokevirtual 96, 3) := by decide +kernel
theorem dL_law_533 : decode cL_law 533 = .ok (.if_icmp .eq 28, 3) := by decide +kernel
theorem dL_law_536 : decode cL_law 536 = .ok (.iconst 0, 1) := by decide +kernel
theorem dL_law_537 : decode cL_law 537 = .ok (.ireturn, 1) := by decide +kernel
theorem dL_law_538 : decode cL_law 538 = .ok (.aload_n 1, 1) := by decide +kernel
theorem dL_law_539 : decode cL_law 539 = .ok (.aload_n 0, 1) := by decide +kernel
theorem dL_law_540 : decode cL_law 540 = .ok (.iload_n 3, 1) := by decide +kernel
theorem dL_law_541 : decode cL_law 541 = .ok (.iconst 1, 1) := by decide +kernel
theorem dL_law_542 : decode cL_law 542 = .ok (.iadd, 1) := by decide +kernel
theorem dL_law_543 : decode cL_law 543 = .ok (.iaload, 1) := by decide +kernel
theorem dL_law_544 : decode cL_law 544 = .ok (.invokevirtual 97, 3) := by decide +kernel
theorem dL_law_547 : decode cL_law 547 = .ok (.aload_n 2, 1) := by decide +kernel
theorem dL_law_548 : decode cL_law 548 = .ok (.aload_n 0, 1) := by decide +kernel
theorem dL_law_549 : decode cL_law 549 = .ok (.iload_n 3, 1) := by decide +kernel
theorem dL_law_550 : decode cL_law 550 = .ok (.iconst 1, 1) := by decide +kernel
theorem dL_law_551 : decode cL_law 551 = .ok (.iadd, 1) := by decide +kernel
theorem dL_law_552 : decode cL_law 552 = .ok (.iaload, 1) := by decide +kernel
theorem dL_law_553 : decode cL_law 553 = .ok (.invokevirtual 100, 3) := by decide +kernel
theorem dL_law_556 : decode cL_law 556 = .ok (.if_icmp .eq 5, 3) := by decide +kernel
theorem dL_law_559 : decode cL_law 559 = .ok (.iconst 0, 1) := by decide +kernel
theorem dL_law_560 : decode cL_law 560 = .ok (.ireturn, 1) := by decide +kernel
theorem dL_law_561 : decode cL_law 561 = .ok (.iinc 3 4, 3) := by decide +kernel
theorem dL_law_564 : decode cL_law 564 = .ok (.goto (-526), 3) := by decide +kernel
theorem dL_law_567 : decode cL_law 567 = .ok (.iconst 1, 1) := by decide +kernel
theorem dL_law_568 : decode cL_law 568 = .ok (.ireturn, 1) := by decide +kernel
end
section
/-! rows of Nat-valued ints, the worlds of the two classes, contracts that change nothing and contracts that write, loops -/
abbrev clX : List vw_C := [(RX1, TX1, 11), (RX2, TX2, 8)]
abbrev tyX (d z : ClassId) : List (ClassId × FieldType) := [(d, .int), (z, .boolean)]
/-- an array of ints that are numbers, of booleans -/
abbrev nf (R : Nat → Nat) : Nat → Int32 := fun g => nI (R g)
abbrev bf (B : Nat → Bool) : Nat → Int32 := fun g => nI (B g).toNat
theorem nx_and (a b : Nat) : nI a &&& nI b = nI (a &&& b) := by
  apply Int32.toBitVec_inj.1
  show BitVec.ofNat 32 a &&& BitVec.ofNat 32 b = BitVec.ofNat 32 (a &&& b)
  apply BitVec.eq_of_getLsbD_eq
  intro i hi
  simp [hi]
theorem nx_or (a b : Nat) : nI a ||| nI b = nI (a ||| b) := by
  apply Int32.toBitVec_inj.1
  show BitVec.ofNat 32 a ||| BitVec.ofNat 32 b = BitVec.ofNat 32 (a ||| b)
  apply BitVec.eq_of_getLsbD_eq
  intro i hi
  simp [hi]
theorem nx_xor (a b : Nat) : nI a ^^^ nI b = nI (a ^^^ b) := by
  apply Int32.toBitVec_inj.1
  show BitVec.ofNat 32 a ^^^ BitVec.ofNat 32 b = BitVec.ofNat 32 (a ^^^ b)
  apply BitVec.eq_of_getLsbD_eq
  intro i hi
  simp [hi]
theorem nx_m1 : (-1 : Int32) = nI (2 ^ 32 - 1) := by decide
theorem nx_ones {i : Nat} (hi : i < 32) : (2 ^ 32 - 1 : Nat).testBit i = true := by rw [Nat.testBit_two_pow_sub_one]; simp [hi]
theorem nx_andn (a b : Nat) : nI a &&& (nI b ^^^ (-1)) = nI (nd a b) := by
  rw [nx_m1, nx_xor, nx_and]
  apply Int32.toBitVec_inj.1
  show BitVec.ofNat 32 _ = BitVec.ofNat 32 _
  apply BitVec.eq_of_getLsbD_eq
  intro i hi
  rw [BitVec.getLsbD_ofNat, BitVec.getLsbD_ofNat, nd_t, Nat.testBit_and, Nat.testBit_xor, nx_ones hi]
  cases a.testBit i <;> cases b.testBit i <;> rfl
theorem s_l : ∀ n, n < 32 → ((nI n &&& 31).toBitVec.smod 32).toNat = n := by decide +kernel
theorem nx_bit {s i : Nat} (hs : s < 2 ^ 31) (hi : i < 32) : nI s >>> (nI i &&& 31) &&& nI 1 = nI (bN s i) := by
  rw [pk_shrN hs _ i (s_l i hi), nx_and, Nat.and_one_is_mod]
  unfold bN
  rw [Nat.testBit_eq_decide_div_mod_eq]
  congr 1
  rcases Nat.mod_two_eq_zero_or_one (s / 2 ^ i) with h | h <;> simp [h]
theorem nx_shl {i : Nat} (hi : i < 31) : nI 1 <<< (nI i &&& 31) = nI (2 ^ i) := by
  have h : 2 ^ i ≤ 2 ^ 31 := Nat.pow_le_pow_right (by decide) (by omega)
  rw [pk_shlN _ i (s_l i (by omega)) (by omega), Nat.one_mul]
theorem nx_0 {a : Nat} (ha : a < 2 ^ 31) : nI a = 0 ↔ a = 0 := by rw [← nI_0]; exact nI_eq ha (by decide)
theorem nf_u (R : Nat → Nat) (k v : Nat) : upd (nf R) k (nI v) = nf (un R k v) := by
  funext j
  by_cases h : j = k <;> simp [upd, nf, un, h]
theorem nb_nar (b : Bool) : vp_nar .boolean (nI b.toNat) = nI b.toNat := by cases b <;> decide
theorem bf_u (B : Nat → Bool) (k : Nat) (v : Bool) : upd (bf B) k (vp_nar .boolean (nI v.toNat)) = bf (un B k v) := by
  rw [nb_nar]
  funext j
  by_cases h : j = k <;> simp [upd, bf, un, h]
section NV
variable {p : Program} {l : Launch} {e : Env} {R : Room} {s : State} {m : MethodId} {args : Array Value} {below : List Frame} {meth : Method} {c : Code} {H : Heap} {locs : List Loc} {cells slots : Nat} {Q : State → Prop}
variable {cc : ByteArray} {pc : Nat} {ls : Array Slot} {rest : List Value}
theorem nv_iand (hx : p.tables.exec = Jvm.exec) (hb : c.code = cc) {a b : Nat} (hd : decode cc pc = .ok (.iand, 1)) (k : W p l e R s m args below meth c H locs cells slots Q (F0 m (pc + 1) ls (.int (nI (a &&& b)) :: rest))) : W p l e R s m args below meth c H locs cells slots Q (F0 m pc ls (.int (nI b) :: .int (nI a) :: rest)) := by
  refine lv_iand hx hb hd ?_
  rw [nx_and]
  exact k
theorem nv_ior (hx : p.tables.exec = Jvm.exec) (hb : c.code = cc) {a b : Nat} (hd : decode cc pc = .ok (.ior, 1)) (k : W p l e R s m args below meth c H locs cells slots Q (F0 m (pc + 1) ls (.int (nI (a ||| b)) :: rest))) : W p l e R s m args below meth c H locs cells slots Q (F0 m pc ls (.int (nI b) :: .int (nI a) :: rest)) := by
  refine lv_ior hx hb hd ?_
  rw [nx_or]
  exact k
theorem nv_ixor (hx : p.tables.exec = Jvm.exec) (hb : c.code = cc) {a b : Nat} (hd : decode cc pc = .ok (.ixor, 1)) (k : W p l e R s m args below meth c H locs cells slots Q (F0 m (pc + 1) ls (.int (nI (a ^^^ b)) :: rest))) : W p l e R s m args below meth c H locs cells slots Q (F0 m pc ls (.int (nI b) :: .int (nI a) :: rest)) := by
  refine lv_ixor hx hb hd ?_
  rw [nx_xor]
  exact k
theorem nv_iadd (hx : p.tables.exec = Jvm.exec) (hb : c.code = cc) {a b : Nat} (hd : decode cc pc = .ok (.iadd, 1)) (k : W p l e R s m args below meth c H locs cells slots Q (F0 m (pc + 1) ls (.int (nI (a + b)) :: rest))) : W p l e R s m args below meth c H locs cells slots Q (F0 m pc ls (.int (nI b) :: .int (nI a) :: rest)) := by
  refine lv_iadd hx hb hd ?_
  rw [nI_add]
  exact k
theorem nv_imul (hx : p.tables.exec = Jvm.exec) (hb : c.code = cc) {a b : Nat} (hd : decode cc pc = .ok (.imul, 1)) (k : W p l e R s m args below meth c H locs cells slots Q (F0 m (pc + 1) ls (.int (nI (a * b)) :: rest))) : W p l e R s m args below meth c H locs cells slots Q (F0 m pc ls (.int (nI b) :: .int (nI a) :: rest)) := by
  refine lv_imul hx hb hd ?_
  rw [pk_mul]
  exact k
theorem nv_isub (hx : p.tables.exec = Jvm.exec) (hb : c.code = cc) {a b : Nat} (hab : b ≤ a) (hd : decode cc pc = .ok (.isub, 1)) (k : W p l e R s m args below meth c H locs cells slots Q (F0 m (pc + 1) ls (.int (nI (a - b)) :: rest))) : W p l e R s m args below meth c H locs cells slots Q (F0 m pc ls (.int (nI b) :: .int (nI a) :: rest)) := by
  refine lv_isub hx hb hd ?_
  rw [pk_sub hab]
  exact k
theorem nv_ishl (hx : p.tables.exec = Jvm.exec) (hb : c.code = cc) {i : Nat} (hi : i < 31) (hd : decode cc pc = .ok (.ishl, 1)) (k : W p l e R s m args below meth c H locs cells slots Q (F0 m (pc + 1) ls (.int (nI (2 ^ i)) :: rest))) : W p l e R s m args below meth c H locs cells slots Q (F0 m pc ls (.int (nI i) :: .int (nI 1) :: rest)) := by
  refine lv_ishl hx hb hd ?_
  rw [nx_shl hi]
  exact k
/-- 's >> i & 1' -/
theorem nv_bit (hx : p.tables.exec = Jvm.exec) (hb : c.code = cc) {a i : Nat} (ha : a < 2 ^ 31) (hi : i < 32) (h1 : decode cc pc = .ok (.ishr, 1)) (h2 : decode cc (pc + 1) = .ok (.iconst 1, 1)) (h3 : decode cc (pc + 1 + 1) = .ok (.iand, 1)) (k : W p l e R s m args below meth c H locs cells slots Q (F0 m (pc + 1 + 1 + 1) ls (.int (nI (bN a i)) :: rest))) : W p l e R s m args below meth c H locs cells slots Q (F0 m pc ls (.int (nI i) :: .int (nI a) :: rest)) := by
  refine lv_ishr hx hb h1 ?_
  refine lv_iconst (v := nI 1) hx hb h2 (by decide) ?_
  refine lv_iand hx hb h3 ?_
  rw [nx_bit ha hi]
  exact k
/-- 'a & ~b' -/
theorem nv_andn (hx : p.tables.exec = Jvm.exec) (hb : c.code = cc) {a b : Nat} (h1 : decode cc pc = .ok (.iconst (-1), 1)) (h2 : decode cc (pc + 1) = .ok (.ixor, 1)) (h3 : decode cc (pc + 1 + 1) = .ok (.iand, 1)) (k : W p l e R s m args below meth c H locs cells slots Q (F0 m (pc + 1 + 1 + 1) ls (.int (nI (nd a b)) :: rest))) : W p l e R s m args below meth c H locs cells slots Q (F0 m pc ls (.int (nI b) :: .int (nI a) :: rest)) := by
  refine lv_iconst (v := -1) hx hb h1 (by decide) ?_
  refine lv_ixor hx hb h2 ?_
  refine lv_iand hx hb h3 ?_
  rw [nx_andn]
  exact k
theorem nv_ge (hx : p.tables.exec = Jvm.exec) (hb : c.code = cc) {a b : Nat} (ha : a < 2 ^ 31) (hb' : b < 2 ^ 31) {off : Int} {tgt : Nat} (hd : decode cc pc = .ok (.if_icmp .ge off, 3)) (ht : (pc : Int) + off = (tgt : Int)) (kt : b ≤ a → W p l e R s m args below meth c H locs cells slots Q (F0 m tgt ls rest)) (kf : a < b → W p l e R s m args below meth c H locs cells slots Q (F0 m (pc + 3) ls rest)) : W p l e R s m args below meth c H locs cells slots Q (F0 m pc ls (.int (nI b) :: .int (nI a) :: rest)) :=
  lv_icmp_ge hx hb hd ht (fun q => kt ((nI_leI hb' ha).mp q)) (fun q => kf (Nat.not_le.mp (fun z => q ((nI_leI hb' ha).mpr z))))
theorem nv_lt (hx : p.tables.exec = Jvm.exec) (hb : c.code = cc) {a b : Nat} (ha : a < 2 ^ 31) (hb' : b < 2 ^ 31) {off : Int} {tgt : Nat} (hd : decode cc pc = .ok (.if_icmp .lt off, 3)) (ht : (pc : Int) + off = (tgt : Int)) (kt : a < b → W p l e R s m args below meth c H locs cells slots Q (F0 m tgt ls rest)) (kf : b ≤ a → W p l e R s m args below meth c H locs cells slots Q (F0 m (pc + 3) ls rest)) : W p l e R s m args below meth c H locs cells slots Q (F0 m pc ls (.int (nI b) :: .int (nI a) :: rest)) :=
  lv_icmp_lt hx hb hd ht (fun q => kt ((nI_ltI ha hb').mp q)) (fun q => kf (Nat.not_lt.mp (fun z => q ((nI_ltI ha hb').mpr z))))
theorem nv_gt (hx : p.tables.exec = Jvm.exec) (hb : c.code = cc) {a b : Nat} (ha : a < 2 ^ 31) (hb' : b < 2 ^ 31) {off : Int} {tgt : Nat} (hd : decode cc pc = .ok (.if_icmp .gt off, 3)) (ht : (pc : Int) + off = (tgt : Int)) (kt : b < a → W p l e R s m args below meth c H locs cells slots Q (F0 m tgt ls rest)) (kf : a ≤ b → W p l e R s m args below meth c H locs cells slots Q (F0 m (pc + 3) ls rest)) : W p l e R s m args below meth c H locs cells slots Q (F0 m pc ls (.int (nI b) :: .int (nI a) :: rest)) :=
  lv_icmp_gt hx hb hd ht (fun q => kt ((nI_ltI hb' ha).mp q)) (fun q => kf (Nat.not_lt.mp (fun z => q ((nI_ltI hb' ha).mpr z))))
theorem nv_le (hx : p.tables.exec = Jvm.exec) (hb : c.code = cc) {a b : Nat} (ha : a < 2 ^ 31) (hb' : b < 2 ^ 31) {off : Int} {tgt : Nat} (hd : decode cc pc = .ok (.if_icmp .le off, 3)) (ht : (pc : Int) + off = (tgt : Int)) (kt : a ≤ b → W p l e R s m args below meth c H locs cells slots Q (F0 m tgt ls rest)) (kf : b < a → W p l e R s m args below meth c H locs cells slots Q (F0 m (pc + 3) ls rest)) : W p l e R s m args below meth c H locs cells slots Q (F0 m pc ls (.int (nI b) :: .int (nI a) :: rest)) :=
  lv_icmp_le hx hb hd ht (fun q => kt ((nI_leI ha hb').mp q)) (fun q => kf (Nat.not_le.mp (fun z => q ((nI_leI ha hb').mpr z))))
theorem nv_eq (hx : p.tables.exec = Jvm.exec) (hb : c.code = cc) {a b : Nat} (ha : a < 2 ^ 31) (hb' : b < 2 ^ 31) {off : Int} {tgt : Nat} (hd : decode cc pc = .ok (.if_icmp .eq off, 3)) (ht : (pc : Int) + off = (tgt : Int)) (kt : a = b → W p l e R s m args below meth c H locs cells slots Q (F0 m tgt ls rest)) (kf : ¬ a = b → W p l e R s m args below meth c H locs cells slots Q (F0 m (pc + 3) ls rest)) : W p l e R s m args below meth c H locs cells slots Q (F0 m pc ls (.int (nI b) :: .int (nI a) :: rest)) :=
  lv_icmp_eq hx hb hd ht (fun q => kt ((nI_eq ha hb').mp q)) (fun q => kf (fun z => q ((nI_eq ha hb').mpr z)))
theorem nv_ne (hx : p.tables.exec = Jvm.exec) (hb : c.code = cc) {a b : Nat} (ha : a < 2 ^ 31) (hb' : b < 2 ^ 31) {off : Int} {tgt : Nat} (hd : decode cc pc = .ok (.if_icmp .ne off, 3)) (ht : (pc : Int) + off = (tgt : Int)) (kt : ¬ a = b → W p l e R s m args below meth c H locs cells slots Q (F0 m tgt ls rest)) (kf : a = b → W p l e R s m args below meth c H locs cells slots Q (F0 m (pc + 3) ls rest)) : W p l e R s m args below meth c H locs cells slots Q (F0 m pc ls (.int (nI b) :: .int (nI a) :: rest)) :=
  lv_icmp_ne hx hb hd ht (fun q => kt (fun z => q ((nI_eq ha hb').mpr z))) (fun q => kf ((nI_eq ha hb').mp q))
theorem nv_eq0 (hx : p.tables.exec = Jvm.exec) (hb : c.code = cc) {a : Nat} (ha : a < 2 ^ 31) {off : Int} {tgt : Nat} (hd : decode cc pc = .ok (.ifCond .eq off, 3)) (ht : (pc : Int) + off = (tgt : Int)) (kt : a = 0 → W p l e R s m args below meth c H locs cells slots Q (F0 m tgt ls rest)) (kf : ¬ a = 0 → W p l e R s m args below meth c H locs cells slots Q (F0 m (pc + 3) ls rest)) : W p l e R s m args below meth c H locs cells slots Q (F0 m pc ls (.int (nI a) :: rest)) :=
  lv_if_eq hx hb hd ht (fun q => kt ((nx_0 ha).mp q)) (fun q => kf (fun z => q ((nx_0 ha).mpr z)))
theorem nv_ne0 (hx : p.tables.exec = Jvm.exec) (hb : c.code = cc) {a : Nat} (ha : a < 2 ^ 31) {off : Int} {tgt : Nat} (hd : decode cc pc = .ok (.ifCond .ne off, 3)) (ht : (pc : Int) + off = (tgt : Int)) (kt : ¬ a = 0 → W p l e R s m args below meth c H locs cells slots Q (F0 m tgt ls rest)) (kf : a = 0 → W p l e R s m args below meth c H locs cells slots Q (F0 m (pc + 3) ls rest)) : W p l e R s m args below meth c H locs cells slots Q (F0 m pc ls (.int (nI a) :: rest)) :=
  lv_if_ne hx hb hd ht (fun q => kt (fun z => q ((nx_0 ha).mpr z))) (fun q => kf ((nx_0 ha).mp q))
/-- a boolean answer on the stack -/
theorem nv_eqB (hx : p.tables.exec = Jvm.exec) (hb : c.code = cc) {b : Bool} {off : Int} {tgt : Nat} (hd : decode cc pc = .ok (.ifCond .eq off, 3)) (ht : (pc : Int) + off = (tgt : Int)) (kt : b = false → W p l e R s m args below meth c H locs cells slots Q (F0 m tgt ls rest)) (kf : b = true → W p l e R s m args below meth c H locs cells slots Q (F0 m (pc + 3) ls rest)) : W p l e R s m args below meth c H locs cells slots Q (F0 m pc ls (.int (nI b.toNat) :: rest)) :=
  nv_eq0 hx hb (by cases b <;> decide) hd ht (fun q => kt (by cases b <;> simp_all)) (fun q => kf (by cases b <;> simp_all))
theorem nv_neB (hx : p.tables.exec = Jvm.exec) (hb : c.code = cc) {b : Bool} {off : Int} {tgt : Nat} (hd : decode cc pc = .ok (.ifCond .ne off, 3)) (ht : (pc : Int) + off = (tgt : Int)) (kt : b = true → W p l e R s m args below meth c H locs cells slots Q (F0 m tgt ls rest)) (kf : b = false → W p l e R s m args below meth c H locs cells slots Q (F0 m (pc + 3) ls rest)) : W p l e R s m args below meth c H locs cells slots Q (F0 m pc ls (.int (nI b.toNat) :: rest)) :=
  nv_ne0 hx hb (by cases b <;> decide) hd ht (fun q => kt (by cases b <;> simp_all)) (fun q => kf (by cases b <;> simp_all))
variable {D : va_G} {cl : List vw_C} {A : Nat → Prop} {a : Nat} {tys : List (ClassId × FieldType)} {ws : va_W} {H0 : Heap}
theorem nv_iald (hx : p.tables.exec = Jvm.exec) (hb : c.code = cc) (hK : va_K D cl tys s) (hP : va_P D cl ws H) (q0 t0 : Nat) {cA : ClassId} {n : Nat} {f : Nat → Int32} (ha : ws[q0]? = some (a, .inl (cA, n, .inl f))) (ht : tys[t0]? = some (cA, .int)) {i : Nat} (hi : i < n) (hn : n < 2 ^ 31) (hd : decode cc pc = .ok (.iaload, 1)) (kk : W p l e R s m args below meth c H locs cells slots Q (F0 m (pc + 1) ls (.int (f i) :: rest))) : W p l e R s m args below meth c H locs cells slots Q (F0 m pc ls (.int (nI i) :: .ref a :: rest)) := by
  refine va_iald hx hb hK hP q0 t0 ha ht (vp_in_nI hi hn) hd ?_
  rw [nI_clamp (Nat.lt_trans hi hn)]
  exact kk
theorem nv_zald (hx : p.tables.exec = Jvm.exec) (hb : c.code = cc) (hK : va_K D cl tys s) (hP : va_P D cl ws H) (q0 t0 : Nat) {cA : ClassId} {n : Nat} {f : Nat → Int32} (ha : ws[q0]? = some (a, .inl (cA, n, .inl f))) (ht : tys[t0]? = some (cA, .boolean)) {i : Nat} (hi : i < n) (hn : n < 2 ^ 31) (hd : decode cc pc = .ok (.baload, 1)) (kk : W p l e R s m args below meth c H locs cells slots Q (F0 m (pc + 1) ls (.int (f i) :: rest))) : W p l e R s m args below meth c H locs cells slots Q (F0 m pc ls (.int (nI i) :: .ref a :: rest)) := by
  refine va_zald hx hb hK hP q0 t0 ha ht (vp_in_nI hi hn) hd ?_
  rw [nI_clamp (Nat.lt_trans hi hn)]
  exact kk
theorem nv_iast (hx : p.tables.exec = Jvm.exec) (hb : c.code = cc) (hK : va_K D cl tys s) (hP : va_P D cl ws H) (hD : va_D A ws) (hS : va_S A H0 H locs) (q0 t0 : Nat) {cA : ClassId} {n : Nat} {f : Nat → Nat} (ha : ws[q0]? = some (a, .inl (cA, n, .inl (nf f)))) (ht : tys[t0]? = some (cA, .int)) {i v : Nat} (hi : i < n) (hn : n < 2 ^ 31) (hd : decode cc pc = .ok (.iastore, 1)) (kk : ∀ (H1 : Heap) (locs1 : List Loc), va_P D cl (ws.set q0 (a, .inl (cA, n, .inl (nf (un f i v))))) H1 → va_D A (ws.set q0 (a, .inl (cA, n, .inl (nf (un f i v))))) → va_S A H0 H1 locs1 → W p l e R s m args below meth c H1 locs1 cells slots Q (F0 m (pc + 1) ls rest)) : W p l e R s m args below meth c H locs cells slots Q (F0 m pc ls (.int (nI v) :: .int (nI i) :: .ref a :: rest)) := by
  refine va_iast hx hb hK hP hD hS q0 t0 ha ht (vp_in_nI hi hn) hd ?_
  rw [nI_clamp (Nat.lt_trans hi hn), nf_u]
  exact kk
theorem nv_zast (hx : p.tables.exec = Jvm.exec) (hb : c.code = cc) (hK : va_K D cl tys s) (hP : va_P D cl ws H) (hD : va_D A ws) (hS : va_S A H0 H locs) (q0 t0 : Nat) {cA : ClassId} {n : Nat} {f : Nat → Bool} (ha : ws[q0]? = some (a, .inl (cA, n, .inl (bf f)))) (ht : tys[t0]? = some (cA, .boolean)) {i : Nat} {v : Bool} (hi : i < n) (hn : n < 2 ^ 31) (hd : decode cc pc = .ok (.bastore, 1)) (kk : ∀ (H1 : Heap) (locs1 : List Loc), va_P D cl (ws.set q0 (a, .inl (cA, n, .inl (bf (un f i v))))) H1 → va_D A (ws.set q0 (a, .inl (cA, n, .inl (bf (un f i v))))) → va_S A H0 H1 locs1 → W p l e R s m args below meth c H1 locs1 cells slots Q (F0 m (pc + 1) ls rest)) : W p l e R s m args below meth c H locs cells slots Q (F0 m pc ls (.int (nI v.toNat) :: .int (nI i) :: .ref a :: rest)) := by
  refine va_zast hx hb hK hP hD hS q0 t0 ha ht (vp_in_nI hi hn) hd ?_
  rw [nI_clamp (Nat.lt_trans hi hn), bf_u]
  exact kk
/-- a loop with a counter that rises to N, its head at pc: I i is what holds there -/
theorem nv_loop (I : Nat → Heap → List Loc → Array Slot → Prop) (N : Nat)
    (step : ∀ (i : Nat) (H : Heap) (locs : List Loc) (ls : Array Slot), i < N → I i H locs ls → (∀ (H : Heap) (locs : List Loc) (ls : Array Slot), I (i + 1) H locs ls → W p l e R s m args below meth c H locs cells slots Q (F0 m pc ls rest)) → W p l e R s m args below meth c H locs cells slots Q (F0 m pc ls rest))
    (done : ∀ (H : Heap) (locs : List Loc) (ls : Array Slot), I N H locs ls → W p l e R s m args below meth c H locs cells slots Q (F0 m pc ls rest)) :
    ∀ (i : Nat) {H : Heap} {locs : List Loc} {ls : Array Slot}, i ≤ N → I i H locs ls → W p l e R s m args below meth c H locs cells slots Q (F0 m pc ls rest) := by
  have key : ∀ (k i : Nat), N - i = k → ∀ (H : Heap) (locs : List Loc) (ls : Array Slot), i ≤ N → I i H locs ls → W p l e R s m args below meth c H locs cells slots Q (F0 m pc ls rest) := by
    intro k
    induction k with
    | zero =>
      intro i hk H locs ls hi hI
      have : i = N := by omega
      subst this
      exact done H locs ls hI
    | succ k ih =>
      intro i hk H locs ls hi hI
      exact step i H locs ls (by omega) hI (fun H locs ls hI => ih (i + 1) (by omega) H locs ls (by omega) hI)
  intro i H locs ls hi hI
  exact key (N - i) i rfl H locs ls hi hI
end NV
end
section
/-! contracts: xRO changes nothing; xRW answers an int and writes its world; xRV answers nothing -/
abbrev rmX (fr lo : Nat) : Room := { frames := fr, cells := 0, slots := 0, locals := lo }
abbrev frX (s : State) : Nat → Prop := fun q => s.heap.size ≤ q
def xRO (l : Launch) (y : MethodName) (b : ByteArray) (L : Nat) (ret : Option FieldType) (fr lo : Nat) (D : va_G) (tys : List (ClassId × FieldType)) (ws : va_W) (av : List Value) (post : Int32 → Prop) : Prop :=
  ∀ sz : Nat, Met l y (ws_ y b L ret) (rmX fr lo) (va_Pc av (fun U => U.heap.size = sz ∧ va_P D clX ws U.heap ∧ va_K D clX tys U)) (va_Qi (fun r (_ : Unit) => post r) (fun _ _ => True) (fun q => sz ≤ q)) 0 0 (fun q => sz ≤ q)
def xRW (S : Type) (l : Launch) (y : MethodName) (b : ByteArray) (L : Nat) (ret : Option FieldType) (fr lo : Nat) (D : va_G) (tys : List (ClassId × FieldType)) (ws : va_W) (av : List Value) (post : Int32 → S → Prop) (w1 : S → va_W) : Prop :=
  ∀ sz : Nat, Met l y (ws_ y b L ret) (rmX fr lo) (va_Pc av (fun U => U.heap.size = sz ∧ va_P D clX ws U.heap ∧ va_K D clX tys U ∧ va_D (fun _ => True) ws)) (va_Qi post (fun u t => va_P D clX (w1 u) t.heap ∧ va_D (va_A ws sz) (w1 u)) (va_A ws sz)) 0 0 (va_A ws sz)
def xRV (S : Type) (l : Launch) (y : MethodName) (b : ByteArray) (L : Nat) (fr lo : Nat) (D : va_G) (tys : List (ClassId × FieldType)) (ws : va_W) (av : List Value) (post : S → Prop) (w1 : S → va_W) : Prop :=
  ∀ sz : Nat, Met l y (ws_ y b L none) (rmX fr lo) (va_Pc av (fun U => U.heap.size = sz ∧ va_P D clX ws U.heap ∧ va_K D clX tys U ∧ va_D (fun _ => True) ws)) (va_Qv post (fun u t => va_P D clX (w1 u) t.heap ∧ va_D (va_A ws sz) (w1 u)) (va_A ws sz)) 0 0 (va_A ws sz)
/-- what a walk has at hand -/
abbrev xBd (p : Program) (s : State) (m : MethodId) (meth : Method) (c : Code) (y : MethodName) (b : ByteArray) (L : Nat) (ret : Option FieldType) (av : List Value) : Prop :=
  p.tables.exec = Jvm.exec ∧ c.code = b ∧ meth.sig.returnType = ret ∧ c.maxLocals = L ∧ s.vm.findClass y.cls = some m.cls ∧ meth.locks = false ∧ (∀ w ∈ lw_all, w.before av.toArray s = true)
abbrev roQ (below : List Frame) (av : List Value) (s : State) (post : Int32 → Prop) : State → Prop := MQ below (va_Qi (fun r (_ : Unit) => post r) (fun _ _ => True) (frX s)) av.toArray s 0 0 (frX s)
theorem xRO.of {l : Launch} {y : MethodName} {b : ByteArray} {L : Nat} {ret : Option FieldType} {fr lo : Nat} {D : va_G} {tys : List (ClassId × FieldType)} {ws : va_W} {av : List Value} {post : Int32 → Prop} (hy : plainName y.cls = true) (hL : (lg_sl av).length ≤ L)
    (body : ∀ (p : Program) (e : Env) (s : State) (m : MethodId) (below : List Frame) (meth : Method) (c : Code), xBd p s m meth c y b L ret av → va_K D clX tys s → va_P D clX ws s.heap → ∀ ls : Array Slot, lv_has ls L (lv_args 0 av) → W p l e (rmX fr lo) s m av.toArray below meth c s.heap [] 0 0 (roQ below av s post) (F0 m 0 ls [])) : xRO l y b L ret fr lo D tys ws av post := by
  intro sz
  refine Met.ofW (cc := b) (maxL := L) (ret := ret) hy rfl ?_
  intro p e s m args below meth c s₁ B hml hv
  obtain ⟨rfl, hsz, hP, hK⟩ := hv
  have hts := atoms_spec (ws := ws_ y b L ret) B.pre
  have hts : ∀ w ∈ lw_all, w.before _ s = true := fun w h => hts w (List.mem_cons_of_mem _ h)
  have hown : s.vm.findClass y.cls = some m.cls := findClass_of_methodNamed B.named
  subst hsz
  have hl := lv_entry av (n := L) hL
  rw [lg_entry_eq]
  generalize (lg_sl av ++ List.replicate (L - (lg_sl av).length) Slot.unset).toArray = ls at hl ⊢
  exact body p e s m below meth c ⟨B.exec, B.bytes, B.returns, hml, hown, B.notSynchronized, hts⟩ hK hP ls hl
theorem xRW.of {S : Type} {l : Launch} {y : MethodName} {b : ByteArray} {L : Nat} {ret : Option FieldType} {fr lo : Nat} {D : va_G} {tys : List (ClassId × FieldType)} {ws : va_W} {av : List Value} {post : Int32 → S → Prop} {w1 : S → va_W} (hy : plainName y.cls = true) (hL : (lg_sl av).length ≤ L)
    (body : ∀ (p : Program) (e : Env) (s : State) (m : MethodId) (below : List Frame) (meth : Method) (c : Code), xBd p s m meth c y b L ret av → va_K D clX tys s → va_P D clX ws s.heap → va_D (va_A ws s.heap.size) ws → ∀ ls : Array Slot, lv_has ls L (lv_args 0 av) → W p l e (rmX fr lo) s m av.toArray below meth c s.heap [] 0 0 (MQ below (va_Qi post (fun u t => va_P D clX (w1 u) t.heap ∧ va_D (va_A ws s.heap.size) (w1 u)) (va_A ws s.heap.size)) av.toArray s 0 0 (va_A ws s.heap.size)) (F0 m 0 ls [])) : xRW S l y b L ret fr lo D tys ws av post w1 := by
  intro sz
  refine Met.ofW (cc := b) (maxL := L) (ret := ret) hy rfl ?_
  intro p e s m args below meth c s₁ B hml hv
  obtain ⟨rfl, hsz, hP, hK, hD⟩ := hv
  have hts := atoms_spec (ws := ws_ y b L ret) B.pre
  have hts : ∀ w ∈ lw_all, w.before _ s = true := fun w h => hts w (List.mem_cons_of_mem _ h)
  have hown : s.vm.findClass y.cls = some m.cls := findClass_of_methodNamed B.named
  subst hsz
  have hl := lv_entry av (n := L) hL
  rw [lg_entry_eq]
  generalize (lg_sl av ++ List.replicate (L - (lg_sl av).length) Slot.unset).toArray = ls at hl ⊢
  exact body p e s m below meth c ⟨B.exec, B.bytes, B.returns, hml, hown, B.notSynchronized, hts⟩ hK hP (hD.self) ls hl
theorem xRV.of {S : Type} {l : Launch} {y : MethodName} {b : ByteArray} {L : Nat} {fr lo : Nat} {D : va_G} {tys : List (ClassId × FieldType)} {ws : va_W} {av : List Value} {post : S → Prop} {w1 : S → va_W} (hy : plainName y.cls = true) (hL : (lg_sl av).length ≤ L)
    (body : ∀ (p : Program) (e : Env) (s : State) (m : MethodId) (below : List Frame) (meth : Method) (c : Code), xBd p s m meth c y b L none av → va_K D clX tys s → va_P D clX ws s.heap → va_D (va_A ws s.heap.size) ws → ∀ ls : Array Slot, lv_has ls L (lv_args 0 av) → W p l e (rmX fr lo) s m av.toArray below meth c s.heap [] 0 0 (MQ below (va_Qv post (fun u t => va_P D clX (w1 u) t.heap ∧ va_D (va_A ws s.heap.size) (w1 u)) (va_A ws s.heap.size)) av.toArray s 0 0 (va_A ws s.heap.size)) (F0 m 0 ls [])) : xRV S l y b L fr lo D tys ws av post w1 := by
  intro sz
  refine Met.ofW (cc := b) (maxL := L) (ret := none) hy rfl ?_
  intro p e s m args below meth c s₁ B hml hv
  obtain ⟨rfl, hsz, hP, hK, hD⟩ := hv
  have hts := atoms_spec (ws := ws_ y b L none) B.pre
  have hts : ∀ w ∈ lw_all, w.before _ s = true := fun w h => hts w (List.mem_cons_of_mem _ h)
  have hown : s.vm.findClass y.cls = some m.cls := findClass_of_methodNamed B.named
  subst hsz
  have hl := lv_entry av (n := L) hL
  rw [lg_entry_eq]
  generalize (lg_sl av ++ List.replicate (L - (lg_sl av).length) Slot.unset).toArray = ls at hl ⊢
  exact body p e s m below meth c ⟨B.exec, B.bytes, B.returns, hml, hown, B.notSynchronized, hts⟩ hK hP (hD.self) ls hl
theorem xD_swap {A : Nat → Prop} {w1 w2 : va_W} (h : va_D A (w1 ++ w2)) : va_D A (w2 ++ w1) := by
  have get : ∀ (u v : va_W) (k : Nat) (q : Nat × va_E), (u ++ v)[k]? = some q → (u[k]? = some q ∧ k < u.length) ∨ (v[k - u.length]? = some q ∧ u.length ≤ k) := by
    intro u v k q hk
    rcases Nat.lt_or_ge k u.length with g | g
    · exact Or.inl ⟨by rw [List.getElem?_append_left g] at hk; exact hk, g⟩
    · exact Or.inr ⟨by rw [List.getElem?_append_right g] at hk; exact hk, g⟩
  have inl : ∀ (u v : va_W) (k : Nat) (q : Nat × va_E), u[k]? = some q → (u ++ v)[k]? = some q := by
    intro u v k q hk
    rw [List.getElem?_append_left (List.getElem?_eq_some_iff.mp hk).1]
    exact hk
  have inr : ∀ (u v : va_W) (k : Nat) (q : Nat × va_E), v[k]? = some q → (u ++ v)[u.length + k]? = some q := by
    intro u v k q hk
    rw [List.getElem?_append_right (Nat.le_add_right _ _), Nat.add_sub_cancel_left]
    exact hk
  refine ⟨?_, ?_⟩
  · intro i j p q hi hj hpq
    rcases get w2 w1 i p hi with ⟨a1, a2⟩ | ⟨a1, a2⟩ <;> rcases get w2 w1 j q hj with ⟨b1, b2⟩ | ⟨b1, b2⟩
    · have := h.1 _ _ p q (inr w1 w2 _ _ a1) (inr w1 w2 _ _ b1) hpq
      omega
    · have := h.1 _ _ p q (inr w1 w2 _ _ a1) (inl w1 w2 _ _ b1) hpq
      have hl := (List.getElem?_eq_some_iff.mp b1).1
      omega
    · have := h.1 _ _ p q (inl w1 w2 _ _ a1) (inr w1 w2 _ _ b1) hpq
      have hl := (List.getElem?_eq_some_iff.mp a1).1
      omega
    · have := h.1 _ _ p q (inl w1 w2 _ _ a1) (inl w1 w2 _ _ b1) hpq
      omega
  · intro k q hk
    rcases get w2 w1 k q hk with ⟨a1, -⟩ | ⟨a1, -⟩
    · exact h.2 _ q (inr w1 w2 _ _ a1)
    · exact h.2 _ q (inl w1 w2 _ _ a1)
theorem xD_left {A : Nat → Prop} {w1 w2 : va_W} (h : va_D A (w1 ++ w2)) : va_D A w1 := by
  have inl : ∀ (k : Nat) (q : Nat × va_E), w1[k]? = some q → (w1 ++ w2)[k]? = some q := by
    intro k q hk
    rw [List.getElem?_append_left (List.getElem?_eq_some_iff.mp hk).1]
    exact hk
  exact ⟨fun i j p q hi hj => h.1 i j p q (inl i p hi) (inl j q hj), fun k q hk => h.2 k q (inl k q hk)⟩
/-- the rest of the world stays, and the whole is still apart -/
theorem x_frame {A0 : Nat → Prop} {D : va_G} {cl : List vw_C} {ws wr w1 : va_W} {H H1 : Heap} (hP : va_P D cl wr H) (hD : va_D A0 (ws ++ wr)) (hk : ∀ q : Nat, q < H.size → ¬ va_A ws H.size q → H1[q]? = H[q]?) (hF : ∀ q, va_A ws H.size q → A0 q) (hD1 : va_D (va_A ws H.size) w1) : va_P D cl wr H1 ∧ va_D A0 (w1 ++ wr) := by
  have inl : ∀ (k : Nat) (q : Nat × va_E), ws[k]? = some q → (ws ++ wr)[k]? = some q := by
    intro k q hk
    rw [List.getElem?_append_left (List.getElem?_eq_some_iff.mp hk).1]
    exact hk
  have inr : ∀ (k : Nat) (q : Nat × va_E), wr[k]? = some q → (ws ++ wr)[ws.length + k]? = some q := by
    intro k q hk
    rw [List.getElem?_append_right (Nat.le_add_right _ _), Nat.add_sub_cancel_left]
    exact hk
  have ap : ∀ (k : Nat) (q : Nat × va_E), wr[k]? = some q → q.1 < H.size ∧ ¬ va_A ws H.size q.1 := by
    intro k q hq
    have hl := (hP k q hq).lt
    refine ⟨hl, fun h => ?_⟩
    rcases h with ⟨j, e, h⟩ | h
    · have := hD.1 _ _ (q.1, e) q (inl j _ h) (inr k q hq) rfl
      have hl := (List.getElem?_eq_some_iff.mp h).1
      omega
    · omega
  refine ⟨fun k q hq => (hP k q hq).kept (hk q.1 (ap k q hq).1 (ap k q hq).2), va_D.app (hD1.weaken (fun _ q _ h => hF q.1 h)) (xD_left (xD_swap hD)) (fun i j x y hx hy hxy => ?_)⟩
  exact (ap j y hy).2 (by rw [← hxy]; exact hD1.2 i x hx)
theorem x_free {A0 : Nat → Prop} {ws wr : va_W} {H0 H : Heap} {locs : List Loc} (hD : va_D A0 (ws ++ wr)) (hS : va_S A0 H0 H locs) (hA : ∀ q, H0.size ≤ q → A0 q) : ∀ q, va_A ws H.size q → A0 q := by
  intro q h
  rcases h with ⟨k, e, h⟩ | h
  · exact (xD_left hD).2 k (q, e) h
  · exact hA q (Nat.le_trans hS.1 h)
section XC
variable {p : Program} {l : Launch} {e : Env} {R : Room} {s : State} {m : MethodId} {args : Array Value} {below : List Frame} {meth : Method} {c : Code} {H : Heap} {locs : List Loc} {cells slots : Nat} {Q : State → Prop}
variable {cc : ByteArray} {pc : Nat} {ls : Array Slot} {st rest As : List Value} {D : va_G} {A0 : Nat → Prop} {a nL n idx : Nat} {tys : List (ClassId × FieldType)} {ws wr : va_W} {H0 : Heap} {own C : String}
variable {y : MethodName} {b : ByteArray} {L fr lo : Nat} {rt_ : Option FieldType}
theorem xRO.ret {post : Int32 → Prop} {v : Int32} {av : List Value} {ty : FieldType} (hx : p.tables.exec = Jvm.exec) (hb : c.code = cc) (hr : meth.sig.returnType = some ty) (hn : narrow ty (.int v) = .int v) (hlocks : meth.locks = false) (hS : va_S (frX s) s.heap H locs) (hd : decode cc pc = .ok (.ireturn, 1)) (hp : post v) : W p l e R s m av.toArray below meth c H locs 0 0 (roQ below av s post) (F0 m pc ls [.int v]) :=
  W.zret (v := v) hx hb hr hn (fun t ht hW => ⟨⟨v, (), rfl, hp, trivial⟩, hS.F ht⟩) hS.2.2 hd
theorem xRW.ret {S : Type} {post : Int32 → S → Prop} {w1 : S → va_W} {v : Int32} {av : List Value} {ty : FieldType} (hx : p.tables.exec = Jvm.exec) (hb : c.code = cc) (hr : meth.sig.returnType = some ty) (hn : narrow ty (.int v) = .int v) (hlocks : meth.locks = false) (hS : va_S (va_A ws s.heap.size) s.heap H locs) (hd : decode cc pc = .ok (.ireturn, 1)) (u : S) (hp : post v u) (hP : va_P D clX (w1 u) H) (hD : va_D (va_A ws s.heap.size) (w1 u)) : W p l e R s m av.toArray below meth c H locs 0 0 (MQ below (va_Qi post (fun u t => va_P D clX (w1 u) t.heap ∧ va_D (va_A ws s.heap.size) (w1 u)) (va_A ws s.heap.size)) av.toArray s 0 0 (va_A ws s.heap.size)) (F0 m pc ls [.int v]) :=
  W.zret (v := v) hx hb hr hn (fun t ht hW => ⟨⟨v, u, rfl, hp, by rw [ht]; exact hP, hD⟩, hS.F ht⟩) hS.2.2 hd
theorem xRV.ret {S : Type} {post : S → Prop} {w1 : S → va_W} {av : List Value} (hx : p.tables.exec = Jvm.exec) (hb : c.code = cc) (hr : meth.sig.returnType = none) (hlocks : meth.locks = false) (hS : va_S (va_A ws s.heap.size) s.heap H locs) (hd : decode cc pc = .ok (.return_, 1)) (u : S) (hp : post u) (hP : va_P D clX (w1 u) H) (hD : va_D (va_A ws s.heap.size) (w1 u)) : W p l e R s m av.toArray below meth c H locs 0 0 (MQ below (va_Qv post (fun u t => va_P D clX (w1 u) t.heap ∧ va_D (va_A ws s.heap.size) (w1 u)) (va_A ws s.heap.size)) av.toArray s 0 0 (va_A ws s.heap.size)) (F0 m pc ls []) :=
  W.vret hx hb hr (fun t ht hW => ⟨⟨u, rfl, hp, by rw [ht]; exact hP, hD⟩, hS.F ht⟩) hS.2.2 hd
/-- what the caller of an object's method shows of the object: its class -/
abbrev xRc (s : State) (H : Heap) (C : String) (a : Nat) : Prop := ∃ cell : Cell, H[a]? = some cell ∧ cell.vm.isStatics = false ∧ s.vm.findClass C = some cell.cls
theorem xRO.call {post : Int32 → Prop} (hM : xRO l y b L rt_ fr lo D tys ws (.ref a :: As) post) (S : CallFix p m c cc nL s args lw_all own) (cw : CallW R s args own C idx y b L rt_ (ws_ y b L rt_) (rmX fr lo) 0 0 n) (hK : va_K D clX tys s) (hP : va_P D clX ws H) (hc : xRc s H C a) (hS : va_S A0 H0 H locs) (hA : ∀ q, H0.size ≤ q → A0 q) (hl : ls.size = nL) (hn : As.length = n) (hst : st = As.reverse ++ .ref a :: rest) (hroom : (rest.map fun v => v.category).sum ≤ 8) (hcs : cells ≤ R.cells ∧ slots ≤ R.slots) (hd : decode cc pc = .ok (.invokevirtual idx, 3))
    (kk : ∀ (r : Int32) (H1 : Heap) (locs1 : List Loc), post r → (∀ w : va_W, va_P D clX w H → va_P D clX w H1) → va_S A0 H0 H1 locs1 → W p l e R s m args below meth c H1 locs1 cells slots Q (F0 m (pc + 3) ls (.int r :: rest))) : W p l e R s m args below meth c H locs cells slots Q (F0 m pc ls st) := by
  refine va_calli (va_runV (As := As) (rest := rest) S (hM H.size) cw ⟨fun a U g mk q => by obtain ⟨q0, q1, qP, qK⟩ := q; exact ⟨q0, q1, qP, va_K.moved (u := U) (U := U.calling g mk a) (Vm.Alike.refl U.vm) qK⟩, hc, fun U hU hW => ⟨rfl, by rw [hU], by rw [hU]; exact hP, va_K.moved hW.alike hK⟩⟩ rfl hn hl hst (lv_room hroom) hd hcs) hS (fun q h1 h2 => absurd h2 (Nat.not_le.mpr h1)) (fun q h => hA q (Nat.le_trans hS.1 h)) (fun r u t H1 locs1 ht hvm hw hB hz hk hS => ?_)
  exact kk r H1 locs1 hw (fun w hw => hw.kept (fun k q hq => hk q.1 (hw k q hq).lt (Nat.not_le.mpr (hw k q hq).lt))) hS
theorem xRO.callS {post : Int32 → Prop} (hM : xRO l y b L rt_ fr lo D tys ws As post) (S : CallFix p m c cc nL s args lw_all own) (cw : CallB R s args own idx y b L rt_ (ws_ y b L rt_) (rmX fr lo) 0 0 n ∧ (Cond.static y).before args s = true) (hK : va_K D clX tys s) (hP : va_P D clX ws H) (hS : va_S A0 H0 H locs) (hA : ∀ q, H0.size ≤ q → A0 q) (hl : ls.size = nL) (hn : As.length = n) (hst : st = As.reverse ++ rest) (hroom : (rest.map fun v => v.category).sum ≤ 8) (hcs : cells ≤ R.cells ∧ slots ≤ R.slots) (hd : decode cc pc = .ok (.invokestatic idx, 3))
    (kk : ∀ (r : Int32) (H1 : Heap) (locs1 : List Loc), post r → (∀ w : va_W, va_P D clX w H → va_P D clX w H1) → va_S A0 H0 H1 locs1 → W p l e R s m args below meth c H1 locs1 cells slots Q (F0 m (pc + 3) ls (.int r :: rest))) : W p l e R s m args below meth c H locs cells slots Q (F0 m pc ls st) := by
  refine va_calli (va_runS (As := As) (rest := rest) S (hM H.size) cw ⟨fun a U g mk q => by obtain ⟨q0, q1, qP, qK⟩ := q; exact ⟨q0, q1, qP, va_K.moved (u := U) (U := U.calling g mk a) (Vm.Alike.refl U.vm) qK⟩, fun U hU hW => ⟨rfl, by rw [hU], by rw [hU]; exact hP, va_K.moved hW.alike hK⟩⟩ rfl hn hl hst (lv_room hroom) hd hcs) hS (fun q h1 h2 => absurd h2 (Nat.not_le.mpr h1)) (fun q h => hA q (Nat.le_trans hS.1 h)) (fun r u t H1 locs1 ht hvm hw hB hz hk hS => ?_)
  exact kk r H1 locs1 hw (fun w hw => hw.kept (fun k q hq => hk q.1 (hw k q hq).lt (Nat.not_le.mpr (hw k q hq).lt))) hS
theorem xRW.call {S' : Type} {post : Int32 → S' → Prop} {w1 : S' → va_W} (wr : va_W) (hM : xRW S' l y b L rt_ fr lo D tys ws (.ref a :: As) post w1) (S : CallFix p m c cc nL s args lw_all own) (cw : CallW R s args own C idx y b L rt_ (ws_ y b L rt_) (rmX fr lo) 0 0 n) (hK : va_K D clX tys s) (hP : va_P D clX ws H) (hPr : va_P D clX wr H) (hD : va_D A0 (ws ++ wr)) (hc : xRc s H C a) (hS : va_S A0 H0 H locs) (hA : ∀ q, H0.size ≤ q → A0 q) (hl : ls.size = nL) (hn : As.length = n) (hst : st = As.reverse ++ .ref a :: rest) (hroom : (rest.map fun v => v.category).sum ≤ 8) (hcs : cells ≤ R.cells ∧ slots ≤ R.slots) (hd : decode cc pc = .ok (.invokevirtual idx, 3))
    (kk : ∀ (r : Int32) (u : S') (H1 : Heap) (locs1 : List Loc), post r u → va_P D clX (w1 u) H1 → va_P D clX wr H1 → va_D A0 (w1 u ++ wr) → va_S A0 H0 H1 locs1 → W p l e R s m args below meth c H1 locs1 cells slots Q (F0 m (pc + 3) ls (.int r :: rest))) : W p l e R s m args below meth c H locs cells slots Q (F0 m pc ls st) := by
  have hF := x_free hD hS hA
  refine va_calli (va_runV (As := As) (rest := rest) S (hM H.size) cw ⟨fun a U g mk q => by obtain ⟨q0, q1, qP, qK, qD⟩ := q; exact ⟨q0, q1, qP, va_K.moved (u := U) (U := U.calling g mk a) (Vm.Alike.refl U.vm) qK, qD⟩, hc, fun U hU hW => ⟨rfl, by rw [hU], by rw [hU]; exact hP, va_K.moved hW.alike hK, (xD_left hD).weaken (fun _ _ _ _ => trivial)⟩⟩ rfl hn hl hst (lv_room hroom) hd hcs) hS (fun q _ h => hF q h) hF (fun r u t H1 locs1 ht hvm hw hB hz hk hS => ?_)
  obtain ⟨hP1, hD1⟩ := hB
  rw [ht] at hP1
  obtain ⟨hPr1, hD2⟩ := x_frame hPr hD hk hF hD1
  exact kk r u H1 locs1 hw hP1 hPr1 hD2 hS
theorem xRV.call {S' : Type} {post : S' → Prop} {w1 : S' → va_W} (wr : va_W) (hM : xRV S' l y b L fr lo D tys ws (.ref a :: As) post w1) (S : CallFix p m c cc nL s args lw_all own) (cw : CallW R s args own C idx y b L none (ws_ y b L none) (rmX fr lo) 0 0 n) (hK : va_K D clX tys s) (hP : va_P D clX ws H) (hPr : va_P D clX wr H) (hD : va_D A0 (ws ++ wr)) (hc : xRc s H C a) (hS : va_S A0 H0 H locs) (hA : ∀ q, H0.size ≤ q → A0 q) (hl : ls.size = nL) (hn : As.length = n) (hst : st = As.reverse ++ .ref a :: rest) (hroom : (rest.map fun v => v.category).sum ≤ 8) (hcs : cells ≤ R.cells ∧ slots ≤ R.slots) (hd : decode cc pc = .ok (.invokevirtual idx, 3))
    (kk : ∀ (u : S') (H1 : Heap) (locs1 : List Loc), post u → va_P D clX (w1 u) H1 → va_P D clX wr H1 → va_D A0 (w1 u ++ wr) → va_S A0 H0 H1 locs1 → W p l e R s m args below meth c H1 locs1 cells slots Q (F0 m (pc + 3) ls rest)) : W p l e R s m args below meth c H locs cells slots Q (F0 m pc ls st) := by
  have hF := x_free hD hS hA
  refine va_callv (va_runV (As := As) (rest := rest) S (hM H.size) cw ⟨fun a U g mk q => by obtain ⟨q0, q1, qP, qK, qD⟩ := q; exact ⟨q0, q1, qP, va_K.moved (u := U) (U := U.calling g mk a) (Vm.Alike.refl U.vm) qK, qD⟩, hc, fun U hU hW => ⟨rfl, by rw [hU], by rw [hU]; exact hP, va_K.moved hW.alike hK, (xD_left hD).weaken (fun _ _ _ _ => trivial)⟩⟩ rfl hn hl hst (lv_room hroom) hd hcs) hS (fun q _ h => hF q h) hF (fun u t H1 locs1 ht hvm hw hB hz hk hS => ?_)
  obtain ⟨hP1, hD1⟩ := hB
  rw [ht] at hP1
  obtain ⟨hPr1, hD2⟩ := x_frame hPr hD hk hF hD1
  exact kk u H1 locs1 hw hP1 hPr1 hD2 hS
end XC
end
section
/-! the worlds: xw of ConceptLattice, yw of ConceptLatticeModel; rows of their fields and arrays -/
set_option maxRecDepth 100000
abbrev xw (h : Nat → Nat) (d : ClassId) (n m kc kp ku : Nat) (R C cs ps pe lv : Nat → Nat) : va_W := [(h 0, .inr (0, [.ref (h 1), .ref (h 2), .ref (h 3), .ref (h 4), .ref (h 5), .ref (h 6), .int (nI n), .int (nI m), .int (nI kc), .int (nI kp), .int (nI ku)])), (h 1, .inl (d, 8, .inl (nf R))), (h 2, .inl (d, 7, .inl (nf C))), (h 3, .inl (d, 128, .inl (nf cs))), (h 4, .inl (d, 128, .inl (nf ps))), (h 5, .inl (d, 128, .inl (nf pe))), (h 6, .inl (d, 128, .inl (nf lv)))]
abbrev yw (h : Nat → Nat) (d z : ClassId) (n m : Nat) (R : Nat → Nat) (cb pb : Nat → Bool) (cl ch : Nat → Nat) : va_W := [(h 0, .inr (1, [.int (nI n), .int (nI m), .int (nI (2 ^ m - 1)), .ref (h 1), .ref (h 2), .ref (h 3), .ref (h 4), .ref (h 5)])), (h 1, .inl (d, 8, .inl (nf R))), (h 2, .inl (z, 128, .inl (bf cb))), (h 3, .inl (z, 128, .inl (bf pb))), (h 4, .inl (d, 128, .inl (nf cl))), (h 5, .inl (d, 128, .inl (nf ch)))]
section XW
variable {p : Program} {l : Launch} {e : Env} {rm : Room} {s : State} {mi : MethodId} {args : Array Value} {below : List Frame} {meth : Method} {c : Code} {H : Heap} {locs : List Loc} {cells slots : Nat} {Q : State → Prop}
variable {cc : ByteArray} {pc : Nat} {ls : Array Slot} {rest : List Value} {D : va_G} {A : Nat → Prop} {d z : ClassId} {H0 : Heap}
variable {h : Nat → Nat} {n m kc kp ku : Nat} {R C cs ps pe lv : Nat → Nat} {cb pb : Nat → Bool} {cl ch : Nat → Nat}
theorem xg_rows (hx : p.tables.exec = Jvm.exec) (hb : c.code = cc) (hts : ∀ w ∈ lw_all, w.before args s = true) (hown : s.vm.findClass RX1 = some mi.cls) (hK : va_K D clX (tyX d z) s) (hP : va_P D clX (xw h d n m kc kp ku R C cs ps pe lv) H) (hd : decode cc pc = .ok (.getfield 7, 3)) (kk : W p l e rm s mi args below meth c H locs cells slots Q (F0 mi (pc + 3) ls (.ref (h 1) :: rest))) : W p l e rm s mi args below meth c H locs cells slots Q (F0 mi pc ls (.ref (h 0) :: rest)) :=
  va_get (D := D) (ci := 0) (v := .ref (h 1)) (C := RX1) (T := TX1) (N := 11) hx hb hts in_X1 hown hK hP 0 rfl rfl 0 (by decide) (hts _ q37) (fun _ h9 => h9) rfl hd kk
theorem xg_columns (hx : p.tables.exec = Jvm.exec) (hb : c.code = cc) (hts : ∀ w ∈ lw_all, w.before args s = true) (hown : s.vm.findClass RX1 = some mi.cls) (hK : va_K D clX (tyX d z) s) (hP : va_P D clX (xw h d n m kc kp ku R C cs ps pe lv) H) (hd : decode cc pc = .ok (.getfield 13, 3)) (kk : W p l e rm s mi args below meth c H locs cells slots Q (F0 mi (pc + 3) ls (.ref (h 2) :: rest))) : W p l e rm s mi args below meth c H locs cells slots Q (F0 mi pc ls (.ref (h 0) :: rest)) :=
  va_get (D := D) (ci := 0) (v := .ref (h 2)) (C := RX1) (T := TX1) (N := 11) hx hb hts in_X1 hown hK hP 0 rfl rfl 1 (by decide) (hts _ q38) (fun _ h9 => h9) rfl hd kk
theorem xg_closed (hx : p.tables.exec = Jvm.exec) (hb : c.code = cc) (hts : ∀ w ∈ lw_all, w.before args s = true) (hown : s.vm.findClass RX1 = some mi.cls) (hK : va_K D clX (tyX d z) s) (hP : va_P D clX (xw h d n m kc kp ku R C cs ps pe lv) H) (hd : decode cc pc = .ok (.getfield 16, 3)) (kk : W p l e rm s mi args below meth c H locs cells slots Q (F0 mi (pc + 3) ls (.ref (h 3) :: rest))) : W p l e rm s mi args below meth c H locs cells slots Q (F0 mi pc ls (.ref (h 0) :: rest)) :=
  va_get (D := D) (ci := 0) (v := .ref (h 3)) (C := RX1) (T := TX1) (N := 11) hx hb hts in_X1 hown hK hP 0 rfl rfl 2 (by decide) (hts _ q39) (fun _ h9 => h9) rfl hd kk
theorem xg_pseudo (hx : p.tables.exec = Jvm.exec) (hb : c.code = cc) (hts : ∀ w ∈ lw_all, w.before args s = true) (hown : s.vm.findClass RX1 = some mi.cls) (hK : va_K D clX (tyX d z) s) (hP : va_P D clX (xw h d n m kc kp ku R C cs ps pe lv) H) (hd : decode cc pc = .ok (.getfield 19, 3)) (kk : W p l e rm s mi args below meth c H locs cells slots Q (F0 mi (pc + 3) ls (.ref (h 4) :: rest))) : W p l e rm s mi args below meth c H locs cells slots Q (F0 mi pc ls (.ref (h 0) :: rest)) :=
  va_get (D := D) (ci := 0) (v := .ref (h 4)) (C := RX1) (T := TX1) (N := 11) hx hb hts in_X1 hown hK hP 0 rfl rfl 3 (by decide) (hts _ q40) (fun _ h9 => h9) rfl hd kk
theorem xg_pseudoEnd (hx : p.tables.exec = Jvm.exec) (hb : c.code = cc) (hts : ∀ w ∈ lw_all, w.before args s = true) (hown : s.vm.findClass RX1 = some mi.cls) (hK : va_K D clX (tyX d z) s) (hP : va_P D clX (xw h d n m kc kp ku R C cs ps pe lv) H) (hd : decode cc pc = .ok (.getfield 22, 3)) (kk : W p l e rm s mi args below meth c H locs cells slots Q (F0 mi (pc + 3) ls (.ref (h 5) :: rest))) : W p l e rm s mi args below meth c H locs cells slots Q (F0 mi pc ls (.ref (h 0) :: rest)) :=
  va_get (D := D) (ci := 0) (v := .ref (h 5)) (C := RX1) (T := TX1) (N := 11) hx hb hts in_X1 hown hK hP 0 rfl rfl 4 (by decide) (hts _ q41) (fun _ h9 => h9) rfl hd kk
theorem xg_level (hx : p.tables.exec = Jvm.exec) (hb : c.code = cc) (hts : ∀ w ∈ lw_all, w.before args s = true) (hown : s.vm.findClass RX1 = some mi.cls) (hK : va_K D clX (tyX d z) s) (hP : va_P D clX (xw h d n m kc kp ku R C cs ps pe lv) H) (hd : decode cc pc = .ok (.getfield 25, 3)) (kk : W p l e rm s mi args below meth c H locs cells slots Q (F0 mi (pc + 3) ls (.ref (h 6) :: rest))) : W p l e rm s mi args below meth c H locs cells slots Q (F0 mi pc ls (.ref (h 0) :: rest)) :=
  va_get (D := D) (ci := 0) (v := .ref (h 6)) (C := RX1) (T := TX1) (N := 11) hx hb hts in_X1 hown hK hP 0 rfl rfl 5 (by decide) (hts _ q42) (fun _ h9 => h9) rfl hd kk
theorem xg_n (hx : p.tables.exec = Jvm.exec) (hb : c.code = cc) (hts : ∀ w ∈ lw_all, w.before args s = true) (hown : s.vm.findClass RX1 = some mi.cls) (hK : va_K D clX (tyX d z) s) (hP : va_P D clX (xw h d n m kc kp ku R C cs ps pe lv) H) (hd : decode cc pc = .ok (.getfield 28, 3)) (kk : W p l e rm s mi args below meth c H locs cells slots Q (F0 mi (pc + 3) ls (.int (nI n) :: rest))) : W p l e rm s mi args below meth c H locs cells slots Q (F0 mi pc ls (.ref (h 0) :: rest)) :=
  va_get (D := D) (ci := 0) (v := .int (nI n)) (C := RX1) (T := TX1) (N := 11) hx hb hts in_X1 hown hK hP 0 rfl rfl 6 (by decide) (hts _ q43) (fun _ h9 => h9) rfl hd kk
theorem xg_m (hx : p.tables.exec = Jvm.exec) (hb : c.code = cc) (hts : ∀ w ∈ lw_all, w.before args s = true) (hown : s.vm.findClass RX1 = some mi.cls) (hK : va_K D clX (tyX d z) s) (hP : va_P D clX (xw h d n m kc kp ku R C cs ps pe lv) H) (hd : decode cc pc = .ok (.getfield 32, 3)) (kk : W p l e rm s mi args below meth c H locs cells slots Q (F0 mi (pc + 3) ls (.int (nI m) :: rest))) : W p l e rm s mi args below meth c H locs cells slots Q (F0 mi pc ls (.ref (h 0) :: rest)) :=
  va_get (D := D) (ci := 0) (v := .int (nI m)) (C := RX1) (T := TX1) (N := 11) hx hb hts in_X1 hown hK hP 0 rfl rfl 7 (by decide) (hts _ q44) (fun _ h9 => h9) rfl hd kk
theorem xg_closedCount (hx : p.tables.exec = Jvm.exec) (hb : c.code = cc) (hts : ∀ w ∈ lw_all, w.before args s = true) (hown : s.vm.findClass RX1 = some mi.cls) (hK : va_K D clX (tyX d z) s) (hP : va_P D clX (xw h d n m kc kp ku R C cs ps pe lv) H) (hd : decode cc pc = .ok (.getfield 61, 3)) (kk : W p l e rm s mi args below meth c H locs cells slots Q (F0 mi (pc + 3) ls (.int (nI kc) :: rest))) : W p l e rm s mi args below meth c H locs cells slots Q (F0 mi pc ls (.ref (h 0) :: rest)) :=
  va_get (D := D) (ci := 0) (v := .int (nI kc)) (C := RX1) (T := TX1) (N := 11) hx hb hts in_X1 hown hK hP 0 rfl rfl 8 (by decide) (hts _ q45) (fun _ h9 => h9) rfl hd kk
theorem xg_pseudoCount (hx : p.tables.exec = Jvm.exec) (hb : c.code = cc) (hts : ∀ w ∈ lw_all, w.before args s = true) (hown : s.vm.findClass RX1 = some mi.cls) (hK : va_K D clX (tyX d z) s) (hP : va_P D clX (xw h d n m kc kp ku R C cs ps pe lv) H) (hd : decode cc pc = .ok (.getfield 67, 3)) (kk : W p l e rm s mi args below meth c H locs cells slots Q (F0 mi (pc + 3) ls (.int (nI kp) :: rest))) : W p l e rm s mi args below meth c H locs cells slots Q (F0 mi pc ls (.ref (h 0) :: rest)) :=
  va_get (D := D) (ci := 0) (v := .int (nI kp)) (C := RX1) (T := TX1) (N := 11) hx hb hts in_X1 hown hK hP 0 rfl rfl 9 (by decide) (hts _ q46) (fun _ h9 => h9) rfl hd kk
theorem xg_current (hx : p.tables.exec = Jvm.exec) (hb : c.code = cc) (hts : ∀ w ∈ lw_all, w.before args s = true) (hown : s.vm.findClass RX1 = some mi.cls) (hK : va_K D clX (tyX d z) s) (hP : va_P D clX (xw h d n m kc kp ku R C cs ps pe lv) H) (hd : decode cc pc = .ok (.getfield 76, 3)) (kk : W p l e rm s mi args below meth c H locs cells slots Q (F0 mi (pc + 3) ls (.int (nI ku) :: rest))) : W p l e rm s mi args below meth c H locs cells slots Q (F0 mi pc ls (.ref (h 0) :: rest)) :=
  va_get (D := D) (ci := 0) (v := .int (nI ku)) (C := RX1) (T := TX1) (N := 11) hx hb hts in_X1 hown hK hP 0 rfl rfl 10 (by decide) (hts _ q47) (fun _ h9 => h9) rfl hd kk
theorem yg_n (hx : p.tables.exec = Jvm.exec) (hb : c.code = cc) (hts : ∀ w ∈ lw_all, w.before args s = true) (hown : s.vm.findClass RX2 = some mi.cls) (hK : va_K D clX (tyX d z) s) (hP : va_P D clX (yw h d z n m R cb pb cl ch) H) (hd : decode cc pc = .ok (.getfield 26, 3)) (kk : W p l e rm s mi args below meth c H locs cells slots Q (F0 mi (pc + 3) ls (.int (nI n) :: rest))) : W p l e rm s mi args below meth c H locs cells slots Q (F0 mi pc ls (.ref (h 0) :: rest)) :=
  va_get (D := D) (ci := 1) (v := .int (nI n)) (C := RX2) (T := TX2) (N := 8) hx hb hts in_X2 hown hK hP 0 rfl rfl 0 (by decide) (hts _ q212) (fun _ h9 => h9) rfl hd kk
theorem yg_m (hx : p.tables.exec = Jvm.exec) (hb : c.code = cc) (hts : ∀ w ∈ lw_all, w.before args s = true) (hown : s.vm.findClass RX2 = some mi.cls) (hK : va_K D clX (tyX d z) s) (hP : va_P D clX (yw h d z n m R cb pb cl ch) H) (hd : decode cc pc = .ok (.getfield 30, 3)) (kk : W p l e rm s mi args below meth c H locs cells slots Q (F0 mi (pc + 3) ls (.int (nI m) :: rest))) : W p l e rm s mi args below meth c H locs cells slots Q (F0 mi pc ls (.ref (h 0) :: rest)) :=
  va_get (D := D) (ci := 1) (v := .int (nI m)) (C := RX2) (T := TX2) (N := 8) hx hb hts in_X2 hown hK hP 0 rfl rfl 1 (by decide) (hts _ q213) (fun _ h9 => h9) rfl hd kk
theorem yg_all (hx : p.tables.exec = Jvm.exec) (hb : c.code = cc) (hts : ∀ w ∈ lw_all, w.before args s = true) (hown : s.vm.findClass RX2 = some mi.cls) (hK : va_K D clX (tyX d z) s) (hP : va_P D clX (yw h d z n m R cb pb cl ch) H) (hd : decode cc pc = .ok (.getfield 33, 3)) (kk : W p l e rm s mi args below meth c H locs cells slots Q (F0 mi (pc + 3) ls (.int (nI (2 ^ m - 1)) :: rest))) : W p l e rm s mi args below meth c H locs cells slots Q (F0 mi pc ls (.ref (h 0) :: rest)) :=
  va_get (D := D) (ci := 1) (v := .int (nI (2 ^ m - 1))) (C := RX2) (T := TX2) (N := 8) hx hb hts in_X2 hown hK hP 0 rfl rfl 2 (by decide) (hts _ q214) (fun _ h9 => h9) rfl hd kk
theorem yg_rows (hx : p.tables.exec = Jvm.exec) (hb : c.code = cc) (hts : ∀ w ∈ lw_all, w.before args s = true) (hown : s.vm.findClass RX2 = some mi.cls) (hK : va_K D clX (tyX d z) s) (hP : va_P D clX (yw h d z n m R cb pb cl ch) H) (hd : decode cc pc = .ok (.getfield 7, 3)) (kk : W p l e rm s mi args below meth c H locs cells slots Q (F0 mi (pc + 3) ls (.ref (h 1) :: rest))) : W p l e rm s mi args below meth c H locs cells slots Q (F0 mi pc ls (.ref (h 0) :: rest)) :=
  va_get (D := D) (ci := 1) (v := .ref (h 1)) (C := RX2) (T := TX2) (N := 8) hx hb hts in_X2 hown hK hP 0 rfl rfl 3 (by decide) (hts _ q215) (fun _ h9 => h9) rfl hd kk
theorem yg_closed (hx : p.tables.exec = Jvm.exec) (hb : c.code = cc) (hts : ∀ w ∈ lw_all, w.before args s = true) (hown : s.vm.findClass RX2 = some mi.cls) (hK : va_K D clX (tyX d z) s) (hP : va_P D clX (yw h d z n m R cb pb cl ch) H) (hd : decode cc pc = .ok (.getfield 13, 3)) (kk : W p l e rm s mi args below meth c H locs cells slots Q (F0 mi (pc + 3) ls (.ref (h 2) :: rest))) : W p l e rm s mi args below meth c H locs cells slots Q (F0 mi pc ls (.ref (h 0) :: rest)) :=
  va_get (D := D) (ci := 1) (v := .ref (h 2)) (C := RX2) (T := TX2) (N := 8) hx hb hts in_X2 hown hK hP 0 rfl rfl 4 (by decide) (hts _ q216) (fun _ h9 => h9) rfl hd kk
theorem yg_pseudo (hx : p.tables.exec = Jvm.exec) (hb : c.code = cc) (hts : ∀ w ∈ lw_all, w.before args s = true) (hown : s.vm.findClass RX2 = some mi.cls) (hK : va_K D clX (tyX d z) s) (hP : va_P D clX (yw h d z n m R cb pb cl ch) H) (hd : decode cc pc = .ok (.getfield 17, 3)) (kk : W p l e rm s mi args below meth c H locs cells slots Q (F0 mi (pc + 3) ls (.ref (h 3) :: rest))) : W p l e rm s mi args below meth c H locs cells slots Q (F0 mi pc ls (.ref (h 0) :: rest)) :=
  va_get (D := D) (ci := 1) (v := .ref (h 3)) (C := RX2) (T := TX2) (N := 8) hx hb hts in_X2 hown hK hP 0 rfl rfl 5 (by decide) (hts _ q217) (fun _ h9 => h9) rfl hd kk
theorem yg_closures (hx : p.tables.exec = Jvm.exec) (hb : c.code = cc) (hts : ∀ w ∈ lw_all, w.before args s = true) (hown : s.vm.findClass RX2 = some mi.cls) (hK : va_K D clX (tyX d z) s) (hP : va_P D clX (yw h d z n m R cb pb cl ch) H) (hd : decode cc pc = .ok (.getfield 20, 3)) (kk : W p l e rm s mi args below meth c H locs cells slots Q (F0 mi (pc + 3) ls (.ref (h 4) :: rest))) : W p l e rm s mi args below meth c H locs cells slots Q (F0 mi pc ls (.ref (h 0) :: rest)) :=
  va_get (D := D) (ci := 1) (v := .ref (h 4)) (C := RX2) (T := TX2) (N := 8) hx hb hts in_X2 hown hK hP 0 rfl rfl 6 (by decide) (hts _ q218) (fun _ h9 => h9) rfl hd kk
theorem yg_chain (hx : p.tables.exec = Jvm.exec) (hb : c.code = cc) (hts : ∀ w ∈ lw_all, w.before args s = true) (hown : s.vm.findClass RX2 = some mi.cls) (hK : va_K D clX (tyX d z) s) (hP : va_P D clX (yw h d z n m R cb pb cl ch) H) (hd : decode cc pc = .ok (.getfield 23, 3)) (kk : W p l e rm s mi args below meth c H locs cells slots Q (F0 mi (pc + 3) ls (.ref (h 5) :: rest))) : W p l e rm s mi args below meth c H locs cells slots Q (F0 mi pc ls (.ref (h 0) :: rest)) :=
  va_get (D := D) (ci := 1) (v := .ref (h 5)) (C := RX2) (T := TX2) (N := 8) hx hb hts in_X2 hown hK hP 0 rfl rfl 7 (by decide) (hts _ q219) (fun _ h9 => h9) rfl hd kk
theorem xp_closedCount (hx : p.tables.exec = Jvm.exec) (hb : c.code = cc) (hts : ∀ w ∈ lw_all, w.before args s = true) (hown : s.vm.findClass RX1 = some mi.cls) (hK : va_K D clX (tyX d z) s) (hP : va_P D clX (xw h d n m kc kp ku R C cs ps pe lv) H) (hD : va_D A (xw h d n m kc kp ku R C cs ps pe lv)) (hS : va_S A H0 H locs) {v : Nat} (hd : decode cc pc = .ok (.putfield 61, 3)) (kk : ∀ (H1 : Heap) (locs1 : List Loc), va_P D clX (xw h d n m v kp ku R C cs ps pe lv) H1 → va_D A (xw h d n m v kp ku R C cs ps pe lv) → va_S A H0 H1 locs1 → W p l e rm s mi args below meth c H1 locs1 cells slots Q (F0 mi (pc + 3) ls rest)) : W p l e rm s mi args below meth c H locs cells slots Q (F0 mi pc ls (.int (nI v) :: .ref (h 0) :: rest)) :=
  va_put (D := D) (ci := 0) (v := .int (nI v)) (ty := .int) (C := RX1) (T := TX1) (N := 11) hx hb hts in_X1 tyX1 tyX1_ok nmX1 hown hK hP hD hS 0 rfl rfl 8 (by decide) (hts _ q45) (fun _ h9 => h9) rfl (by decide +kernel) rfl rfl (Nat.le_of_ble_eq_true rfl) hd kk
theorem xp_pseudoCount (hx : p.tables.exec = Jvm.exec) (hb : c.code = cc) (hts : ∀ w ∈ lw_all, w.before args s = true) (hown : s.vm.findClass RX1 = some mi.cls) (hK : va_K D clX (tyX d z) s) (hP : va_P D clX (xw h d n m kc kp ku R C cs ps pe lv) H) (hD : va_D A (xw h d n m kc kp ku R C cs ps pe lv)) (hS : va_S A H0 H locs) {v : Nat} (hd : decode cc pc = .ok (.putfield 67, 3)) (kk : ∀ (H1 : Heap) (locs1 : List Loc), va_P D clX (xw h d n m kc v ku R C cs ps pe lv) H1 → va_D A (xw h d n m kc v ku R C cs ps pe lv) → va_S A H0 H1 locs1 → W p l e rm s mi args below meth c H1 locs1 cells slots Q (F0 mi (pc + 3) ls rest)) : W p l e rm s mi args below meth c H locs cells slots Q (F0 mi pc ls (.int (nI v) :: .ref (h 0) :: rest)) :=
  va_put (D := D) (ci := 0) (v := .int (nI v)) (ty := .int) (C := RX1) (T := TX1) (N := 11) hx hb hts in_X1 tyX1 tyX1_ok nmX1 hown hK hP hD hS 0 rfl rfl 9 (by decide) (hts _ q46) (fun _ h9 => h9) rfl (by decide +kernel) rfl rfl (Nat.le_of_ble_eq_true rfl) hd kk
theorem xp_current (hx : p.tables.exec = Jvm.exec) (hb : c.code = cc) (hts : ∀ w ∈ lw_all, w.before args s = true) (hown : s.vm.findClass RX1 = some mi.cls) (hK : va_K D clX (tyX d z) s) (hP : va_P D clX (xw h d n m kc kp ku R C cs ps pe lv) H) (hD : va_D A (xw h d n m kc kp ku R C cs ps pe lv)) (hS : va_S A H0 H locs) {v : Nat} (hv : narrow .boolean (.int (nI v)) = .int (nI v)) (hf : fits .boolean (.int (nI v)) = true) (hd : decode cc pc = .ok (.putfield 76, 3)) (kk : ∀ (H1 : Heap) (locs1 : List Loc), va_P D clX (xw h d n m kc kp v R C cs ps pe lv) H1 → va_D A (xw h d n m kc kp v R C cs ps pe lv) → va_S A H0 H1 locs1 → W p l e rm s mi args below meth c H1 locs1 cells slots Q (F0 mi (pc + 3) ls rest)) : W p l e rm s mi args below meth c H locs cells slots Q (F0 mi pc ls (.int (nI v) :: .ref (h 0) :: rest)) :=
  va_put (D := D) (ci := 0) (v := .int (nI v)) (ty := .boolean) (C := RX1) (T := TX1) (N := 11) hx hb hts in_X1 tyX1 tyX1_ok nmX1 hown hK hP hD hS 0 rfl rfl 10 (by decide) (hts _ q47) (fun _ h9 => h9) rfl (by decide +kernel) hv hf (Nat.le_of_ble_eq_true rfl) hd kk
theorem xl_rows (hx : p.tables.exec = Jvm.exec) (hb : c.code = cc) (hK : va_K D clX (tyX d z) s) (hP : va_P D clX (xw h d n m kc kp ku R C cs ps pe lv) H) {i : Nat} (hi : i < 8) (hd : decode cc pc = .ok (.iaload, 1)) (kk : W p l e rm s mi args below meth c H locs cells slots Q (F0 mi (pc + 1) ls (.int (nI (R i)) :: rest))) : W p l e rm s mi args below meth c H locs cells slots Q (F0 mi pc ls (.int (nI i) :: .ref (h 1) :: rest)) :=
  nv_iald (f := nf R) hx hb hK hP 1 0 rfl rfl hi (by decide) hd kk
theorem xs_rows (hx : p.tables.exec = Jvm.exec) (hb : c.code = cc) (hK : va_K D clX (tyX d z) s) (hP : va_P D clX (xw h d n m kc kp ku R C cs ps pe lv) H) (hD : va_D A (xw h d n m kc kp ku R C cs ps pe lv)) (hS : va_S A H0 H locs) {i : Nat} {v : Nat} (hi : i < 8) (hd : decode cc pc = .ok (.iastore, 1)) (kk : ∀ (H1 : Heap) (locs1 : List Loc), va_P D clX (xw h d n m kc kp ku (un R i v) C cs ps pe lv) H1 → va_D A (xw h d n m kc kp ku (un R i v) C cs ps pe lv) → va_S A H0 H1 locs1 → W p l e rm s mi args below meth c H1 locs1 cells slots Q (F0 mi (pc + 1) ls rest)) : W p l e rm s mi args below meth c H locs cells slots Q (F0 mi pc ls (.int (nI v) :: .int (nI i) :: .ref (h 1) :: rest)) :=
  nv_iast (f := R) hx hb hK hP hD hS 1 0 rfl rfl hi (by decide) hd kk
theorem xl_columns (hx : p.tables.exec = Jvm.exec) (hb : c.code = cc) (hK : va_K D clX (tyX d z) s) (hP : va_P D clX (xw h d n m kc kp ku R C cs ps pe lv) H) {i : Nat} (hi : i < 7) (hd : decode cc pc = .ok (.iaload, 1)) (kk : W p l e rm s mi args below meth c H locs cells slots Q (F0 mi (pc + 1) ls (.int (nI (C i)) :: rest))) : W p l e rm s mi args below meth c H locs cells slots Q (F0 mi pc ls (.int (nI i) :: .ref (h 2) :: rest)) :=
  nv_iald (f := nf C) hx hb hK hP 2 0 rfl rfl hi (by decide) hd kk
theorem xs_columns (hx : p.tables.exec = Jvm.exec) (hb : c.code = cc) (hK : va_K D clX (tyX d z) s) (hP : va_P D clX (xw h d n m kc kp ku R C cs ps pe lv) H) (hD : va_D A (xw h d n m kc kp ku R C cs ps pe lv)) (hS : va_S A H0 H locs) {i : Nat} {v : Nat} (hi : i < 7) (hd : decode cc pc = .ok (.iastore, 1)) (kk : ∀ (H1 : Heap) (locs1 : List Loc), va_P D clX (xw h d n m kc kp ku R (un C i v) cs ps pe lv) H1 → va_D A (xw h d n m kc kp ku R (un C i v) cs ps pe lv) → va_S A H0 H1 locs1 → W p l e rm s mi args below meth c H1 locs1 cells slots Q (F0 mi (pc + 1) ls rest)) : W p l e rm s mi args below meth c H locs cells slots Q (F0 mi pc ls (.int (nI v) :: .int (nI i) :: .ref (h 2) :: rest)) :=
  nv_iast (f := C) hx hb hK hP hD hS 2 0 rfl rfl hi (by decide) hd kk
theorem xl_closed (hx : p.tables.exec = Jvm.exec) (hb : c.code = cc) (hK : va_K D clX (tyX d z) s) (hP : va_P D clX (xw h d n m kc kp ku R C cs ps pe lv) H) {i : Nat} (hi : i < 128) (hd : decode cc pc = .ok (.iaload, 1)) (kk : W p l e rm s mi args below meth c H locs cells slots Q (F0 mi (pc + 1) ls (.int (nI (cs i)) :: rest))) : W p l e rm s mi args below meth c H locs cells slots Q (F0 mi pc ls (.int (nI i) :: .ref (h 3) :: rest)) :=
  nv_iald (f := nf cs) hx hb hK hP 3 0 rfl rfl hi (by decide) hd kk
theorem xs_closed (hx : p.tables.exec = Jvm.exec) (hb : c.code = cc) (hK : va_K D clX (tyX d z) s) (hP : va_P D clX (xw h d n m kc kp ku R C cs ps pe lv) H) (hD : va_D A (xw h d n m kc kp ku R C cs ps pe lv)) (hS : va_S A H0 H locs) {i : Nat} {v : Nat} (hi : i < 128) (hd : decode cc pc = .ok (.iastore, 1)) (kk : ∀ (H1 : Heap) (locs1 : List Loc), va_P D clX (xw h d n m kc kp ku R C (un cs i v) ps pe lv) H1 → va_D A (xw h d n m kc kp ku R C (un cs i v) ps pe lv) → va_S A H0 H1 locs1 → W p l e rm s mi args below meth c H1 locs1 cells slots Q (F0 mi (pc + 1) ls rest)) : W p l e rm s mi args below meth c H locs cells slots Q (F0 mi pc ls (.int (nI v) :: .int (nI i) :: .ref (h 3) :: rest)) :=
  nv_iast (f := cs) hx hb hK hP hD hS 3 0 rfl rfl hi (by decide) hd kk
theorem xl_pseudo (hx : p.tables.exec = Jvm.exec) (hb : c.code = cc) (hK : va_K D clX (tyX d z) s) (hP : va_P D clX (xw h d n m kc kp ku R C cs ps pe lv) H) {i : Nat} (hi : i < 128) (hd : decode cc pc = .ok (.iaload, 1)) (kk : W p l e rm s mi args below meth c H locs cells slots Q (F0 mi (pc + 1) ls (.int (nI (ps i)) :: rest))) : W p l e rm s mi args below meth c H locs cells slots Q (F0 mi pc ls (.int (nI i) :: .ref (h 4) :: rest)) :=
  nv_iald (f := nf ps) hx hb hK hP 4 0 rfl rfl hi (by decide) hd kk
theorem xs_pseudo (hx : p.tables.exec = Jvm.exec) (hb : c.code = cc) (hK : va_K D clX (tyX d z) s) (hP : va_P D clX (xw h d n m kc kp ku R C cs ps pe lv) H) (hD : va_D A (xw h d n m kc kp ku R C cs ps pe lv)) (hS : va_S A H0 H locs) {i : Nat} {v : Nat} (hi : i < 128) (hd : decode cc pc = .ok (.iastore, 1)) (kk : ∀ (H1 : Heap) (locs1 : List Loc), va_P D clX (xw h d n m kc kp ku R C cs (un ps i v) pe lv) H1 → va_D A (xw h d n m kc kp ku R C cs (un ps i v) pe lv) → va_S A H0 H1 locs1 → W p l e rm s mi args below meth c H1 locs1 cells slots Q (F0 mi (pc + 1) ls rest)) : W p l e rm s mi args below meth c H locs cells slots Q (F0 mi pc ls (.int (nI v) :: .int (nI i) :: .ref (h 4) :: rest)) :=
  nv_iast (f := ps) hx hb hK hP hD hS 4 0 rfl rfl hi (by decide) hd kk
theorem xl_pseudoEnd (hx : p.tables.exec = Jvm.exec) (hb : c.code = cc) (hK : va_K D clX (tyX d z) s) (hP : va_P D clX (xw h d n m kc kp ku R C cs ps pe lv) H) {i : Nat} (hi : i < 128) (hd : decode cc pc = .ok (.iaload, 1)) (kk : W p l e rm s mi args below meth c H locs cells slots Q (F0 mi (pc + 1) ls (.int (nI (pe i)) :: rest))) : W p l e rm s mi args below meth c H locs cells slots Q (F0 mi pc ls (.int (nI i) :: .ref (h 5) :: rest)) :=
  nv_iald (f := nf pe) hx hb hK hP 5 0 rfl rfl hi (by decide) hd kk
theorem xs_pseudoEnd (hx : p.tables.exec = Jvm.exec) (hb : c.code = cc) (hK : va_K D clX (tyX d z) s) (hP : va_P D clX (xw h d n m kc kp ku R C cs ps pe lv) H) (hD : va_D A (xw h d n m kc kp ku R C cs ps pe lv)) (hS : va_S A H0 H locs) {i : Nat} {v : Nat} (hi : i < 128) (hd : decode cc pc = .ok (.iastore, 1)) (kk : ∀ (H1 : Heap) (locs1 : List Loc), va_P D clX (xw h d n m kc kp ku R C cs ps (un pe i v) lv) H1 → va_D A (xw h d n m kc kp ku R C cs ps (un pe i v) lv) → va_S A H0 H1 locs1 → W p l e rm s mi args below meth c H1 locs1 cells slots Q (F0 mi (pc + 1) ls rest)) : W p l e rm s mi args below meth c H locs cells slots Q (F0 mi pc ls (.int (nI v) :: .int (nI i) :: .ref (h 5) :: rest)) :=
  nv_iast (f := pe) hx hb hK hP hD hS 5 0 rfl rfl hi (by decide) hd kk
theorem xl_level (hx : p.tables.exec = Jvm.exec) (hb : c.code = cc) (hK : va_K D clX (tyX d z) s) (hP : va_P D clX (xw h d n m kc kp ku R C cs ps pe lv) H) {i : Nat} (hi : i < 128) (hd : decode cc pc = .ok (.iaload, 1)) (kk : W p l e rm s mi args below meth c H locs cells slots Q (F0 mi (pc + 1) ls (.int (nI (lv i)) :: rest))) : W p l e rm s mi args below meth c H locs cells slots Q (F0 mi pc ls (.int (nI i) :: .ref (h 6) :: rest)) :=
  nv_iald (f := nf lv) hx hb hK hP 6 0 rfl rfl hi (by decide) hd kk
theorem xs_level (hx : p.tables.exec = Jvm.exec) (hb : c.code = cc) (hK : va_K D clX (tyX d z) s) (hP : va_P D clX (xw h d n m kc kp ku R C cs ps pe lv) H) (hD : va_D A (xw h d n m kc kp ku R C cs ps pe lv)) (hS : va_S A H0 H locs) {i : Nat} {v : Nat} (hi : i < 128) (hd : decode cc pc = .ok (.iastore, 1)) (kk : ∀ (H1 : Heap) (locs1 : List Loc), va_P D clX (xw h d n m kc kp ku R C cs ps pe (un lv i v)) H1 → va_D A (xw h d n m kc kp ku R C cs ps pe (un lv i v)) → va_S A H0 H1 locs1 → W p l e rm s mi args below meth c H1 locs1 cells slots Q (F0 mi (pc + 1) ls rest)) : W p l e rm s mi args below meth c H locs cells slots Q (F0 mi pc ls (.int (nI v) :: .int (nI i) :: .ref (h 6) :: rest)) :=
  nv_iast (f := lv) hx hb hK hP hD hS 6 0 rfl rfl hi (by decide) hd kk
theorem yl_rows (hx : p.tables.exec = Jvm.exec) (hb : c.code = cc) (hK : va_K D clX (tyX d z) s) (hP : va_P D clX (yw h d z n m R cb pb cl ch) H) {i : Nat} (hi : i < 8) (hd : decode cc pc = .ok (.iaload, 1)) (kk : W p l e rm s mi args below meth c H locs cells slots Q (F0 mi (pc + 1) ls (.int (nI (R i)) :: rest))) : W p l e rm s mi args below meth c H locs cells slots Q (F0 mi pc ls (.int (nI i) :: .ref (h 1) :: rest)) :=
  nv_iald (f := nf R) hx hb hK hP 1 0 rfl rfl hi (by decide) hd kk
theorem ys_rows (hx : p.tables.exec = Jvm.exec) (hb : c.code = cc) (hK : va_K D clX (tyX d z) s) (hP : va_P D clX (yw h d z n m R cb pb cl ch) H) (hD : va_D A (yw h d z n m R cb pb cl ch)) (hS : va_S A H0 H locs) {i : Nat} {v : Nat} (hi : i < 8) (hd : decode cc pc = .ok (.iastore, 1)) (kk : ∀ (H1 : Heap) (locs1 : List Loc), va_P D clX (yw h d z n m (un R i v) cb pb cl ch) H1 → va_D A (yw h d z n m (un R i v) cb pb cl ch) → va_S A H0 H1 locs1 → W p l e rm s mi args below meth c H1 locs1 cells slots Q (F0 mi (pc + 1) ls rest)) : W p l e rm s mi args below meth c H locs cells slots Q (F0 mi pc ls (.int (nI v) :: .int (nI i) :: .ref (h 1) :: rest)) :=
  nv_iast (f := R) hx hb hK hP hD hS 1 0 rfl rfl hi (by decide) hd kk
theorem yl_closed (hx : p.tables.exec = Jvm.exec) (hb : c.code = cc) (hK : va_K D clX (tyX d z) s) (hP : va_P D clX (yw h d z n m R cb pb cl ch) H) {i : Nat} (hi : i < 128) (hd : decode cc pc = .ok (.baload, 1)) (kk : W p l e rm s mi args below meth c H locs cells slots Q (F0 mi (pc + 1) ls (.int (nI (cb i).toNat) :: rest))) : W p l e rm s mi args below meth c H locs cells slots Q (F0 mi pc ls (.int (nI i) :: .ref (h 2) :: rest)) :=
  nv_zald (f := bf cb) hx hb hK hP 2 1 rfl rfl hi (by decide) hd kk
theorem ys_closed (hx : p.tables.exec = Jvm.exec) (hb : c.code = cc) (hK : va_K D clX (tyX d z) s) (hP : va_P D clX (yw h d z n m R cb pb cl ch) H) (hD : va_D A (yw h d z n m R cb pb cl ch)) (hS : va_S A H0 H locs) {i : Nat} {v : Bool} (hi : i < 128) (hd : decode cc pc = .ok (.bastore, 1)) (kk : ∀ (H1 : Heap) (locs1 : List Loc), va_P D clX (yw h d z n m R (un cb i v) pb cl ch) H1 → va_D A (yw h d z n m R (un cb i v) pb cl ch) → va_S A H0 H1 locs1 → W p l e rm s mi args below meth c H1 locs1 cells slots Q (F0 mi (pc + 1) ls rest)) : W p l e rm s mi args below meth c H locs cells slots Q (F0 mi pc ls (.int (nI v.toNat) :: .int (nI i) :: .ref (h 2) :: rest)) :=
  nv_zast (f := cb) hx hb hK hP hD hS 2 1 rfl rfl hi (by decide) hd kk
theorem yl_pseudo (hx : p.tables.exec = Jvm.exec) (hb : c.code = cc) (hK : va_K D clX (tyX d z) s) (hP : va_P D clX (yw h d z n m R cb pb cl ch) H) {i : Nat} (hi : i < 128) (hd : decode cc pc = .ok (.baload, 1)) (kk : W p l e rm s mi args below meth c H locs cells slots Q (F0 mi (pc + 1) ls (.int (nI (pb i).toNat) :: rest))) : W p l e rm s mi args below meth c H locs cells slots Q (F0 mi pc ls (.int (nI i) :: .ref (h 3) :: rest)) :=
  nv_zald (f := bf pb) hx hb hK hP 3 1 rfl rfl hi (by decide) hd kk
theorem ys_pseudo (hx : p.tables.exec = Jvm.exec) (hb : c.code = cc) (hK : va_K D clX (tyX d z) s) (hP : va_P D clX (yw h d z n m R cb pb cl ch) H) (hD : va_D A (yw h d z n m R cb pb cl ch)) (hS : va_S A H0 H locs) {i : Nat} {v : Bool} (hi : i < 128) (hd : decode cc pc = .ok (.bastore, 1)) (kk : ∀ (H1 : Heap) (locs1 : List Loc), va_P D clX (yw h d z n m R cb (un pb i v) cl ch) H1 → va_D A (yw h d z n m R cb (un pb i v) cl ch) → va_S A H0 H1 locs1 → W p l e rm s mi args below meth c H1 locs1 cells slots Q (F0 mi (pc + 1) ls rest)) : W p l e rm s mi args below meth c H locs cells slots Q (F0 mi pc ls (.int (nI v.toNat) :: .int (nI i) :: .ref (h 3) :: rest)) :=
  nv_zast (f := pb) hx hb hK hP hD hS 3 1 rfl rfl hi (by decide) hd kk
theorem yl_closures (hx : p.tables.exec = Jvm.exec) (hb : c.code = cc) (hK : va_K D clX (tyX d z) s) (hP : va_P D clX (yw h d z n m R cb pb cl ch) H) {i : Nat} (hi : i < 128) (hd : decode cc pc = .ok (.iaload, 1)) (kk : W p l e rm s mi args below meth c H locs cells slots Q (F0 mi (pc + 1) ls (.int (nI (cl i)) :: rest))) : W p l e rm s mi args below meth c H locs cells slots Q (F0 mi pc ls (.int (nI i) :: .ref (h 4) :: rest)) :=
  nv_iald (f := nf cl) hx hb hK hP 4 0 rfl rfl hi (by decide) hd kk
theorem ys_closures (hx : p.tables.exec = Jvm.exec) (hb : c.code = cc) (hK : va_K D clX (tyX d z) s) (hP : va_P D clX (yw h d z n m R cb pb cl ch) H) (hD : va_D A (yw h d z n m R cb pb cl ch)) (hS : va_S A H0 H locs) {i : Nat} {v : Nat} (hi : i < 128) (hd : decode cc pc = .ok (.iastore, 1)) (kk : ∀ (H1 : Heap) (locs1 : List Loc), va_P D clX (yw h d z n m R cb pb (un cl i v) ch) H1 → va_D A (yw h d z n m R cb pb (un cl i v) ch) → va_S A H0 H1 locs1 → W p l e rm s mi args below meth c H1 locs1 cells slots Q (F0 mi (pc + 1) ls rest)) : W p l e rm s mi args below meth c H locs cells slots Q (F0 mi pc ls (.int (nI v) :: .int (nI i) :: .ref (h 4) :: rest)) :=
  nv_iast (f := cl) hx hb hK hP hD hS 4 0 rfl rfl hi (by decide) hd kk
theorem yl_chain (hx : p.tables.exec = Jvm.exec) (hb : c.code = cc) (hK : va_K D clX (tyX d z) s) (hP : va_P D clX (yw h d z n m R cb pb cl ch) H) {i : Nat} (hi : i < 128) (hd : decode cc pc = .ok (.iaload, 1)) (kk : W p l e rm s mi args below meth c H locs cells slots Q (F0 mi (pc + 1) ls (.int (nI (ch i)) :: rest))) : W p l e rm s mi args below meth c H locs cells slots Q (F0 mi pc ls (.int (nI i) :: .ref (h 5) :: rest)) :=
  nv_iald (f := nf ch) hx hb hK hP 5 0 rfl rfl hi (by decide) hd kk
theorem ys_chain (hx : p.tables.exec = Jvm.exec) (hb : c.code = cc) (hK : va_K D clX (tyX d z) s) (hP : va_P D clX (yw h d z n m R cb pb cl ch) H) (hD : va_D A (yw h d z n m R cb pb cl ch)) (hS : va_S A H0 H locs) {i : Nat} {v : Nat} (hi : i < 128) (hd : decode cc pc = .ok (.iastore, 1)) (kk : ∀ (H1 : Heap) (locs1 : List Loc), va_P D clX (yw h d z n m R cb pb cl (un ch i v)) H1 → va_D A (yw h d z n m R cb pb cl (un ch i v)) → va_S A H0 H1 locs1 → W p l e rm s mi args below meth c H1 locs1 cells slots Q (F0 mi (pc + 1) ls rest)) : W p l e rm s mi args below meth c H locs cells slots Q (F0 mi pc ls (.int (nI v) :: .int (nI i) :: .ref (h 5) :: rest)) :=
  nv_iast (f := ch) hx hb hK hP hD hS 5 0 rfl rfl hi (by decide) hd kk
/-- the object itself, for a call -/
theorem x_rc (hK : va_K D clX (tyX d z) s) (hP : va_P D clX (xw h d n m kc kp ku R C cs ps pe lv) H) : xRc s H RX1 (h 0) := va_recv hK hP (ci := 0) (q0 := 0) rfl rfl
theorem y_rc (hK : va_K D clX (tyX d z) s) (hP : va_P D clX (yw h d z n m R cb pb cl ch) H) : xRc s H RX2 (h 0) := va_recv hK hP (ci := 1) (q0 := 0) rfl rfl
end XW
end
section
/-! small rows between the walks and the sets -/
theorem p7 {m : Nat} (hm : m ≤ 7) : 2 ^ m ≤ 128 := Nat.le_trans (Nat.pow_le_pow_right (by decide) hm) (by decide)
theorem p8 {n : Nat} (hn : n ≤ 8) : 2 ^ n ≤ 256 := Nat.le_trans (Nat.pow_le_pow_right (by decide) hn) (by decide)
theorem set_lt {m s : Nat} (hm : m ≤ 7) (hs : s < 2 ^ m) : s < 2 ^ 31 := by have := p7 hm; omega
theorem ext_lt {n s : Nat} (hn : n ≤ 8) (hs : s < 2 ^ n) : s < 2 ^ 31 := by have := p8 hn; omega
theorem all_lt {m : Nat} (hm : m ≤ 7) : 2 ^ m - 1 < 2 ^ 31 := by have := p7 hm; omega
theorem pow_lt {m : Nat} (hm : m ≤ 7) : 2 ^ m < 2 ^ 31 := by have := p7 hm; omega
theorem pow8_lt {n : Nat} (hn : n ≤ 8) : 2 ^ n < 2 ^ 31 := by have := p8 hn; omega
theorem pw_lt {a : Nat} (ha : a < 30) : 2 ^ a < 2 ^ 31 := Nat.pow_lt_pow_right (by decide) (by omega)
theorem pw2_lt {a : Nat} (ha : a < 30) : 2 * 2 ^ a < 2 ^ 31 := by have : 2 ^ a < 2 ^ 30 := Nat.pow_lt_pow_right (by decide) ha; omega
theorem pw_1 (a : Nat) : 1 ≤ 2 ^ a := Nat.one_le_two_pow
theorem pw2_1 (a : Nat) : 1 ≤ 2 * 2 ^ a := by have := pw_1 a; omega
theorem nb_nar2 (b : Bool) : narrow .boolean (.int (nI b.toNat)) = .int (nI b.toNat) := by cases b <;> decide
/-- an int that is a number below n -/
def inB (x : Int32) (n : Nat) : Bool := decide (¬ x < 0 ∧ ¬ nI n ≤ x)
theorem inB_lt {x : Int32} {n : Nat} (h : x < 0) : inB x n = false := by unfold inB; simp [h]
theorem inB_ge {x : Int32} {n : Nat} (h : nI n ≤ x) : inB x n = false := by unfold inB; simp [h]
theorem inB_in {x : Int32} {n : Nat} (h1 : ¬ x < 0) (h2 : ¬ nI n ≤ x) : inB x n = true := by unfold inB; exact decide_eq_true ⟨h1, h2⟩
theorem inB_t {x : Int32} {n : Nat} (hn : n < 2 ^ 31) (h : inB x n = true) : ∃ j : Nat, j < n ∧ x = nI j := by
  obtain ⟨h1, h2⟩ := of_decide_eq_true h
  rcases pk_ix x hn with g | g | g
  · exact absurd g h1
  · exact absurd g h2
  · exact g
theorem inB_n {j n : Nat} (hn : n < 2 ^ 31) (h : j < n) : inB (nI j) n = true := inB_in (nI_pos (Nat.lt_trans h hn)) (nI_ge h hn)
/-- the folds, a step -/
theorem exC_1 {C : Nat → Nat} {n s i : Nat} (h : bN s i = 1) : exC C n s i &&& C i = exC C n s (i + 1) := by
  show _ = (if s.testBit i = true then _ else _)
  rw [if_pos (bN_1.mp h)]; rfl
theorem exC_0 {C : Nat → Nat} {n s i : Nat} (h : ¬ bN s i = 1) : exC C n s i = exC C n s (i + 1) := by
  show _ = (if s.testBit i = true then _ else _)
  rw [if_neg (fun z => h (bN_1.mpr z))]; rfl
theorem inR_1 {R : Nat → Nat} {m e i : Nat} (h : bN e i = 1) : inR R m e i &&& R i = inR R m e (i + 1) := exC_1 h
theorem inR_0 {R : Nat → Nat} {m e i : Nat} (h : ¬ bN e i = 1) : inR R m e i = inR R m e (i + 1) := exC_0 h
theorem exR_1 {R : Nat → Nat} {s i : Nat} (h : s &&& R i = s) : exR R s i ||| 2 ^ i = exR R s (i + 1) := by
  show _ = (if s &&& R i = s then _ else _)
  rw [if_pos h]; rfl
theorem exR_0 {R : Nat → Nat} {s i : Nat} (h : ¬ s &&& R i = s) : exR R s i = exR R s (i + 1) := by
  show _ = (if s &&& R i = s then _ else _)
  rw [if_neg h]; rfl
/-- columns while a row is set -/
def ColsTo (n m : Nat) (R C : Nat → Nat) (j s i : Nat) (C' : Nat → Nat) : Prop := (∀ a, a < i → ∀ g, g < n → (C' a).testBit g = (un R j s g).testBit a) ∧ ∀ a, i ≤ a → C' a = C a
theorem ColsTo.start (n m : Nat) (R C : Nat → Nat) (j s : Nat) : ColsTo n m R C j s 0 C := ⟨fun a ha => absurd ha (by omega), fun _ _ => rfl⟩
theorem ColsTo.step {n m : Nat} {R C C' : Nat → Nat} {j s i v : Nat} (hC : Cols n m R C) (hi : i < m) (h : ColsTo n m R C j s i C') (hv : ∀ g, g < n → v.testBit g = if g = j then s.testBit i else (C i).testBit g) : ColsTo n m R C j s (i + 1) (un C' i v) := by
  refine ⟨fun a ha g hg => ?_, fun a ha => by rw [un_n (by omega)]; exact h.2 a (by omega)⟩
  rcases Nat.lt_or_ge a i with z | z
  · rw [un_n (by omega)]; exact h.1 a z g hg
  · have : a = i := by omega
    subst this
    rw [un_s, hv g hg]
    by_cases e : g = j
    · rw [if_pos e, e, un_s]
    · rw [if_neg e, un_n e]; exact hC a hi g hg
theorem ColsTo.one {n m : Nat} {R C C' : Nat → Nat} {j s i : Nat} (hC : Cols n m R C) (hi : i < m) (h : ColsTo n m R C j s i C') (hb : bN s i = 1) : ColsTo n m R C j s (i + 1) (un C' i (C' i ||| 2 ^ j)) := by
  refine h.step hC hi (fun g hg => ?_)
  rw [Nat.testBit_or, Nat.testBit_two_pow, h.2 i (Nat.le_refl i), bN_1.mp hb]
  by_cases e : g = j
  · simp [e]
  · have : ¬ j = g := fun z => e z.symm
    simp [e, this]
theorem ColsTo.zero {n m : Nat} {R C C' : Nat → Nat} {j s i : Nat} (hC : Cols n m R C) (hi : i < m) (h : ColsTo n m R C j s i C') (hb : ¬ bN s i = 1) : ColsTo n m R C j s (i + 1) (un C' i (nd (C' i) (2 ^ j))) := by
  refine h.step hC hi (fun g hg => ?_)
  rw [nd_t, Nat.testBit_two_pow, h.2 i (Nat.le_refl i), ff_of (fun z => hb (bN_1.mpr z))]
  by_cases e : g = j
  · simp [e]
  · have : ¬ j = g := fun z => e z.symm
    simp [e, this]
theorem ColsTo.done {n m : Nat} {R C C' : Nat → Nat} {j s : Nat} (h : ColsTo n m R C j s m C') : Cols n m (un R j s) C' := fun a ha g hg => h.1 a ha g hg
theorem enm_yes {p : Nat → Bool} {i : Nat} (h : p i = true) : (enm p (i + 1)).length = (enm p i).length + 1 := by rw [enm_s, if_pos h, List.length_append]; rfl
theorem enm_no {p : Nat → Bool} {i : Nat} (h : p i = false) : (enm p (i + 1)).length = (enm p i).length := by rw [enm_s, if_neg (by rw [h]; decide)]
theorem bit_1 {s i : Nat} (h : ¬ bN s i = 0) : s.testBit i = true := tt_of (fun z => h (bN_0.mpr z))
theorem lst_no {m : Nat} {c : Nat → Nat} {x a b : Nat} (hb : b < m) (h1 : bN (c (x ||| 2 ^ a)) b = 1) (h2 : bN x b = 0) (h3 : ¬ (c (x ||| 2 ^ b) = c (x ||| 2 ^ a) ∧ a ≤ b)) : lstB m c x a = false := ff_of (fun z => h3 (lstB_t.mp z b hb (bN_1.mp h1) (bN_0.mp h2)))
end
section
/-! the specs' words, and rows for refresh and what stands on it -/
theorem un_un {α : Type} (f : Nat → α) (k : Nat) (v w : α) : un (un f k v) k w = un f k w := by
  funext j
  by_cases h : j = k <;> simp [un, h]
theorem clos_low {m : Nat} {c : Nat → Nat} (hc : CloOp m c) : ∀ j, 0 ≤ j → j < c 0 → isC c j = false := by
  intro j _ hj
  have h0 : c 0 < 2 ^ m := hc.1 0 (Nat.two_pow_pos m)
  refine isC_f.mpr (fun e => ?_)
  have := ssb_le (hc.2.2.1 0 j (Nat.two_pow_pos m) (by omega) (ssb_0 j))
  omega
theorem clos_start {m : Nat} {c : Nat → Nat} (hc : CloOp m c) (f : Nat → Nat) : En (isC c) (c 0) 0 f := (En.zero _ f).gap (Nat.zero_le _) (clos_low hc)
theorem clos_next {m : Nat} {c : Nat → Nat} {t k X : Nat} {f : Nat → Nat} (h : En (isC c) t k f) (ht : c t = t) (hX : LeastAb m (fun s => c s = s) t X) : En (isC c) X (k + 1) (un f k t) := by
  refine (h.push (isC_t.mpr ht)).gap hX.1 (fun j h1 h2 => isC_f.mpr (fun e => ?_))
  have := hX.2.2.2 j (Nat.lt_trans h2 hX.2.1) e (by omega)
  omega
theorem rule_next {m : Nat} {c : Nat → Nat} {t p X : Nat} {P : Nat → Nat} (h : En (isP c) (t + 1) p P) (hX : LeastAb m (inF c) t X) : En (isP c) X p P := by
  refine h.gap hX.1 (fun j h1 h2 => ff_of (fun e => ?_))
  have := hX.2.2.2 j (Nat.lt_trans h2 hX.2.1) (Or.inr e) (by omega)
  omega
theorem inF_0 {m : Nat} {c : Nat → Nat} (hc : CloOp m c) : inF c 0 := (inF_t hc (Nat.two_pow_pos m)).mpr (fun q hq => absurd hq (by omega))
theorem isP_no {c : Nat → Nat} {t : Nat} (h : c t = t) : isP c t = false := ff_of (fun z => (isP_t.mp z).1 h)
theorem isP_yes {c : Nat → Nat} {t : Nat} (h : inF c t) (hn : ¬ c t = t) : isP c t = true := by
  rcases h with h | h
  · exact absurd h hn
  · exact h
theorem pe_push {c : Nat → Nat} {p t : Nat} {P E : Nat → Nat} (h : ∀ i, i < p → E i = c (P i)) : ∀ i, i < p + 1 → un E p (c t) i = c (un P p t i) := by
  intro i hi
  rcases Nat.lt_or_ge i p with g | g
  · rw [un_n (by omega), un_n (by omega)]; exact h i g
  · have : i = p := by omega
    subst this
    rw [un_s, un_s]
/-- the lists are those of the rows -/
def Fr (n m : Nat) (R : Nat → Nat) (kc kp : Nat) (cs ps : Nat → Nat) : Prop := En (isC (clo n m R)) (2 ^ m) kc cs ∧ En (isP (clo n m R)) (2 ^ m) kp ps
/-- ConceptLattice's state: counts, flag, rows, columns, lists, levels -/
abbrev XS : Type := Nat × Nat × Nat × (Nat → Nat) × (Nat → Nat) × (Nat → Nat) × (Nat → Nat) × (Nat → Nat) × (Nat → Nat)
abbrev xW (h : Nat → Nat) (d : ClassId) (n m : Nat) (u : XS) : va_W := xw h d n m u.1 u.2.1 u.2.2.1 u.2.2.2.1 u.2.2.2.2.1 u.2.2.2.2.2.1 u.2.2.2.2.2.2.1 u.2.2.2.2.2.2.2.1 u.2.2.2.2.2.2.2.2
def XI (n m : Nat) (R : Nat → Nat) (u : XS) : Prop := u.2.2.2.1 = R ∧ Cols n m R u.2.2.2.2.1 ∧ u.2.2.1 ≤ 1 ∧ (u.2.2.1 = 1 → Fr n m R u.1 u.2.1 u.2.2.2.2.2.1 u.2.2.2.2.2.2.1)
theorem XI.of {n m : Nat} {R C cs ps pe lv : Nat → Nat} {kc kp ku : Nat} (hC : Cols n m R C) (hk : ku ≤ 1) (hf : ku = 1 → Fr n m R kc kp cs ps) : XI n m R (kc, kp, ku, R, C, cs, ps, pe, lv) := ⟨rfl, hC, hk, hf⟩
/-- answers: at a number below N, else -1 -/
def onS (N : Nat) (f : Nat → Int32) (x : Int32) : Int32 := if inB x N = true then f x.toNatClampNeg else -1
theorem onS_t {N : Nat} {f : Nat → Int32} {j : Nat} (hN : N < 2 ^ 31) (h : j < N) : onS N f (nI j) = f j := by
  unfold onS
  rw [if_pos (inB_n hN h), nI_clamp (Nat.lt_trans h hN)]
theorem onS_f {N : Nat} {f : Nat → Int32} {x : Int32} (h : inB x N = false) : onS N f x = -1 := by
  unfold onS
  rw [if_neg (by rw [h]; decide)]
def crV (n m : Nat) (R : Nat → Nat) (o a : Int32) : Int32 := if inB o n = true then (if inB a m = true then nI (bN (R o.toNatClampNeg) a.toNatClampNeg) else -2) else -1
def crR (n m : Nat) (R : Nat → Nat) (o a f : Int32) : Nat → Nat := if inB o n = true ∧ inB a m = true then un R o.toNatClampNeg (if f = 0 then nd (R o.toNatClampNeg) (2 ^ a.toNatClampNeg) else R o.toNatClampNeg ||| 2 ^ a.toNatClampNeg) else R
def rwV (n m : Nat) (R : Nat → Nat) (o x : Int32) : Int32 := if inB o n = true then (if inB x (2 ^ m) = true then nI (R o.toNatClampNeg) else -2) else -1
def rwR (n m : Nat) (R : Nat → Nat) (o x : Int32) : Nat → Nat := if inB o n = true ∧ inB x (2 ^ m) = true then un R o.toNatClampNeg x.toNatClampNeg else R
theorem crV_1 {n m : Nat} {R : Nat → Nat} {o a : Int32} (h : inB o n = false) : crV n m R o a = -1 := by unfold crV; rw [if_neg (by rw [h]; decide)]
theorem crV_2 {n m : Nat} {R : Nat → Nat} {o a : Int32} (h : inB o n = true) (h2 : inB a m = false) : crV n m R o a = -2 := by unfold crV; rw [if_pos h, if_neg (by rw [h2]; decide)]
theorem crV_3 {n m : Nat} {R : Nat → Nat} {j i : Nat} (hn : n < 2 ^ 31) (hm : m < 2 ^ 31) (hj : j < n) (hi : i < m) : crV n m R (nI j) (nI i) = nI (bN (R j) i) := by unfold crV; rw [if_pos (inB_n hn hj), if_pos (inB_n hm hi), nI_clamp (by omega), nI_clamp (by omega)]
theorem crR_1 {n m : Nat} {R : Nat → Nat} {o a f : Int32} (h : inB o n = false) : crR n m R o a f = R := by unfold crR; rw [if_neg (fun z => by rw [h] at z; cases z.1)]
theorem crR_2 {n m : Nat} {R : Nat → Nat} {o a f : Int32} (h : inB a m = false) : crR n m R o a f = R := by unfold crR; rw [if_neg (fun z => by rw [h] at z; cases z.2)]
theorem crR_3 {n m : Nat} {R : Nat → Nat} {j i : Nat} {f : Int32} (hn : n < 2 ^ 31) (hm : m < 2 ^ 31) (hj : j < n) (hi : i < m) : crR n m R (nI j) (nI i) f = un R j (if f = 0 then nd (R j) (2 ^ i) else R j ||| 2 ^ i) := by unfold crR; rw [if_pos ⟨inB_n hn hj, inB_n hm hi⟩, nI_clamp (by omega), nI_clamp (by omega)]
theorem rwV_1 {n m : Nat} {R : Nat → Nat} {o a : Int32} (h : inB o n = false) : rwV n m R o a = -1 := by unfold rwV; rw [if_neg (by rw [h]; decide)]
theorem rwV_2 {n m : Nat} {R : Nat → Nat} {o a : Int32} (h : inB o n = true) (h2 : inB a (2 ^ m) = false) : rwV n m R o a = -2 := by unfold rwV; rw [if_pos h, if_neg (by rw [h2]; decide)]
theorem rwV_3 {n m : Nat} {R : Nat → Nat} {j s : Nat} (hn : n < 2 ^ 31) (hm : 2 ^ m < 2 ^ 31) (hj : j < n) (hs : s < 2 ^ m) : rwV n m R (nI j) (nI s) = nI (R j) := by unfold rwV; rw [if_pos (inB_n hn hj), if_pos (inB_n hm hs), nI_clamp (by omega)]
theorem rwR_1 {n m : Nat} {R : Nat → Nat} {o a : Int32} (h : inB o n = false) : rwR n m R o a = R := by unfold rwR; rw [if_neg (fun z => by rw [h] at z; cases z.1)]
theorem rwR_2 {n m : Nat} {R : Nat → Nat} {o a : Int32} (h : inB a (2 ^ m) = false) : rwR n m R o a = R := by unfold rwR; rw [if_neg (fun z => by rw [h] at z; cases z.2)]
theorem rwR_3 {n m : Nat} {R : Nat → Nat} {j s : Nat} (hn : n < 2 ^ 31) (hm : 2 ^ m < 2 ^ 31) (hj : j < n) (hs : s < 2 ^ m) : rwR n m R (nI j) (nI s) = un R j s := by unfold rwR; rw [if_pos ⟨inB_n hn hj, inB_n hm hs⟩, nI_clamp (by omega), nI_clamp (by omega)]
/-- the rows stay below 2 ^ m -/
theorem crR_lt {n m : Nat} {R : Nat → Nat} {o a f : Int32} (hm : m ≤ 7) (h : ∀ g, R g < 2 ^ m) : ∀ g, crR n m R o a f g < 2 ^ m := by
  intro g
  unfold crR
  by_cases hz : inB o n = true ∧ inB a m = true
  · rw [if_pos hz]
    obtain ⟨i, hi, rfl⟩ := inB_t (by omega) hz.2
    by_cases hg : g = o.toNatClampNeg
    · rw [hg, un_s]
      by_cases hf : f = 0
      · rw [if_pos hf]; exact Nat.lt_of_le_of_lt (nd_le _ _) (h _)
      · rw [if_neg hf, nI_clamp (by omega)]; exact Nat.or_lt_two_pow (h _) (pow_b hi)
    · rw [un_n hg]; exact h g
  · rw [if_neg hz]; exact h g
theorem rwR_lt {n m : Nat} {R : Nat → Nat} {o x : Int32} (hm : m ≤ 7) (h : ∀ g, R g < 2 ^ m) : ∀ g, rwR n m R o x g < 2 ^ m := by
  intro g
  unfold rwR
  by_cases hz : inB o n = true ∧ inB x (2 ^ m) = true
  · rw [if_pos hz]
    obtain ⟨s, hs, rfl⟩ := inB_t (pow_lt hm) hz.2
    by_cases hg : g = o.toNatClampNeg
    · rw [hg, un_s, nI_clamp (set_lt hm hs)]; exact hs
    · rw [un_n hg]; exact h g
  · rw [if_neg hz]; exact h g
/-- p follows: q is in the closure of p -/
def folV (n m : Nat) (R : Nat → Nat) (p q : Nat) : Int32 := if nd q (clo n m R p) = 0 then 1 else 0
def fol2 (n m : Nat) (R : Nat → Nat) (x y : Int32) : Int32 := if inB x (2 ^ m) = true ∧ inB y (2 ^ m) = true then folV n m R x.toNatClampNeg y.toNatClampNeg else -1
theorem fol2_1 {n m : Nat} {R : Nat → Nat} {x y : Int32} (h : inB x (2 ^ m) = false) : fol2 n m R x y = -1 := by unfold fol2; rw [if_neg (fun z => by rw [h] at z; cases z.1)]
theorem fol2_2 {n m : Nat} {R : Nat → Nat} {x y : Int32} (h : inB y (2 ^ m) = false) : fol2 n m R x y = -1 := by unfold fol2; rw [if_neg (fun z => by rw [h] at z; cases z.2)]
theorem fol2_3 {n m : Nat} {R : Nat → Nat} {p q : Nat} (hm : 2 ^ m < 2 ^ 31) (hp : p < 2 ^ m) (hq : q < 2 ^ m) : fol2 n m R (nI p) (nI q) = folV n m R p q := by unfold fol2; rw [if_pos ⟨inB_n hm hp, inB_n hm hq⟩, nI_clamp (by omega), nI_clamp (by omega)]
/-- the least closed number above an int, or -1 -/
def Nxt (m : Nat) (c : Nat → Nat) (x r : Int32) : Prop := (∃ X, r = nI X ∧ X < 2 ^ m ∧ c X = X ∧ x < nI X ∧ ∀ Y, Y < 2 ^ m → c Y = Y → x < nI Y → X ≤ Y) ∨ (r = -1 ∧ ∀ Y, Y < 2 ^ m → c Y = Y → ¬ x < nI Y)
theorem Nxt.uniq {m : Nat} {c : Nat → Nat} {x r r' : Int32} (h : Nxt m c x r) (h' : Nxt m c x r') : r = r' := by
  rcases h with ⟨X, a1, a2, a3, a4, a5⟩ | ⟨a1, a2⟩ <;> rcases h' with ⟨Y, b1, b2, b3, b4, b5⟩ | ⟨b1, b2⟩
  · have := a5 Y b2 b3 b4
    have := b5 X a2 a3 a4
    rw [a1, b1, show X = Y from by omega]
  · exact absurd a4 (b2 X a2 a3)
  · exact absurd b4 (a2 Y b2 b3)
  · rw [a1, b1]
def GenP (m : Nat) (c : Nat → Nat) (x r : Int32) : Prop := (inB x (2 ^ m) = false ∧ r = -1) ∨ ∃ s g, x = nI s ∧ s < 2 ^ m ∧ IsGen m c (c s) g ∧ r = nI g
theorem GenP.uniq {m : Nat} {c : Nat → Nat} {x r r' : Int32} (hm : m ≤ 7) (h : GenP m c x r) (h' : GenP m c x r') : r = r' := by
  rcases h with ⟨a1, a2⟩ | ⟨s, g, a1, a2, a3, a4⟩ <;> rcases h' with ⟨b1, b2⟩ | ⟨s', g', b1, b2, b3, b4⟩
  · rw [a2, b2]
  · rw [b1, inB_n (pow_lt hm) b2] at a1; cases a1
  · rw [a1, inB_n (pow_lt hm) a2] at b1; cases b1
  · rw [a1] at b1
    have e := (nI_eq (set_lt hm a2) (set_lt hm b2)).mp b1
    subst e
    rw [a4, b4, a3.uniq b3]
def DspP (m : Nat) (c : Nat → Nat) (x r : Int32) : Prop := (inB x m = false ∧ r = -1) ∨ ∃ a, x = nI a ∧ a < m ∧ ((r = nI 0 ∧ Disp m c a) ∨ (r = nI 1 ∧ ¬ Disp m c a))
theorem DspP.uniq {m : Nat} {c : Nat → Nat} {x r r' : Int32} (hm : m ≤ 7) (h : DspP m c x r) (h' : DspP m c x r') : r = r' := by
  rcases h with ⟨a1, a2⟩ | ⟨s, a1, a2, a3⟩ <;> rcases h' with ⟨b1, b2⟩ | ⟨s', b1, b2, b3⟩
  · rw [a2, b2]
  · rw [b1, inB_n (by omega) b2] at a1; cases a1
  · rw [a1, inB_n (by omega) a2] at b1; cases b1
  · rw [a1] at b1
    have e := (nI_eq (by omega) (by omega)).mp b1
    subst e
    rcases a3 with ⟨c1, c2⟩ | ⟨c1, c2⟩ <;> rcases b3 with ⟨d1, d2⟩ | ⟨d1, d2⟩
    · rw [c1, d1]
    · exact absurd c2 d2
    · exact absurd d2 c2
    · rw [c1, d1]
/-- a place of a list -/
def atL (L : List Nat) (x : Int32) : Int32 := onS L.length (fun i => nI (L.getD i 0)) x
theorem atL_f {p : Nat → Bool} {t k : Nat} {f : Nat → Nat} {x : Int32} (hE : En p t k f) (h : inB x k = false) : atL (enm p t) x = -1 := onS_f (by rw [hE.1]; exact h)
theorem atL_t {p : Nat → Bool} {t k i : Nat} {f : Nat → Nat} (hE : En p t k f) (hk : k < 2 ^ 31) (hi : i < k) : atL (enm p t) (nI i) = nI (f i) := by
  unfold atL
  rw [onS_t (by rw [hE.1]; exact hk) (by rw [hE.1]; exact hi), List.getD_eq_getElem?_getD, hE.2 i hi]
  rfl
section XC0
variable {p : Program} {l : Launch} {e : Env} {R : Room} {s : State} {m : MethodId} {args : Array Value} {below : List Frame} {meth : Method} {c : Code} {H : Heap} {locs : List Loc} {cells slots : Nat} {Q : State → Prop}
variable {cc : ByteArray} {pc : Nat} {ls : Array Slot} {st rest As : List Value} {D : va_G} {A0 : Nat → Prop} {a nL n idx : Nat} {tys : List (ClassId × FieldType)} {ws : va_W} {H0 : Heap} {own C : String}
variable {y : MethodName} {b : ByteArray} {L fr lo : Nat}
theorem xRV.call0 {S' : Type} {post : S' → Prop} {w1 : S' → va_W} (hM : xRV S' l y b L fr lo D tys ws (.ref a :: As) post w1) (S : CallFix p m c cc nL s args lw_all own) (cw : CallW R s args own C idx y b L none (ws_ y b L none) (rmX fr lo) 0 0 n) (hK : va_K D clX tys s) (hP : va_P D clX ws H) (hD : va_D A0 ws) (hc : xRc s H C a) (hS : va_S A0 H0 H locs) (hA : ∀ q, H0.size ≤ q → A0 q) (hl : ls.size = nL) (hn : As.length = n) (hst : st = As.reverse ++ .ref a :: rest) (hroom : (rest.map fun v => v.category).sum ≤ 8) (hcs : cells ≤ R.cells ∧ slots ≤ R.slots) (hd : decode cc pc = .ok (.invokevirtual idx, 3))
    (kk : ∀ (u : S') (H1 : Heap) (locs1 : List Loc), post u → va_P D clX (w1 u) H1 → va_D A0 (w1 u) → va_S A0 H0 H1 locs1 → W p l e R s m args below meth c H1 locs1 cells slots Q (F0 m (pc + 3) ls rest)) : W p l e R s m args below meth c H locs cells slots Q (F0 m pc ls st) :=
  xRV.call [] hM S cw hK hP (fun k q h => by simp at h) (by rw [List.append_nil]; exact hD) hc hS hA hl hn hst hroom hcs hd (fun u H1 locs1 h1 h2 _ h3 h4 => kk u H1 locs1 h1 h2 (by rw [List.append_nil] at h3; exact h3) h4)
end XC0
end
section
/-! rows for the public methods -/
theorem ge_in {x : Int32} {N : Nat} (hN : N < 2 ^ 31) (h0 : 0 ≤ x) (h1 : x < nI N) : ∃ j : Nat, j < N ∧ x = nI j := by
  rcases pk_ix x hN with g | g | g
  · exact absurd h0 (Int32.not_le.mpr g)
  · exact absurd g (Int32.not_le.mpr h1)
  · exact g
theorem nxt_none {m : Nat} {c : Nat → Nat} {x : Int32} (hm : m ≤ 7) (h : ¬ x < nI (2 ^ m - 1)) : Nxt m c x (-1) := by
  refine Or.inr ⟨rfl, fun Y hY _ hlt => h ?_⟩
  exact Int32.lt_of_lt_of_le hlt ((nI_leI (set_lt hm hY) (all_lt hm)).mpr (by omega))
theorem neg_lt {x : Int32} (h : ¬ 0 ≤ x) {X : Nat} (hX : X < 2 ^ 31) : x < nI X := Int32.lt_of_lt_of_le (Int32.not_le.mp h) (nI_pos' hX)
theorem nxt_neg {m : Nat} {c : Nat → Nat} {x : Int32} (hc : CloOp m c) (hm : m ≤ 7) (h : ¬ 0 ≤ x) : Nxt m c x (nI (c 0)) := by
  have h0 := hc.1 0 (Nat.two_pow_pos m)
  refine Or.inl ⟨c 0, rfl, h0, hc.2.2.2 0 (Nat.two_pow_pos m), neg_lt h (set_lt hm h0), fun Y hY e _ => ?_⟩
  have := ssb_le (hc.2.2.1 0 Y (Nat.two_pow_pos m) hY (ssb_0 Y))
  omega
theorem nxt_step {m j X : Nat} {c : Nat → Nat} (hm : m ≤ 7) (hj : j < 2 ^ m - 1) (h : LeastAb m (fun t => c t = t) j X) : Nxt m c (nI j) (nI X) := by
  have hj1 : j < 2 ^ m := by omega
  refine Or.inl ⟨X, rfl, h.2.1, h.2.2.1, (nI_ltI (set_lt hm hj1) (set_lt hm h.2.1)).mpr h.1, fun Y hY e hlt => ?_⟩
  exact h.2.2.2 Y hY e ((nI_ltI (set_lt hm hj1) (set_lt hm hY)).mp hlt)
def lnk (m : Nat) (c : Nat → Nat) : Nat := fd (fun x r => if isC c x = true then r + covN m c x else r) 0 (2 ^ m)
theorem lnk_eq {m k : Nat} {c f : Nat → Nat} (h : En (isC c) (2 ^ m) k f) : fd (fun i r => r + covN m c (f i)) 0 k = lnk m c := h.sum (covN m c)
theorem disp_no {m k a : Nat} {c f : Nat → Nat} (ha : a < m) (hE : En (isC c) (2 ^ m) k f) (h : ∀ i, i < k → ¬ (¬ f i ||| 2 ^ a = f i ∧ c (f i ||| 2 ^ a) = f i ||| 2 ^ a)) : ¬ Disp m c a := by
  intro hd
  obtain ⟨s, s1, s2, s3, s4⟩ := (disp_t ha).mp hd
  obtain ⟨i, hi, rfl⟩ := hE.ex s1 (isC_t.mpr s2)
  exact h i hi ⟨s3, s4⟩
theorem disp_yes {m k a i : Nat} {c f : Nat → Nat} (ha : a < m) (hE : En (isC c) (2 ^ m) k f) (hi : i < k) (h1 : ¬ f i ||| 2 ^ a = f i) (h2 : c (f i ||| 2 ^ a) = f i ||| 2 ^ a) : Disp m c a := (disp_t ha).mpr ⟨f i, (hE.mem hi).1, isC_t.mp (hE.mem hi).2, h1, h2⟩
theorem LvOK.push {f g : Nat → Nat} {i v : Nat} (h : LvOK f g i) (hv : v = lev f g i) : LvOK f (un g i v) (i + 1) := by
  intro j hj
  have e : lev f (un g i v) j = lev f g j := fd_ext (fun k r hk => by rw [un_n (show k ≠ i by omega)])
  rw [e]
  rcases Nat.lt_or_ge j i with q | q
  · rw [un_n (by omega)]; exact h j q
  · have : j = i := by omega
    subst this
    rw [un_s]; exact hv
theorem mx_push {g : Nat → Nat} {i v : Nat} : mx (un g i v) (i + 1) = if mx g i < v then v else mx g i := by
  show (if mx (un g i v) i < un g i v i then un g i v i else mx (un g i v) i) = _
  rw [un_s, mx_ext (g' := g) (fun d hd => un_n (by omega))]
/-- one level while it grows -/
def levI (f g : Nat → Nat) (i k : Nat) : Nat := fd (fun k r => if nd (f k) (f i) = 0 ∧ r ≤ g k then g k + 1 else r) 1 k
theorem levI_1 {f g : Nat → Nat} {i k : Nat} (h1 : nd (f k) (f i) = 0) (h2 : levI f g i k ≤ g k) : levI f g i (k + 1) = g k + 1 := by
  show (if _ then _ else _) = _
  exact if_pos ⟨h1, h2⟩
theorem levI_0 {f g : Nat → Nat} {i k : Nat} (h : ¬ (nd (f k) (f i) = 0 ∧ levI f g i k ≤ g k)) : levI f g i (k + 1) = levI f g i k := by
  show (if _ then _ else _) = _
  exact if_neg h
end
section
/-! rows for ConceptLatticeModel -/
abbrev YS : Type := (Nat → Nat) × (Nat → Bool) × (Nat → Bool) × (Nat → Nat) × (Nat → Nat)
abbrev yW (h : Nat → Nat) (d z : ClassId) (n m : Nat) (u : YS) : va_W := yw h d z n m u.1 u.2.1 u.2.2.1 u.2.2.2.1 u.2.2.2.2
/-- the tables are right below k -/
def Tab (n m : Nat) (R : Nat → Nat) (k : Nat) (cb pb : Nat → Bool) (cl : Nat → Nat) : Prop := ∀ s, s < k → cb s = isC (clo n m R) s ∧ pb s = isP (clo n m R) s ∧ cl s = clo n m R s
theorem Tab.c {n m : Nat} {R : Nat → Nat} {k : Nat} {cb pb : Nat → Bool} {cl : Nat → Nat} (h : Tab n m R k cb pb cl) {s : Nat} (hs : s < k) : cb s = isC (clo n m R) s := (h s hs).1
theorem Tab.p {n m : Nat} {R : Nat → Nat} {k : Nat} {cb pb : Nat → Bool} {cl : Nat → Nat} (h : Tab n m R k cb pb cl) {s : Nat} (hs : s < k) : pb s = isP (clo n m R) s := (h s hs).2.1
theorem Tab.l {n m : Nat} {R : Nat → Nat} {k : Nat} {cb pb : Nat → Bool} {cl : Nat → Nat} (h : Tab n m R k cb pb cl) {s : Nat} (hs : s < k) : cl s = clo n m R s := (h s hs).2.2
theorem Tab.push {n m : Nat} {R : Nat → Nat} {k : Nat} {cb pb : Nat → Bool} {cl : Nat → Nat} {b : Bool} (h : Tab n m R k cb pb cl) (hb : isC (clo n m R) k = b) : Tab n m R (k + 1) (un cb k b) (un pb k (isP (clo n m R) k)) (un cl k (clo n m R k)) := by
  intro s hs
  rcases Nat.lt_or_ge s k with g | g
  · rw [un_n (by omega), un_n (by omega), un_n (by omega)]; exact h s g
  · have : s = k := by omega
    subst this
    rw [un_s, un_s, un_s]; exact ⟨hb.symm, rfl, rfl⟩
/-- the reference's tests of an index -/
theorem nB_lt {x : Int32} {n : Nat} (h : x < 0) : (!inB x n) = true := by rw [inB_lt h]; rfl
theorem nB_ge {x : Int32} {n : Nat} (h : nI n ≤ x) : (!inB x n) = true := by rw [inB_ge h]; rfl
theorem nB_in {x : Int32} {n : Nat} (h1 : ¬ x < 0) (h2 : ¬ nI n ≤ x) : (!inB x n) = false := by rw [inB_in h1 h2]; rfl
theorem ob_in {x : Int32} {n : Nat} (hn : n ≤ 8) (h1 : ¬ x < 0) (h2 : ¬ nI n ≤ x) : x ≤ nI 7 := by
  obtain ⟨j, hj, rfl⟩ := inB_t (show n < 2 ^ 31 by omega) (inB_in h1 h2)
  exact (nI_leI (by omega) (by decide)).mpr (by omega)
theorem se_in {x : Int32} {m : Nat} (hm : m ≤ 7) (h : x ≤ nI (2 ^ m - 1)) : ¬ nI (2 ^ m) ≤ x := by
  intro z
  have h1 := Int32.le_trans z h
  have h2 := (nI_leI (pow_lt hm) (all_lt hm)).mp h1
  have := pw_1 m
  omega
theorem se_out {x : Int32} {m : Nat} (hm : m ≤ 7) (h0 : ¬ x < 0) (h : ¬ x ≤ nI (2 ^ m - 1)) : nI (2 ^ m) ≤ x := by
  rcases pk_ix x (pow_lt hm) with g | g | ⟨j, hj, rfl⟩
  · exact absurd g h0
  · exact g
  · exact absurd ((nI_leI (set_lt hm hj) (all_lt hm)).mpr (by omega)) h
theorem at_in {x : Int32} {n : Nat} (h : x < nI n) : ¬ nI n ≤ x := Int32.not_le.mpr h
theorem at_out {x : Int32} {n : Nat} (h : ¬ x < nI n) : nI n ≤ x := Int32.not_lt.mp h
theorem nB_f {x : Int32} {n : Nat} (h : (!inB x n) = false) : inB x n = true := by cases hb : inB x n <;> simp_all
theorem nB_t {x : Int32} {n : Nat} (h : (!inB x n) = true) : inB x n = false := by cases hb : inB x n <;> simp_all
theorem beq_t {a b : Nat} (h : (a == b) = true) : a = b := beq_iff_eq.mp h
theorem beq_f {a b : Nat} (h : (a == b) = false) : ¬ a = b := fun z => by rw [z] at h; simp at h
theorem b_t {a b : Nat} (h : a = b) : (a == b) = true := beq_iff_eq.mpr h
theorem b_f {a b : Nat} (h : ¬ a = b) : (a == b) = false := by simp [h]
theorem prp_t {x y : Nat} (h1 : ¬ x = y) (h2 : (x &&& y == x) = true) : (x != y && (x &&& y == x)) = true := by simp [h1, h2]
theorem prp_e {x y : Nat} (h1 : x = y) : (x != y && (x &&& y == x)) = false := by simp [h1]
theorem prp_n {x y : Nat} (h2 : (x &&& y == x) = false) : (x != y && (x &&& y == x)) = false := by rw [h2]; simp
theorem prp_of {x y : Nat} (h : (x != y && (x &&& y == x)) = true) : prp x y := prp_b.mp h
theorem prp_nf {x y : Nat} (h : (x != y && (x &&& y == x)) = false) : ¬ prp x y := fun z => by rw [prp_b.mpr z] at h; cases h
theorem isP_y {c : Nat → Nat} {s : Nat} (h1 : isC c s = false) (h2 : ∀ q, q < s → isP c q = true → ssb q s → ssb (c q) s) : isP c s = true := isP_t.mpr ⟨isC_f.mp h1, h2⟩
theorem isP_n {c : Nat → Nat} {s q : Nat} (hq : q < s) (h1 : isP c q = true) (h2 : prp q s) (h3 : (c q &&& s == c q) = false) : isP c s = false := ff_of (fun z => beq_f h3 ((isP_t.mp z).2 q hq h1 h2.2))
theorem enm_pre (p : Nat → Bool) {t : Nat} : ∀ {N : Nat}, t ≤ N → ∃ l, enm p N = enm p t ++ l := by
  intro N
  induction N with
  | zero => intro h; rw [show t = 0 by omega]; exact ⟨[], by simp⟩
  | succ N ih =>
    intro h
    rcases Nat.lt_or_ge N t with g | g
    · rw [show t = N + 1 by omega]; exact ⟨[], by simp⟩
    · obtain ⟨l, hl⟩ := ih g
      rw [enm_s, hl]
      by_cases hp : p N = true
      · rw [if_pos hp]; exact ⟨l ++ [N], by simp⟩
      · rw [if_neg hp]; exact ⟨l, rfl⟩
theorem at_found {p : Nat → Bool} {i b N : Nat} (hb : b = (enm p i).length) (hp : p i = true) (hi : i < N) (hN : N < 2 ^ 31) : atL (enm p N) (nI b) = nI i := by
  obtain ⟨l, hl⟩ := enm_pre p (show i + 1 ≤ N from hi)
  have hlen := enm_len p N
  have hlt : b < (enm p N).length := by rw [hl, List.length_append, enm_yes hp]; omega
  unfold atL
  rw [onS_t (by omega) hlt, List.getD_eq_getElem?_getD, hl, List.getElem?_append_left (by rw [enm_yes hp]; omega), enm_s, if_pos hp, List.getElem?_append_right (by omega), hb, Nat.sub_self]
  rfl
theorem at_none {p : Nat → Bool} {N : Nat} {x : Int32} (hN : N < 2 ^ 31) (h : ∀ j, j < (enm p N).length → ¬ nI j = x) : atL (enm p N) x = -1 := by
  apply onS_f
  apply ff_of
  intro z
  have hlen := enm_len p N
  obtain ⟨j, hj, rfl⟩ := inB_t (by omega) z
  exact h j hj rfl
theorem nxt_found {m i : Nat} {c : Nat → Nat} {x : Int32} (hi : i < 2 ^ m) (hc : c i = i) (hx : ¬ nI i ≤ x) (h : ∀ Y, Y < i → c Y = Y → ¬ x < nI Y) : Nxt m c x (nI i) := by
  refine Or.inl ⟨i, rfl, hi, hc, Int32.not_le.mp hx, fun Y hY e hlt => ?_⟩
  rcases Nat.lt_or_ge Y i with g | g
  · exact absurd hlt (h Y g e)
  · exact g
theorem fol_0 {n m p q g : Nat} {R : Nat → Nat} (hq : q < 2 ^ m) (hg : g < n) (h1 : (p &&& R g == p) = true) (h2 : (q &&& R g == q) = false) : folV n m R p q = nI 0 := by
  unfold folV
  rw [if_neg (fun z => beq_f h2 ((clo_fol hq).mp (ssb_nd.mp z) g hg (beq_t h1)))]
  rfl
theorem fol_1 {n m p q : Nat} {R : Nat → Nat} (hq : q < 2 ^ m) (h : ∀ g, g < n → ssb p (R g) → ssb q (R g)) : folV n m R p q = nI 1 := by
  unfold folV
  rw [if_pos (ssb_nd.mpr ((clo_fol hq).mpr h))]
  rfl
theorem cov_y {m x d : Nat} {c : Nat → Nat} (h1 : isC c d = true) (h2 : prp x d) (h3 : ¬ betw m c x d) : covB m c x d = true := covB_t.mpr ⟨isC_t.mp h1, h2, h3⟩
theorem cov_n1 {m x d : Nat} {c : Nat → Nat} (h1 : isC c d = false) : covB m c x d = false := ff_of (fun z => isC_f.mp h1 (covB_t.mp z).1)
theorem cov_n2 {m x d : Nat} {c : Nat → Nat} (h1 : ¬ prp x d) : covB m c x d = false := ff_of (fun z => h1 (covB_t.mp z).2.1)
theorem cov_n3 {m x d : Nat} {c : Nat → Nat} (h1 : betw m c x d) : covB m c x d = false := ff_of (fun z => (covB_t.mp z).2.2 h1)
/-- the reference's sum of covers, after k sets -/
def lnkI (m : Nat) (c : Nat → Nat) (k : Nat) : Nat := fd (fun x r => if isC c x = true then r + covN m c x else r) 0 k
theorem lnkI_1 {m : Nat} {c : Nat → Nat} {k : Nat} (h : isC c k = true) : lnkI m c (k + 1) = lnkI m c k + covN m c k := by
  show (if _ then _ else _) = _
  exact if_pos h
theorem lnkI_0 {m : Nat} {c : Nat → Nat} {k : Nat} (h : isC c k = false) : lnkI m c (k + 1) = lnkI m c k := by
  show (if _ then _ else _) = _
  exact if_neg (by rw [h]; decide)
def htI (c g : Nat → Nat) (d k : Nat) : Nat := fd (fun e r => if isC c d = true ∧ isC c e = true ∧ (e ≠ d ∧ e &&& d = e) ∧ r < g e + 1 then g e + 1 else r) (isC c d).toNat k
theorem htI_0 {c g : Nat → Nat} {d k : Nat} (h : ¬ (isC c d = true ∧ isC c k = true ∧ prp k d ∧ htI c g d k < g k + 1)) : htI c g d (k + 1) = htI c g d k := by
  show (if _ then _ else _) = _
  exact if_neg h
theorem htI_1 {c g : Nat → Nat} {d k : Nat} (h1 : isC c d = true) (h2 : isC c k = true) (h3 : prp k d) (h4 : htI c g d k < g k + 1) : htI c g d (k + 1) = g k + 1 := by
  show (if _ then _ else _) = _
  exact if_pos ⟨h1, h2, h3, h4⟩
theorem ChOK.push {c g : Nat → Nat} {i v : Nat} (h : ChOK c g i) (hv : v = htI c g i i) : ChOK c (un g i v) (i + 1) := by
  intro j hj
  have e : ht c (un g i v) j = ht c g j := ht_ext (fun k hk => un_n (by omega))
  rw [e]
  rcases Nat.lt_or_ge j i with q | q
  · rw [un_n (by omega)]; exact h j q
  · have : j = i := by omega
    subst this
    rw [un_s]; exact hv
theorem gen_1 {c : Nat → Nat} {G k : Nat} (h1 : c k = G) (h2 : cnt k 7 < gen c G k) : gen c G (k + 1) = cnt k 7 := by
  show (if _ then _ else _) = _
  exact if_pos ⟨h1, h2⟩
theorem gen_0 {c : Nat → Nat} {G k : Nat} (h : ¬ (c k = G ∧ cnt k 7 < gen c G k)) : gen c G (k + 1) = gen c G k := by
  show (if _ then _ else _) = _
  exact if_neg h
end
section
/-! ConceptLattice: its leaves -/

set_option maxHeartbeats 4000000 in
set_option maxRecDepth 100000 in
theorem m_X1_isObject {l : Launch} {D : va_G} {d z : ClassId} {h : Nat → Nat} {n m kc kp ku : Nat} {R C cs ps pe lv : Nat → Nat} {x : Int32} : xRO l yX1_isObject cX1_isObject 2 (some .boolean) 0 0 D (tyX d z) (xw h d n m kc kp ku R C cs ps pe lv) [.ref (h 0), .int x] (fun r => r = nI (inB x n).toNat) := by
  refine xRO.of (by decide) (Nat.le_of_ble_eq_true rfl) ?_
  intro p e S M below meth c hB hK hP ls hl
  obtain ⟨hx, hb, hr, hml, hown, hlocks, hts⟩ := hB
  have hown : S.vm.findClass RX1 = some M.cls := hown
  have hS : va_S (frX S) S.heap S.heap [] := va_S.rf
  have hA : ∀ q : Nat, S.heap.size ≤ q → (frX S) q := fun _ h => h
  have hl : lv_has ls 2 [(0, .ref (h 0)), (1, .int x)] := hl
  refine lv_iload_n hx hb dX1_isObject_0 rfl (lv_at hl 1 rfl) ?_
  refine lv_if_lt (tgt := 16) hx hb dX1_isObject_1 (by decide) (fun c_1 => ?_) (fun c_1 => ?_)
  · refine lv_iconst (v := nI 0) hx hb dX1_isObject_16 (by decide) ?_
    exact xRO.ret hx hb hr (by decide) hlocks hS dX1_isObject_17 (by rw [inB_lt c_1]; rfl)
  · refine lv_iload_n hx hb dX1_isObject_4 rfl (lv_at hl 1 rfl) ?_
    refine lv_aload_n hx hb dX1_isObject_5 rfl (lv_at hl 0 rfl) ?_
    refine xg_n hx hb hts hown hK hP dX1_isObject_6 ?_
    refine lv_icmp_ge (tgt := 16) hx hb dX1_isObject_9 (by decide) (fun c_9 => ?_) (fun c_9 => ?_)
    · refine lv_iconst (v := nI 0) hx hb dX1_isObject_16 (by decide) ?_
      exact xRO.ret hx hb hr (by decide) hlocks hS dX1_isObject_17 (by rw [inB_ge c_9]; rfl)
    · refine lv_iconst (v := nI 1) hx hb dX1_isObject_12 (by decide) ?_
      refine lv_goto (tgt := 17) hx hb dX1_isObject_13 (by decide) ?_
      exact xRO.ret hx hb hr (by decide) hlocks hS dX1_isObject_17 (by rw [inB_in c_1 c_9]; rfl)

set_option maxHeartbeats 4000000 in
set_option maxRecDepth 100000 in
theorem m_X1_isAttribute {l : Launch} {D : va_G} {d z : ClassId} {h : Nat → Nat} {n m kc kp ku : Nat} {R C cs ps pe lv : Nat → Nat} {x : Int32} : xRO l yX1_isAttribute cX1_isAttribute 2 (some .boolean) 0 0 D (tyX d z) (xw h d n m kc kp ku R C cs ps pe lv) [.ref (h 0), .int x] (fun r => r = nI (inB x m).toNat) := by
  refine xRO.of (by decide) (Nat.le_of_ble_eq_true rfl) ?_
  intro p e S M below meth c hB hK hP ls hl
  obtain ⟨hx, hb, hr, hml, hown, hlocks, hts⟩ := hB
  have hown : S.vm.findClass RX1 = some M.cls := hown
  have hS : va_S (frX S) S.heap S.heap [] := va_S.rf
  have hA : ∀ q : Nat, S.heap.size ≤ q → (frX S) q := fun _ h => h
  have hl : lv_has ls 2 [(0, .ref (h 0)), (1, .int x)] := hl
  refine lv_iload_n hx hb dX1_isAttribute_0 rfl (lv_at hl 1 rfl) ?_
  refine lv_if_lt (tgt := 16) hx hb dX1_isAttribute_1 (by decide) (fun c_1 => ?_) (fun c_1 => ?_)
  · refine lv_iconst (v := nI 0) hx hb dX1_isAttribute_16 (by decide) ?_
    exact xRO.ret hx hb hr (by decide) hlocks hS dX1_isAttribute_17 (by rw [inB_lt c_1]; rfl)
  · refine lv_iload_n hx hb dX1_isAttribute_4 rfl (lv_at hl 1 rfl) ?_
    refine lv_aload_n hx hb dX1_isAttribute_5 rfl (lv_at hl 0 rfl) ?_
    refine xg_m hx hb hts hown hK hP dX1_isAttribute_6 ?_
    refine lv_icmp_ge (tgt := 16) hx hb dX1_isAttribute_9 (by decide) (fun c_9 => ?_) (fun c_9 => ?_)
    · refine lv_iconst (v := nI 0) hx hb dX1_isAttribute_16 (by decide) ?_
      exact xRO.ret hx hb hr (by decide) hlocks hS dX1_isAttribute_17 (by rw [inB_ge c_9]; rfl)
    · refine lv_iconst (v := nI 1) hx hb dX1_isAttribute_12 (by decide) ?_
      refine lv_goto (tgt := 17) hx hb dX1_isAttribute_13 (by decide) ?_
      exact xRO.ret hx hb hr (by decide) hlocks hS dX1_isAttribute_17 (by rw [inB_in c_1 c_9]; rfl)

set_option maxHeartbeats 4000000 in
set_option maxRecDepth 100000 in
theorem m_X1_isSet {l : Launch} {D : va_G} {d z : ClassId} {h : Nat → Nat} {n m kc kp ku : Nat} {R C cs ps pe lv : Nat → Nat} (hm : m ≤ 7) {x : Int32} : xRO l yX1_isSet cX1_isSet 2 (some .boolean) 0 0 D (tyX d z) (xw h d n m kc kp ku R C cs ps pe lv) [.ref (h 0), .int x] (fun r => r = nI (inB x (2 ^ m)).toNat) := by
  refine xRO.of (by decide) (Nat.le_of_ble_eq_true rfl) ?_
  intro p e S M below meth c hB hK hP ls hl
  obtain ⟨hx, hb, hr, hml, hown, hlocks, hts⟩ := hB
  have hown : S.vm.findClass RX1 = some M.cls := hown
  have hS : va_S (frX S) S.heap S.heap [] := va_S.rf
  have hA : ∀ q : Nat, S.heap.size ≤ q → (frX S) q := fun _ h => h
  have hl : lv_has ls 2 [(0, .ref (h 0)), (1, .int x)] := hl
  refine lv_iload_n hx hb dX1_isSet_0 rfl (lv_at hl 1 rfl) ?_
  refine lv_if_lt (tgt := 18) hx hb dX1_isSet_1 (by decide) (fun c_1 => ?_) (fun c_1 => ?_)
  · refine lv_iconst (v := nI 0) hx hb dX1_isSet_18 (by decide) ?_
    exact xRO.ret hx hb hr (by decide) hlocks hS dX1_isSet_19 (by rw [inB_lt c_1]; rfl)
  · refine lv_iload_n hx hb dX1_isSet_4 rfl (lv_at hl 1 rfl) ?_
    refine lv_iconst (v := nI 1) hx hb dX1_isSet_5 (by decide) ?_
    refine lv_aload_n hx hb dX1_isSet_6 rfl (lv_at hl 0 rfl) ?_
    refine xg_m hx hb hts hown hK hP dX1_isSet_7 ?_
    refine nv_ishl hx hb (by omega) dX1_isSet_10 ?_
    refine lv_icmp_ge (tgt := 18) hx hb dX1_isSet_11 (by decide) (fun c_11 => ?_) (fun c_11 => ?_)
    · refine lv_iconst (v := nI 0) hx hb dX1_isSet_18 (by decide) ?_
      exact xRO.ret hx hb hr (by decide) hlocks hS dX1_isSet_19 (by rw [inB_ge c_11]; rfl)
    · refine lv_iconst (v := nI 1) hx hb dX1_isSet_14 (by decide) ?_
      refine lv_goto (tgt := 19) hx hb dX1_isSet_15 (by decide) ?_
      exact xRO.ret hx hb hr (by decide) hlocks hS dX1_isSet_19 (by rw [inB_in c_1 c_11]; rfl)

set_option maxHeartbeats 4000000 in
set_option maxRecDepth 100000 in
theorem m_X1_ones {l : Launch} {D : va_G} {d z : ClassId} {s : Nat} (hs : s < 2 ^ 31) : xRO l yX1_ones cX1_ones 3 (some .int) 0 0 D (tyX d z) [] [.int (nI s)] (fun r => r = nI (cnt s 8)) := by
  refine xRO.of (by decide) (Nat.le_of_ble_eq_true rfl) ?_
  intro p e S M below meth c hB hK hP ls hl
  obtain ⟨hx, hb, hr, hml, hown, hlocks, hts⟩ := hB
  have hown : S.vm.findClass RX1 = some M.cls := hown
  have hS : va_S (frX S) S.heap S.heap [] := va_S.rf
  have hA : ∀ q : Nat, S.heap.size ≤ q → (frX S) q := fun _ h => h
  have hl : lv_has ls 3 [(0, .int (nI s))] := hl
  refine lv_iconst (v := nI 0) hx hb dX1_ones_0 (by decide) ?_
  refine lv_istore_n (lv' := [(1, .int (nI 0)), (0, .int (nI s))]) hx hb dX1_ones_1 rfl hl (by decide) rfl (fun ls hl => ?_)
  refine lv_iconst (v := nI 0) hx hb dX1_ones_2 (by decide) ?_
  refine lv_istore_n (lv' := [(2, .int (nI 0)), (1, .int (nI 0)), (0, .int (nI s))]) hx hb dX1_ones_3 rfl hl (by decide) rfl (fun ls hl => ?_)
  refine nv_loop (fun (i : Nat) (H : Heap) (locs : List Loc) (ls : Array Slot) => ∃ (r : Nat), r = cnt s i ∧ va_P D clX ([]) H ∧ va_S (frX S) S.heap H locs ∧ lv_has ls 3 [(2, .int (nI i)), (1, .int (nI r)), (0, .int (nI s))]) (8) (fun i H locs ls hi_i hI ih_i => ?_) (fun H locs ls hI => ?_) 0 (Nat.zero_le _) ⟨0, rfl, hP, hS, lv_sub hl [0, 1, 2] rfl⟩
  · obtain ⟨r, e_r, hP, hS, hl⟩ := hI
    refine lv_iload_n hx hb dX1_ones_4 rfl (lv_at hl 0 rfl) ?_
    refine lv_bipush (v := nI 8) hx hb dX1_ones_5 (by decide) ?_
    refine nv_ge hx hb (by omega) (by decide) (tgt := 24) dX1_ones_7 (by decide) (fun c_7 => ?_) (fun c_7 => ?_)
    · exact absurd hi_i (by omega)
    · refine lv_iload_n hx hb dX1_ones_10 rfl (lv_at hl 1 rfl) ?_
      refine lv_iload_n hx hb dX1_ones_11 rfl (lv_at hl 2 rfl) ?_
      refine lv_iload_n hx hb dX1_ones_12 rfl (lv_at hl 0 rfl) ?_
      refine nv_bit hx hb hs (by omega) dX1_ones_13 dX1_ones_14 dX1_ones_15 ?_
      refine nv_iadd hx hb dX1_ones_16 ?_
      refine lv_istore_n (lv' := [(1, .int (nI (r + (bN s i)))), (2, .int (nI i)), (0, .int (nI s))]) hx hb dX1_ones_17 rfl hl (by decide) rfl (fun ls hl => ?_)
      refine lv_iinc (v := nI (i + 1)) (lv' := [(2, .int (nI (i + 1))), (1, .int (nI (r + (bN s i)))), (0, .int (nI s))]) hx hb dX1_ones_18 hl (k := 1) rfl (nI_1 _) (by decide) rfl (fun ls hl => ?_)
      refine lv_goto (tgt := 4) hx hb dX1_ones_21 (by decide) ?_
      exact ih_i _ _ _ ⟨r + bN s i, by rw [e_r]; rfl, hP, hS, lv_sub hl [0, 1, 2] rfl⟩
  · obtain ⟨r, e_r, hP, hS, hl⟩ := hI
    refine lv_iload_n hx hb dX1_ones_4 rfl (lv_at hl 0 rfl) ?_
    refine lv_bipush (v := nI 8) hx hb dX1_ones_5 (by decide) ?_
    refine nv_ge hx hb (by omega) (by decide) (tgt := 24) dX1_ones_7 (by decide) (fun c_7 => ?_) (fun c_7 => ?_)
    · refine lv_iload_n hx hb dX1_ones_24 rfl (lv_at hl 1 rfl) ?_
      exact xRO.ret hx hb hr rfl hlocks hS dX1_ones_25 (by rw [e_r])
    · exact absurd c_7 (by omega)

set_option maxHeartbeats 4000000 in
set_option maxRecDepth 100000 in
theorem m_X1_extentOf {l : Launch} {D : va_G} {d z : ClassId} {h : Nat → Nat} {n m kc kp ku : Nat} {R C cs ps pe lv : Nat → Nat} (hn : n ≤ 8) (hm : m ≤ 7) {s : Nat} (hs : s < 2 ^ 31) : xRO l yX1_extentOf cX1_extentOf 4 (some .int) 0 0 D (tyX d z) (xw h d n m kc kp ku R C cs ps pe lv) [.ref (h 0), .int (nI s)] (fun r => r = nI (exC C n s m)) := by
  refine xRO.of (by decide) (Nat.le_of_ble_eq_true rfl) ?_
  intro p e S M below meth c hB hK hP ls hl
  obtain ⟨hx, hb, hr, hml, hown, hlocks, hts⟩ := hB
  have hown : S.vm.findClass RX1 = some M.cls := hown
  have hS : va_S (frX S) S.heap S.heap [] := va_S.rf
  have hA : ∀ q : Nat, S.heap.size ≤ q → (frX S) q := fun _ h => h
  have hl : lv_has ls 4 [(0, .ref (h 0)), (1, .int (nI s))] := hl
  refine lv_iconst (v := nI 1) hx hb dX1_extentOf_0 (by decide) ?_
  refine lv_aload_n hx hb dX1_extentOf_1 rfl (lv_at hl 0 rfl) ?_
  refine xg_n hx hb hts hown hK hP dX1_extentOf_2 ?_
  refine nv_ishl hx hb (by omega) dX1_extentOf_5 ?_
  refine lv_iconst (v := nI 1) hx hb dX1_extentOf_6 (by decide) ?_
  refine nv_isub hx hb (pw_1 _) dX1_extentOf_7 ?_
  refine lv_istore_n (lv' := [(2, .int (nI ((2 ^ n) - 1))), (0, .ref (h 0)), (1, .int (nI s))]) hx hb dX1_extentOf_8 rfl hl (by decide) rfl (fun ls hl => ?_)
  refine lv_iconst (v := nI 0) hx hb dX1_extentOf_9 (by decide) ?_
  refine lv_istore_n (lv' := [(3, .int (nI 0)), (2, .int (nI ((2 ^ n) - 1))), (0, .ref (h 0)), (1, .int (nI s))]) hx hb dX1_extentOf_10 rfl hl (by decide) rfl (fun ls hl => ?_)
  refine nv_loop (fun (i : Nat) (H : Heap) (locs : List Loc) (ls : Array Slot) => ∃ (r : Nat), r = exC C n s i ∧ va_P D clX (xw h d n m kc kp ku R C cs ps pe lv) H ∧ va_S (frX S) S.heap H locs ∧ lv_has ls 4 [(3, .int (nI i)), (2, .int (nI r)), (0, .ref (h 0)), (1, .int (nI s))]) (m) (fun i H locs ls hi_i hI ih_i => ?_) (fun H locs ls hI => ?_) 0 (Nat.zero_le _) ⟨2 ^ n - 1, rfl, hP, hS, lv_sub hl [0, 1, 2, 3] rfl⟩
  · obtain ⟨r, e_r, hP, hS, hl⟩ := hI
    refine lv_iload_n hx hb dX1_extentOf_11 rfl (lv_at hl 0 rfl) ?_
    refine lv_aload_n hx hb dX1_extentOf_12 rfl (lv_at hl 2 rfl) ?_
    refine xg_m hx hb hts hown hK hP dX1_extentOf_13 ?_
    refine nv_ge hx hb (by omega) (by omega) (tgt := 43) dX1_extentOf_16 (by decide) (fun c_16 => ?_) (fun c_16 => ?_)
    · exact absurd hi_i (by omega)
    · refine lv_iload_n hx hb dX1_extentOf_19 rfl (lv_at hl 3 rfl) ?_
      refine lv_iload_n hx hb dX1_extentOf_20 rfl (lv_at hl 0 rfl) ?_
      refine nv_bit hx hb hs (by omega) dX1_extentOf_21 dX1_extentOf_22 dX1_extentOf_23 ?_
      refine lv_iconst (v := nI 1) hx hb dX1_extentOf_24 (by decide) ?_
      refine nv_ne hx hb (bN_lt _ _) (by decide) (tgt := 37) dX1_extentOf_25 (by decide) (fun c_25 => ?_) (fun c_25 => ?_)
      · refine lv_iinc (v := nI (i + 1)) (lv' := [(3, .int (nI (i + 1))), (2, .int (nI r)), (0, .ref (h 0)), (1, .int (nI s))]) hx hb dX1_extentOf_37 hl (k := 0) rfl (nI_1 _) (by decide) rfl (fun ls hl => ?_)
        refine lv_goto (tgt := 11) hx hb dX1_extentOf_40 (by decide) ?_
        exact ih_i _ _ _ ⟨r, by rw [e_r]; exact exC_0 c_25, hP, hS, lv_sub hl [0, 1, 2, 3] rfl⟩
      · refine lv_iload_n hx hb dX1_extentOf_28 rfl (lv_at hl 1 rfl) ?_
        refine lv_aload_n hx hb dX1_extentOf_29 rfl (lv_at hl 2 rfl) ?_
        refine xg_columns hx hb hts hown hK hP dX1_extentOf_30 ?_
        refine lv_iload_n hx hb dX1_extentOf_33 rfl (lv_at hl 0 rfl) ?_
        refine xl_columns hx hb hK hP (by omega) dX1_extentOf_34 ?_
        refine nv_iand hx hb dX1_extentOf_35 ?_
        refine lv_istore_n (lv' := [(2, .int (nI (r &&& (C i)))), (3, .int (nI i)), (0, .ref (h 0)), (1, .int (nI s))]) hx hb dX1_extentOf_36 rfl hl (by decide) rfl (fun ls hl => ?_)
        refine lv_iinc (v := nI (i + 1)) (lv' := [(3, .int (nI (i + 1))), (2, .int (nI (r &&& (C i)))), (0, .ref (h 0)), (1, .int (nI s))]) hx hb dX1_extentOf_37 hl (k := 1) rfl (nI_1 _) (by decide) rfl (fun ls hl => ?_)
        refine lv_goto (tgt := 11) hx hb dX1_extentOf_40 (by decide) ?_
        exact ih_i _ _ _ ⟨r &&& C i, by rw [e_r]; exact exC_1 c_25, hP, hS, lv_sub hl [0, 1, 2, 3] rfl⟩
  · obtain ⟨r, e_r, hP, hS, hl⟩ := hI
    refine lv_iload_n hx hb dX1_extentOf_11 rfl (lv_at hl 0 rfl) ?_
    refine lv_aload_n hx hb dX1_extentOf_12 rfl (lv_at hl 2 rfl) ?_
    refine xg_m hx hb hts hown hK hP dX1_extentOf_13 ?_
    refine nv_ge hx hb (by omega) (by omega) (tgt := 43) dX1_extentOf_16 (by decide) (fun c_16 => ?_) (fun c_16 => ?_)
    · refine lv_iload_n hx hb dX1_extentOf_43 rfl (lv_at hl 1 rfl) ?_
      exact xRO.ret hx hb hr rfl hlocks hS dX1_extentOf_44 (by rw [e_r])
    · exact absurd c_16 (by omega)

set_option maxHeartbeats 4000000 in
set_option maxRecDepth 100000 in
theorem m_X1_intentOf {l : Launch} {D : va_G} {d z : ClassId} {h : Nat → Nat} {n m kc kp ku : Nat} {R C cs ps pe lv : Nat → Nat} (hn : n ≤ 8) (hm : m ≤ 7) {s : Nat} (hs : s < 2 ^ 31) : xRO l yX1_intentOf cX1_intentOf 4 (some .int) 0 0 D (tyX d z) (xw h d n m kc kp ku R C cs ps pe lv) [.ref (h 0), .int (nI s)] (fun r => r = nI (inR R m s n)) := by
  refine xRO.of (by decide) (Nat.le_of_ble_eq_true rfl) ?_
  intro p e S M below meth c hB hK hP ls hl
  obtain ⟨hx, hb, hr, hml, hown, hlocks, hts⟩ := hB
  have hown : S.vm.findClass RX1 = some M.cls := hown
  have hS : va_S (frX S) S.heap S.heap [] := va_S.rf
  have hA : ∀ q : Nat, S.heap.size ≤ q → (frX S) q := fun _ h => h
  have hl : lv_has ls 4 [(0, .ref (h 0)), (1, .int (nI s))] := hl
  refine lv_iconst (v := nI 1) hx hb dX1_intentOf_0 (by decide) ?_
  refine lv_aload_n hx hb dX1_intentOf_1 rfl (lv_at hl 0 rfl) ?_
  refine xg_m hx hb hts hown hK hP dX1_intentOf_2 ?_
  refine nv_ishl hx hb (by omega) dX1_intentOf_5 ?_
  refine lv_iconst (v := nI 1) hx hb dX1_intentOf_6 (by decide) ?_
  refine nv_isub hx hb (pw_1 _) dX1_intentOf_7 ?_
  refine lv_istore_n (lv' := [(2, .int (nI ((2 ^ m) - 1))), (0, .ref (h 0)), (1, .int (nI s))]) hx hb dX1_intentOf_8 rfl hl (by decide) rfl (fun ls hl => ?_)
  refine lv_iconst (v := nI 0) hx hb dX1_intentOf_9 (by decide) ?_
  refine lv_istore_n (lv' := [(3, .int (nI 0)), (2, .int (nI ((2 ^ m) - 1))), (0, .ref (h 0)), (1, .int (nI s))]) hx hb dX1_intentOf_10 rfl hl (by decide) rfl (fun ls hl => ?_)
  refine nv_loop (fun (i : Nat) (H : Heap) (locs : List Loc) (ls : Array Slot) => ∃ (r : Nat), r = inR R m s i ∧ va_P D clX (xw h d n m kc kp ku R C cs ps pe lv) H ∧ va_S (frX S) S.heap H locs ∧ lv_has ls 4 [(3, .int (nI i)), (2, .int (nI r)), (0, .ref (h 0)), (1, .int (nI s))]) (n) (fun i H locs ls hi_i hI ih_i => ?_) (fun H locs ls hI => ?_) 0 (Nat.zero_le _) ⟨2 ^ m - 1, rfl, hP, hS, lv_sub hl [0, 1, 2, 3] rfl⟩
  · obtain ⟨r, e_r, hP, hS, hl⟩ := hI
    refine lv_iload_n hx hb dX1_intentOf_11 rfl (lv_at hl 0 rfl) ?_
    refine lv_aload_n hx hb dX1_intentOf_12 rfl (lv_at hl 2 rfl) ?_
    refine xg_n hx hb hts hown hK hP dX1_intentOf_13 ?_
    refine nv_ge hx hb (by omega) (by omega) (tgt := 43) dX1_intentOf_16 (by decide) (fun c_16 => ?_) (fun c_16 => ?_)
    · exact absurd hi_i (by omega)
    · refine lv_iload_n hx hb dX1_intentOf_19 rfl (lv_at hl 3 rfl) ?_
      refine lv_iload_n hx hb dX1_intentOf_20 rfl (lv_at hl 0 rfl) ?_
      refine nv_bit hx hb hs (by omega) dX1_intentOf_21 dX1_intentOf_22 dX1_intentOf_23 ?_
      refine lv_iconst (v := nI 1) hx hb dX1_intentOf_24 (by decide) ?_
      refine nv_ne hx hb (bN_lt _ _) (by decide) (tgt := 37) dX1_intentOf_25 (by decide) (fun c_25 => ?_) (fun c_25 => ?_)
      · refine lv_iinc (v := nI (i + 1)) (lv' := [(3, .int (nI (i + 1))), (2, .int (nI r)), (0, .ref (h 0)), (1, .int (nI s))]) hx hb dX1_intentOf_37 hl (k := 0) rfl (nI_1 _) (by decide) rfl (fun ls hl => ?_)
        refine lv_goto (tgt := 11) hx hb dX1_intentOf_40 (by decide) ?_
        exact ih_i _ _ _ ⟨r, by rw [e_r]; exact inR_0 c_25, hP, hS, lv_sub hl [0, 1, 2, 3] rfl⟩
      · refine lv_iload_n hx hb dX1_intentOf_28 rfl (lv_at hl 1 rfl) ?_
        refine lv_aload_n hx hb dX1_intentOf_29 rfl (lv_at hl 2 rfl) ?_
        refine xg_rows hx hb hts hown hK hP dX1_intentOf_30 ?_
        refine lv_iload_n hx hb dX1_intentOf_33 rfl (lv_at hl 0 rfl) ?_
        refine xl_rows hx hb hK hP (by omega) dX1_intentOf_34 ?_
        refine nv_iand hx hb dX1_intentOf_35 ?_
        refine lv_istore_n (lv' := [(2, .int (nI (r &&& (R i)))), (3, .int (nI i)), (0, .ref (h 0)), (1, .int (nI s))]) hx hb dX1_intentOf_36 rfl hl (by decide) rfl (fun ls hl => ?_)
        refine lv_iinc (v := nI (i + 1)) (lv' := [(3, .int (nI (i + 1))), (2, .int (nI (r &&& (R i)))), (0, .ref (h 0)), (1, .int (nI s))]) hx hb dX1_intentOf_37 hl (k := 1) rfl (nI_1 _) (by decide) rfl (fun ls hl => ?_)
        refine lv_goto (tgt := 11) hx hb dX1_intentOf_40 (by decide) ?_
        exact ih_i _ _ _ ⟨r &&& R i, by rw [e_r]; exact inR_1 c_25, hP, hS, lv_sub hl [0, 1, 2, 3] rfl⟩
  · obtain ⟨r, e_r, hP, hS, hl⟩ := hI
    refine lv_iload_n hx hb dX1_intentOf_11 rfl (lv_at hl 0 rfl) ?_
    refine lv_aload_n hx hb dX1_intentOf_12 rfl (lv_at hl 2 rfl) ?_
    refine xg_n hx hb hts hown hK hP dX1_intentOf_13 ?_
    refine nv_ge hx hb (by omega) (by omega) (tgt := 43) dX1_intentOf_16 (by decide) (fun c_16 => ?_) (fun c_16 => ?_)
    · refine lv_iload_n hx hb dX1_intentOf_43 rfl (lv_at hl 1 rfl) ?_
      exact xRO.ret hx hb hr rfl hlocks hS dX1_intentOf_44 (by rw [e_r])
    · exact absurd c_16 (by omega)

set_option maxHeartbeats 4000000 in
set_option maxRecDepth 100000 in
theorem m_X1_closed {l : Launch} {D : va_G} {d z : ClassId} {h : Nat → Nat} {n m kc kp ku : Nat} {R C cs ps pe lv : Nat → Nat} (hn : n ≤ 8) (hm : m ≤ 7) (hC : Cols n m R C) {s : Nat} (hs : s < 2 ^ m) : xRO l yX1_closed cX1_closed 3 (some .int) 1 23 D (tyX d z) (xw h d n m kc kp ku R C cs ps pe lv) [.ref (h 0), .int (nI s)] (fun r => r = nI (clo n m R s)) := by
  refine xRO.of (by decide) (Nat.le_of_ble_eq_true rfl) ?_
  intro p e S M below meth c hB hK hP ls hl
  obtain ⟨hx, hb, hr, hml, hown, hlocks, hts⟩ := hB
  have hown : S.vm.findClass RX1 = some M.cls := hown
  have hS : va_S (frX S) S.heap S.heap [] := va_S.rf
  have hA : ∀ q : Nat, S.heap.size ≤ q → (frX S) q := fun _ h => h
  have hl : lv_has ls 3 [(0, .ref (h 0)), (1, .int (nI s))] := hl
  refine lv_aload_n hx hb dX1_closed_0 rfl (lv_at hl 0 rfl) ?_
  refine lv_iload_n hx hb dX1_closed_1 rfl (lv_at hl 1 rfl) ?_
  refine xRO.call (m_X1_extentOf hn hm (set_lt hm hs)) ⟨hx, hb, hml, hown, hts⟩ (cwV 1 hts (lw_V q112 q114 qs4 q27 q115) rfl rfl rfl (by decide +kernel) ⟨Nat.le_of_ble_eq_true rfl, Nat.le_of_ble_eq_true rfl⟩) hK hP (x_rc hK hP) hS hA hl.1 rfl rfl (Nat.le_of_ble_eq_true rfl) ⟨Nat.zero_le _, Nat.zero_le _⟩ dX1_closed_2 (fun r_ H locs hr_ hT hS => ?_)
  have hP := hT _ hP
  subst hr_
  refine lv_istore_n (lv' := [(2, .int (nI (exC C n s m))), (0, .ref (h 0)), (1, .int (nI s))]) hx hb dX1_closed_5 rfl hl (by decide) rfl (fun ls hl => ?_)
  refine lv_aload_n hx hb dX1_closed_6 rfl (lv_at hl 1 rfl) ?_
  refine lv_iload_n hx hb dX1_closed_7 rfl (lv_at hl 0 rfl) ?_
  refine xRO.call (m_X1_intentOf hn hm (ext_lt hn (by rw [exC_eq hC hs]; exact exR_lt R s n))) ⟨hx, hb, hml, hown, hts⟩ (cwV 1 hts (lw_V q120 q122 qs5 q27 q123) rfl rfl rfl (by decide +kernel) ⟨Nat.le_of_ble_eq_true rfl, Nat.le_of_ble_eq_true rfl⟩) hK hP (x_rc hK hP) hS hA hl.1 rfl rfl (Nat.le_of_ble_eq_true rfl) ⟨Nat.zero_le _, Nat.zero_le _⟩ dX1_closed_8 (fun r_ H locs hr_ hT hS => ?_)
  have hP := hT _ hP
  subst hr_
  exact xRO.ret hx hb hr rfl hlocks hS dX1_closed_11 (by rw [exC_eq hC hs]; rfl)
end
section
/-! ConceptLattice: setRow, stepClosed, isLeast, coversOf -/

set_option maxHeartbeats 4000000 in
set_option maxRecDepth 100000 in
theorem m_X1_setRow {l : Launch} {D : va_G} {d z : ClassId} {h : Nat → Nat} {n m kc kp ku : Nat} {R C cs ps pe lv : Nat → Nat} (hn : n ≤ 8) (hm : m ≤ 7) (hC : Cols n m R C) {j s : Nat} (hj : j < n) (hs : s < 2 ^ m) : xRV (Nat → Nat) l yX1_setRow cX1_setRow 5 0 0 D (tyX d z) (xw h d n m kc kp ku R C cs ps pe lv) [.ref (h 0), .int (nI j), .int (nI s)] (fun C1 => Cols n m (un R j s) C1) (fun C1 => xw h d n m kc kp 0 (un R j s) C1 cs ps pe lv) := by
  refine xRV.of (by decide) (Nat.le_of_ble_eq_true rfl) ?_
  intro p e S M below meth c hB hK hP hD ls hl
  obtain ⟨hx, hb, hr, hml, hown, hlocks, hts⟩ := hB
  have hown : S.vm.findClass RX1 = some M.cls := hown
  have hS : va_S (va_A (xw h d n m kc kp ku R C cs ps pe lv) S.heap.size) S.heap S.heap [] := va_S.rf
  have hA : ∀ q : Nat, S.heap.size ≤ q → (va_A (xw h d n m kc kp ku R C cs ps pe lv) S.heap.size) q := fun _ h => Or.inr h
  have hl : lv_has ls 5 [(0, .ref (h 0)), (1, .int (nI j)), (2, .int (nI s))] := hl
  refine lv_aload_n hx hb dX1_setRow_0 rfl (lv_at hl 0 rfl) ?_
  refine xg_rows hx hb hts hown hK hP dX1_setRow_1 ?_
  refine lv_iload_n hx hb dX1_setRow_4 rfl (lv_at hl 1 rfl) ?_
  refine lv_iload_n hx hb dX1_setRow_5 rfl (lv_at hl 2 rfl) ?_
  refine xs_rows hx hb hK hP hD hS (by omega) dX1_setRow_6 (fun H locs hP hD hS => ?_)
  refine lv_iconst (v := nI 0) hx hb dX1_setRow_7 (by decide) ?_
  refine lv_istore_n (lv' := [(3, .int (nI 0)), (0, .ref (h 0)), (1, .int (nI j)), (2, .int (nI s))]) hx hb dX1_setRow_8 rfl hl (by decide) rfl (fun ls hl => ?_)
  refine nv_loop (fun (i : Nat) (H : Heap) (locs : List Loc) (ls : Array Slot) => ∃ (C1 : Nat → Nat), ColsTo n m R C j s i C1 ∧ va_P D clX (xw h d n m kc kp ku (un R j s) C1 cs ps pe lv) H ∧ va_D (va_A (xw h d n m kc kp ku R C cs ps pe lv) S.heap.size) (xw h d n m kc kp ku (un R j s) C1 cs ps pe lv) ∧ va_S (va_A (xw h d n m kc kp ku R C cs ps pe lv) S.heap.size) S.heap H locs ∧ lv_has ls 5 [(3, .int (nI i)), (0, .ref (h 0)), (1, .int (nI j)), (2, .int (nI s))]) (m) (fun i H locs ls hi_i hI ih_i => ?_) (fun H locs ls hI => ?_) 0 (Nat.zero_le _) ⟨C, ColsTo.start n m R C j s, hP, hD, hS, lv_sub hl [0, 1, 2, 3] rfl⟩
  · obtain ⟨C1, h_C, hP, hD, hS, hl⟩ := hI
    refine lv_iload_n hx hb dX1_setRow_9 rfl (lv_at hl 0 rfl) ?_
    refine lv_aload_n hx hb dX1_setRow_10 rfl (lv_at hl 1 rfl) ?_
    refine xg_m hx hb hts hown hK hP dX1_setRow_11 ?_
    refine nv_ge hx hb (by omega) (by omega) (tgt := 66) dX1_setRow_14 (by decide) (fun c_14 => ?_) (fun c_14 => ?_)
    · exact absurd hi_i (by omega)
    · refine lv_iconst (v := nI 1) hx hb dX1_setRow_17 (by decide) ?_
      refine lv_iload_n hx hb dX1_setRow_18 rfl (lv_at hl 2 rfl) ?_
      refine nv_ishl hx hb (by omega) dX1_setRow_19 ?_
      refine lv_istore (lv' := [(4, .int (nI (2 ^ j))), (3, .int (nI i)), (0, .ref (h 0)), (1, .int (nI j)), (2, .int (nI s))]) hx hb dX1_setRow_20 hl (by decide) rfl (fun ls hl => ?_)
      refine lv_aload_n hx hb dX1_setRow_22 rfl (lv_at hl 2 rfl) ?_
      refine xg_columns hx hb hts hown hK hP dX1_setRow_23 ?_
      refine lv_iload_n hx hb dX1_setRow_26 rfl (lv_at hl 1 rfl) ?_
      refine lv_iload_n hx hb dX1_setRow_27 rfl (lv_at hl 4 rfl) ?_
      refine lv_iload_n hx hb dX1_setRow_28 rfl (lv_at hl 1 rfl) ?_
      refine nv_bit hx hb (set_lt hm hs) (by omega) dX1_setRow_29 dX1_setRow_30 dX1_setRow_31 ?_
      refine lv_iconst (v := nI 1) hx hb dX1_setRow_32 (by decide) ?_
      refine nv_ne hx hb (bN_lt _ _) (by decide) (tgt := 48) dX1_setRow_33 (by decide) (fun c_33 => ?_) (fun c_33 => ?_)
      · refine lv_aload_n hx hb dX1_setRow_48 rfl (lv_at hl 2 rfl) ?_
        refine xg_columns hx hb hts hown hK hP dX1_setRow_49 ?_
        refine lv_iload_n hx hb dX1_setRow_52 rfl (lv_at hl 1 rfl) ?_
        refine xl_columns hx hb hK hP (by omega) dX1_setRow_53 ?_
        refine lv_iload hx hb dX1_setRow_54 (lv_at hl 0 rfl) ?_
        refine nv_andn hx hb dX1_setRow_56 dX1_setRow_57 dX1_setRow_58 ?_
        refine xs_columns hx hb hK hP hD hS (by omega) dX1_setRow_59 (fun H locs hP hD hS => ?_)
        refine lv_iinc (v := nI (i + 1)) (lv' := [(3, .int (nI (i + 1))), (4, .int (nI (2 ^ j))), (0, .ref (h 0)), (1, .int (nI j)), (2, .int (nI s))]) hx hb dX1_setRow_60 hl (k := 1) rfl (nI_1 _) (by decide) rfl (fun ls hl => ?_)
        refine lv_goto (tgt := 9) hx hb dX1_setRow_63 (by decide) ?_
        exact ih_i _ _ _ ⟨un C1 i (nd (C1 i) (2 ^ j)), h_C.zero hC hi_i c_33, hP, hD, hS, lv_sub hl [0, 2, 3, 4] rfl⟩
      · refine lv_aload_n hx hb dX1_setRow_36 rfl (lv_at hl 2 rfl) ?_
        refine xg_columns hx hb hts hown hK hP dX1_setRow_37 ?_
        refine lv_iload_n hx hb dX1_setRow_40 rfl (lv_at hl 1 rfl) ?_
        refine xl_columns hx hb hK hP (by omega) dX1_setRow_41 ?_
        refine lv_iload hx hb dX1_setRow_42 (lv_at hl 0 rfl) ?_
        refine nv_ior hx hb dX1_setRow_44 ?_
        refine lv_goto (tgt := 59) hx hb dX1_setRow_45 (by decide) ?_
        refine xs_columns hx hb hK hP hD hS (by omega) dX1_setRow_59 (fun H locs hP hD hS => ?_)
        refine lv_iinc (v := nI (i + 1)) (lv' := [(3, .int (nI (i + 1))), (4, .int (nI (2 ^ j))), (0, .ref (h 0)), (1, .int (nI j)), (2, .int (nI s))]) hx hb dX1_setRow_60 hl (k := 1) rfl (nI_1 _) (by decide) rfl (fun ls hl => ?_)
        refine lv_goto (tgt := 9) hx hb dX1_setRow_63 (by decide) ?_
        exact ih_i _ _ _ ⟨un C1 i (C1 i ||| 2 ^ j), h_C.one hC hi_i c_33, hP, hD, hS, lv_sub hl [0, 2, 3, 4] rfl⟩
  · obtain ⟨C1, h_C, hP, hD, hS, hl⟩ := hI
    refine lv_iload_n hx hb dX1_setRow_9 rfl (lv_at hl 0 rfl) ?_
    refine lv_aload_n hx hb dX1_setRow_10 rfl (lv_at hl 1 rfl) ?_
    refine xg_m hx hb hts hown hK hP dX1_setRow_11 ?_
    refine nv_ge hx hb (by omega) (by omega) (tgt := 66) dX1_setRow_14 (by decide) (fun c_14 => ?_) (fun c_14 => ?_)
    · refine lv_aload_n hx hb dX1_setRow_66 rfl (lv_at hl 1 rfl) ?_
      refine lv_iconst (v := nI 0) hx hb dX1_setRow_67 (by decide) ?_
      refine xp_current hx hb hts hown hK hP hD hS (by decide) (by decide) dX1_setRow_68 (fun H locs hP hD hS => ?_)
      exact xRV.ret hx hb hr hlocks hS dX1_setRow_71 _ (ColsTo.done h_C) hP hD
    · exact absurd c_14 (by omega)

set_option maxHeartbeats 4000000 in
set_option maxRecDepth 100000 in
theorem m_X1_stepClosed {l : Launch} {D : va_G} {d z : ClassId} {h : Nat → Nat} {n m kc kp ku : Nat} {R C cs ps pe lv : Nat → Nat} (hn : n ≤ 8) (hm : m ≤ 7) (hC : Cols n m R C) {s : Nat} (hs : s < 2 ^ m - 1) : xRO l yX1_stepClosed cX1_stepClosed 6 (some .int) 2 45 D (tyX d z) (xw h d n m kc kp ku R C cs ps pe lv) [.ref (h 0), .int (nI s)] (fun r => ∃ X, r = nI X ∧ LeastAb m (fun t => clo n m R t = t) s X) := by
  refine xRO.of (by decide) (Nat.le_of_ble_eq_true rfl) ?_
  intro p e S M below meth c hB hK hP ls hl
  obtain ⟨hx, hb, hr, hml, hown, hlocks, hts⟩ := hB
  have hown : S.vm.findClass RX1 = some M.cls := hown
  have hS : va_S (frX S) S.heap S.heap [] := va_S.rf
  have hA : ∀ q : Nat, S.heap.size ≤ q → (frX S) q := fun _ h => h
  have hl : lv_has ls 6 [(0, .ref (h 0)), (1, .int (nI s))] := hl
  have hs1 : s < 2 ^ m := by omega
  refine lv_iconst (v := nI 0) hx hb dX1_stepClosed_0 (by decide) ?_
  refine lv_istore_n (lv' := [(2, .int (nI 0)), (0, .ref (h 0)), (1, .int (nI s))]) hx hb dX1_stepClosed_1 rfl hl (by decide) rfl (fun ls hl => ?_)
  refine nv_loop (fun (i : Nat) (H : Heap) (locs : List Loc) (ls : Array Slot) => (∀ a', a' < i → ¬ hit (clo n m R) s a') ∧ va_P D clX (xw h d n m kc kp ku R C cs ps pe lv) H ∧ va_S (frX S) S.heap H locs ∧ lv_has ls 6 [(2, .int (nI i)), (0, .ref (h 0)), (1, .int (nI s))]) (m) (fun i H locs ls hi_i hI ih_i => ?_) (fun H locs ls hI => ?_) 0 (Nat.zero_le _) ⟨fun a' ha => absurd ha (by omega), hP, hS, lv_sub hl [0, 1, 2] rfl⟩
  · obtain ⟨h_no, hP, hS, hl⟩ := hI
    refine lv_iload_n hx hb dX1_stepClosed_2 rfl (lv_at hl 0 rfl) ?_
    refine lv_aload_n hx hb dX1_stepClosed_3 rfl (lv_at hl 1 rfl) ?_
    refine xg_m hx hb hts hown hK hP dX1_stepClosed_4 ?_
    refine nv_ge hx hb (by omega) (by omega) (tgt := 65) dX1_stepClosed_7 (by decide) (fun c_7 => ?_) (fun c_7 => ?_)
    · exact absurd hi_i (by omega)
    · refine lv_iconst (v := nI 1) hx hb dX1_stepClosed_10 (by decide) ?_
      refine lv_iload_n hx hb dX1_stepClosed_11 rfl (lv_at hl 0 rfl) ?_
      refine nv_ishl hx hb (by omega) dX1_stepClosed_12 ?_
      refine lv_istore_n (lv' := [(3, .int (nI (2 ^ i))), (2, .int (nI i)), (0, .ref (h 0)), (1, .int (nI s))]) hx hb dX1_stepClosed_13 rfl hl (by decide) rfl (fun ls hl => ?_)
      refine lv_iload_n hx hb dX1_stepClosed_14 rfl (lv_at hl 3 rfl) ?_
      refine lv_iload_n hx hb dX1_stepClosed_15 rfl (lv_at hl 0 rfl) ?_
      refine nv_iand hx hb dX1_stepClosed_16 ?_
      refine nv_ne0 hx hb (Nat.lt_of_le_of_lt Nat.and_le_left (by have := p7 hm; omega)) (tgt := 59) dX1_stepClosed_17 (by decide) (fun c_17 => ?_) (fun c_17 => ?_)
      · refine lv_iinc (v := nI (i + 1)) (lv' := [(2, .int (nI (i + 1))), (3, .int (nI (2 ^ i))), (0, .ref (h 0)), (1, .int (nI s))]) hx hb dX1_stepClosed_59 hl (k := 1) rfl (nI_1 _) (by decide) rfl (fun ls hl => ?_)
        refine lv_goto (tgt := 2) hx hb dX1_stepClosed_62 (by decide) ?_
        exact ih_i _ _ _ ⟨lt_s h_no (fun z => c_17 (and_p.mpr z.1)), hP, hS, lv_sub hl [0, 2, 3] rfl⟩
      · refine lv_iload_n hx hb dX1_stepClosed_20 rfl (lv_at hl 3 rfl) ?_
        refine lv_iconst (v := nI 2) hx hb dX1_stepClosed_21 (by decide) ?_
        refine lv_iload_n hx hb dX1_stepClosed_22 rfl (lv_at hl 0 rfl) ?_
        refine nv_imul hx hb dX1_stepClosed_23 ?_
        refine lv_iconst (v := nI 1) hx hb dX1_stepClosed_24 (by decide) ?_
        refine nv_isub hx hb (pw2_1 _) dX1_stepClosed_25 ?_
        refine nv_andn hx hb dX1_stepClosed_26 dX1_stepClosed_27 dX1_stepClosed_28 ?_
        refine lv_istore (lv' := [(4, .int (nI (nd s ((2 * (2 ^ i)) - 1)))), (3, .int (nI (2 ^ i))), (2, .int (nI i)), (0, .ref (h 0)), (1, .int (nI s))]) hx hb dX1_stepClosed_29 hl (by decide) rfl (fun ls hl => ?_)
        refine lv_aload_n hx hb dX1_stepClosed_31 rfl (lv_at hl 3 rfl) ?_
        refine lv_iload hx hb dX1_stepClosed_32 (lv_at hl 0 rfl) ?_
        refine lv_iload_n hx hb dX1_stepClosed_34 rfl (lv_at hl 1 rfl) ?_
        refine nv_ior hx hb dX1_stepClosed_35 ?_
        refine xRO.call (m_X1_closed hn hm hC (x_lt hs1 hi_i)) ⟨hx, hb, hml, hown, hts⟩ (cwV 1 hts (lw_V q128 q130 qs6 q27 q131) rfl rfl rfl (by decide +kernel) ⟨Nat.le_of_ble_eq_true rfl, Nat.le_of_ble_eq_true rfl⟩) hK hP (x_rc hK hP) hS hA hl.1 rfl rfl (Nat.le_of_ble_eq_true rfl) ⟨Nat.zero_le _, Nat.zero_le _⟩ dX1_stepClosed_36 (fun r_ H locs hr_ hT hS => ?_)
        have hP := hT _ hP
        subst hr_
        refine lv_istore (lv' := [(5, .int (nI (clo n m R ((nd s ((2 * (2 ^ i)) - 1)) ||| (2 ^ i))))), (4, .int (nI (nd s ((2 * (2 ^ i)) - 1)))), (3, .int (nI (2 ^ i))), (2, .int (nI i)), (0, .ref (h 0)), (1, .int (nI s))]) hx hb dX1_stepClosed_39 hl (by decide) rfl (fun ls hl => ?_)
        refine lv_iload hx hb dX1_stepClosed_41 (lv_at hl 0 rfl) ?_
        refine lv_iconst (v := nI 2) hx hb dX1_stepClosed_43 (by decide) ?_
        refine lv_iload_n hx hb dX1_stepClosed_44 rfl (lv_at hl 2 rfl) ?_
        refine nv_imul hx hb dX1_stepClosed_45 ?_
        refine lv_iconst (v := nI 1) hx hb dX1_stepClosed_46 (by decide) ?_
        refine nv_isub hx hb (pw2_1 _) dX1_stepClosed_47 ?_
        refine nv_andn hx hb dX1_stepClosed_48 dX1_stepClosed_49 dX1_stepClosed_50 ?_
        refine lv_iload hx hb dX1_stepClosed_51 (lv_at hl 1 rfl) ?_
        refine nv_ne hx hb (Nat.lt_of_le_of_lt (nd_le _ _) (set_lt hm ((clo_op n m R).1 _ (x_lt hs1 hi_i)))) (Nat.lt_of_le_of_lt (nd_le _ _) (by have := p7 hm; omega)) (tgt := 59) dX1_stepClosed_53 (by decide) (fun c_53 => ?_) (fun c_53 => ?_)
        · refine lv_iinc (v := nI (i + 1)) (lv' := [(2, .int (nI (i + 1))), (5, .int (nI (clo n m R ((nd s ((2 * (2 ^ i)) - 1)) ||| (2 ^ i))))), (4, .int (nI (nd s ((2 * (2 ^ i)) - 1)))), (3, .int (nI (2 ^ i))), (0, .ref (h 0)), (1, .int (nI s))]) hx hb dX1_stepClosed_59 hl (k := 3) rfl (nI_1 _) (by decide) rfl (fun ls hl => ?_)
          refine lv_goto (tgt := 2) hx hb dX1_stepClosed_62 (by decide) ?_
          exact ih_i _ _ _ ⟨lt_s h_no (fun z => c_53 z.2), hP, hS, lv_sub hl [0, 4, 5] rfl⟩
        · refine lv_iload hx hb dX1_stepClosed_56 (lv_at hl 0 rfl) ?_
          exact xRO.ret hx hb hr rfl hlocks hS dX1_stepClosed_58 (⟨_, rfl, step_hit (clo_least (clo_op n m R)) hs1 hi_i ⟨and_p.mp c_17, c_53⟩ h_no⟩)
  · obtain ⟨h_no, hP, hS, hl⟩ := hI
    exact absurd h_no (fun z => step_none (clo_least (clo_op n m R)) hs z)

set_option maxHeartbeats 4000000 in
set_option maxRecDepth 100000 in
theorem m_X1_isLeast {l : Launch} {D : va_G} {d z : ClassId} {h : Nat → Nat} {n m kc kp ku : Nat} {R C cs ps pe lv : Nat → Nat} (hn : n ≤ 8) (hm : m ≤ 7) (hC : Cols n m R C) {s a : Nat} (hs : s < 2 ^ m) (ha : a < m) : xRO l yX1_isLeast cX1_isLeast 6 (some .boolean) 2 45 D (tyX d z) (xw h d n m kc kp ku R C cs ps pe lv) [.ref (h 0), .int (nI s), .int (nI a)] (fun r => r = nI (lstB m (clo n m R) s a).toNat) := by
  refine xRO.of (by decide) (Nat.le_of_ble_eq_true rfl) ?_
  intro p e S M below meth c hB hK hP ls hl
  obtain ⟨hx, hb, hr, hml, hown, hlocks, hts⟩ := hB
  have hown : S.vm.findClass RX1 = some M.cls := hown
  have hS : va_S (frX S) S.heap S.heap [] := va_S.rf
  have hA : ∀ q : Nat, S.heap.size ≤ q → (frX S) q := fun _ h => h
  have hl : lv_has ls 6 [(0, .ref (h 0)), (1, .int (nI s)), (2, .int (nI a))] := hl
  refine lv_aload_n hx hb dX1_isLeast_0 rfl (lv_at hl 0 rfl) ?_
  refine lv_iload_n hx hb dX1_isLeast_1 rfl (lv_at hl 1 rfl) ?_
  refine lv_iconst (v := nI 1) hx hb dX1_isLeast_2 (by decide) ?_
  refine lv_iload_n hx hb dX1_isLeast_3 rfl (lv_at hl 2 rfl) ?_
  refine nv_ishl hx hb (by omega) dX1_isLeast_4 ?_
  refine nv_ior hx hb dX1_isLeast_5 ?_
  refine xRO.call (m_X1_closed hn hm hC (Nat.or_lt_two_pow hs (pow_b ha))) ⟨hx, hb, hml, hown, hts⟩ (cwV 1 hts (lw_V q128 q130 qs6 q27 q131) rfl rfl rfl (by decide +kernel) ⟨Nat.le_of_ble_eq_true rfl, Nat.le_of_ble_eq_true rfl⟩) hK hP (x_rc hK hP) hS hA hl.1 rfl rfl (Nat.le_of_ble_eq_true rfl) ⟨Nat.zero_le _, Nat.zero_le _⟩ dX1_isLeast_6 (fun r_ H locs hr_ hT hS => ?_)
  have hP := hT _ hP
  subst hr_
  refine lv_istore_n (lv' := [(3, .int (nI (clo n m R (s ||| (2 ^ a))))), (0, .ref (h 0)), (1, .int (nI s)), (2, .int (nI a))]) hx hb dX1_isLeast_9 rfl hl (by decide) rfl (fun ls hl => ?_)
  refine lv_iconst (v := nI 0) hx hb dX1_isLeast_10 (by decide) ?_
  refine lv_istore (lv' := [(4, .int (nI 0)), (3, .int (nI (clo n m R (s ||| (2 ^ a))))), (0, .ref (h 0)), (1, .int (nI s)), (2, .int (nI a))]) hx hb dX1_isLeast_11 hl (by decide) rfl (fun ls hl => ?_)
  refine nv_loop (fun (i : Nat) (H : Heap) (locs : List Loc) (ls : Array Slot) => (∀ b, b < i → (clo n m R (s ||| 2 ^ a)).testBit b = true → s.testBit b = false → clo n m R (s ||| 2 ^ b) = clo n m R (s ||| 2 ^ a) ∧ a ≤ b) ∧ va_P D clX (xw h d n m kc kp ku R C cs ps pe lv) H ∧ va_S (frX S) S.heap H locs ∧ lv_has ls 6 [(4, .int (nI i)), (3, .int (nI (clo n m R (s ||| 2 ^ a)))), (0, .ref (h 0)), (1, .int (nI s)), (2, .int (nI a))]) (m) (fun i H locs ls hi_i hI ih_i => ?_) (fun H locs ls hI => ?_) 0 (Nat.zero_le _) ⟨fun b hb => absurd hb (by omega), hP, hS, lv_sub hl [0, 1, 2, 3, 4] rfl⟩
  · obtain ⟨h_l, hP, hS, hl⟩ := hI
    refine lv_iload hx hb dX1_isLeast_13 (lv_at hl 0 rfl) ?_
    refine lv_aload_n hx hb dX1_isLeast_15 rfl (lv_at hl 2 rfl) ?_
    refine xg_m hx hb hts hown hK hP dX1_isLeast_16 ?_
    refine nv_ge hx hb (by omega) (by omega) (tgt := 73) dX1_isLeast_19 (by decide) (fun c_19 => ?_) (fun c_19 => ?_)
    · exact absurd hi_i (by omega)
    · refine lv_iload_n hx hb dX1_isLeast_22 rfl (lv_at hl 1 rfl) ?_
      refine lv_iload hx hb dX1_isLeast_23 (lv_at hl 0 rfl) ?_
      refine nv_bit hx hb (set_lt hm ((clo_op n m R).1 _ (Nat.or_lt_two_pow hs (pow_b ha)))) (by omega) dX1_isLeast_25 dX1_isLeast_26 dX1_isLeast_27 ?_
      refine lv_iconst (v := nI 1) hx hb dX1_isLeast_28 (by decide) ?_
      refine nv_ne hx hb (bN_lt _ _) (by decide) (tgt := 67) dX1_isLeast_29 (by decide) (fun c_29 => ?_) (fun c_29 => ?_)
      · refine lv_iinc (v := nI (i + 1)) (lv' := [(4, .int (nI (i + 1))), (3, .int (nI (clo n m R (s ||| 2 ^ a)))), (0, .ref (h 0)), (1, .int (nI s)), (2, .int (nI a))]) hx hb dX1_isLeast_67 hl (k := 0) rfl (nI_1 _) (by decide) rfl (fun ls hl => ?_)
        refine lv_goto (tgt := 13) hx hb dX1_isLeast_70 (by decide) ?_
        exact ih_i _ _ _ ⟨lt_s h_l (fun z _ => absurd (bN_1.mpr z) c_29), hP, hS, lv_sub hl [0, 1, 2, 3, 4] rfl⟩
      · refine lv_iload_n hx hb dX1_isLeast_32 rfl (lv_at hl 3 rfl) ?_
        refine lv_iload hx hb dX1_isLeast_33 (lv_at hl 0 rfl) ?_
        refine nv_bit hx hb (set_lt hm hs) (by omega) dX1_isLeast_35 dX1_isLeast_36 dX1_isLeast_37 ?_
        refine nv_ne0 hx hb (bN_lt _ _) (tgt := 67) dX1_isLeast_38 (by decide) (fun c_38 => ?_) (fun c_38 => ?_)
        · refine lv_iinc (v := nI (i + 1)) (lv' := [(4, .int (nI (i + 1))), (3, .int (nI (clo n m R (s ||| 2 ^ a)))), (0, .ref (h 0)), (1, .int (nI s)), (2, .int (nI a))]) hx hb dX1_isLeast_67 hl (k := 0) rfl (nI_1 _) (by decide) rfl (fun ls hl => ?_)
          refine lv_goto (tgt := 13) hx hb dX1_isLeast_70 (by decide) ?_
          exact ih_i _ _ _ ⟨lt_s h_l (fun _ z => absurd (bN_0.mpr z) c_38), hP, hS, lv_sub hl [0, 1, 2, 3, 4] rfl⟩
        · refine lv_aload_n hx hb dX1_isLeast_41 rfl (lv_at hl 2 rfl) ?_
          refine lv_iload_n hx hb dX1_isLeast_42 rfl (lv_at hl 3 rfl) ?_
          refine lv_iconst (v := nI 1) hx hb dX1_isLeast_43 (by decide) ?_
          refine lv_iload hx hb dX1_isLeast_44 (lv_at hl 0 rfl) ?_
          refine nv_ishl hx hb (by omega) dX1_isLeast_46 ?_
          refine nv_ior hx hb dX1_isLeast_47 ?_
          refine xRO.call (m_X1_closed hn hm hC (Nat.or_lt_two_pow hs (pow_b hi_i))) ⟨hx, hb, hml, hown, hts⟩ (cwV 1 hts (lw_V q128 q130 qs6 q27 q131) rfl rfl rfl (by decide +kernel) ⟨Nat.le_of_ble_eq_true rfl, Nat.le_of_ble_eq_true rfl⟩) hK hP (x_rc hK hP) hS hA hl.1 rfl rfl (Nat.le_of_ble_eq_true rfl) ⟨Nat.zero_le _, Nat.zero_le _⟩ dX1_isLeast_48 (fun r_ H locs hr_ hT hS => ?_)
          have hP := hT _ hP
          subst hr_
          refine lv_istore (lv' := [(5, .int (nI (clo n m R (s ||| (2 ^ i))))), (4, .int (nI i)), (3, .int (nI (clo n m R (s ||| 2 ^ a)))), (0, .ref (h 0)), (1, .int (nI s)), (2, .int (nI a))]) hx hb dX1_isLeast_51 hl (by decide) rfl (fun ls hl => ?_)
          refine lv_iload hx hb dX1_isLeast_53 (lv_at hl 0 rfl) ?_
          refine lv_iload_n hx hb dX1_isLeast_55 rfl (lv_at hl 2 rfl) ?_
          refine nv_ne hx hb (set_lt hm ((clo_op n m R).1 _ (Nat.or_lt_two_pow hs (pow_b hi_i)))) (set_lt hm ((clo_op n m R).1 _ (Nat.or_lt_two_pow hs (pow_b ha)))) (tgt := 65) dX1_isLeast_56 (by decide) (fun c_56 => ?_) (fun c_56 => ?_)
          · refine lv_iconst (v := nI 0) hx hb dX1_isLeast_65 (by decide) ?_
            exact xRO.ret hx hb hr (by decide) hlocks hS dX1_isLeast_66 (by rw [lst_no hi_i c_29 c_38 (fun z => c_56 z.1)]; rfl)
          · refine lv_iload hx hb dX1_isLeast_59 (lv_at hl 1 rfl) ?_
            refine lv_iload_n hx hb dX1_isLeast_61 rfl (lv_at hl 5 rfl) ?_
            refine nv_ge hx hb (by omega) (by omega) (tgt := 67) dX1_isLeast_62 (by decide) (fun c_62 => ?_) (fun c_62 => ?_)
            · refine lv_iinc (v := nI (i + 1)) (lv' := [(4, .int (nI (i + 1))), (5, .int (nI (clo n m R (s ||| (2 ^ i))))), (3, .int (nI (clo n m R (s ||| 2 ^ a)))), (0, .ref (h 0)), (1, .int (nI s)), (2, .int (nI a))]) hx hb dX1_isLeast_67 hl (k := 1) rfl (nI_1 _) (by decide) rfl (fun ls hl => ?_)
              refine lv_goto (tgt := 13) hx hb dX1_isLeast_70 (by decide) ?_
              exact ih_i _ _ _ ⟨lt_s h_l (fun _ _ => ⟨c_56, c_62⟩), hP, hS, lv_sub hl [0, 2, 3, 4, 5] rfl⟩
            · refine lv_iconst (v := nI 0) hx hb dX1_isLeast_65 (by decide) ?_
              exact xRO.ret hx hb hr (by decide) hlocks hS dX1_isLeast_66 (by rw [lst_no hi_i c_29 c_38 (fun z => absurd z.2 (by omega))]; rfl)
  · obtain ⟨h_l, hP, hS, hl⟩ := hI
    refine lv_iload hx hb dX1_isLeast_13 (lv_at hl 0 rfl) ?_
    refine lv_aload_n hx hb dX1_isLeast_15 rfl (lv_at hl 2 rfl) ?_
    refine xg_m hx hb hts hown hK hP dX1_isLeast_16 ?_
    refine nv_ge hx hb (by omega) (by omega) (tgt := 73) dX1_isLeast_19 (by decide) (fun c_19 => ?_) (fun c_19 => ?_)
    · refine lv_iconst (v := nI 1) hx hb dX1_isLeast_73 (by decide) ?_
      exact xRO.ret hx hb hr (by decide) hlocks hS dX1_isLeast_74 (by rw [lstB_t.mpr h_l]; rfl)
    · exact absurd c_19 (by omega)

set_option maxHeartbeats 4000000 in
set_option maxRecDepth 100000 in
theorem m_X1_coversOf {l : Launch} {D : va_G} {d z : ClassId} {h : Nat → Nat} {n m kc kp ku : Nat} {R C cs ps pe lv : Nat → Nat} (hn : n ≤ 8) (hm : m ≤ 7) (hC : Cols n m R C) {s : Nat} (hs : s < 2 ^ m) (hcl : clo n m R s = s) : xRO l yX1_coversOf cX1_coversOf 4 (some .int) 3 70 D (tyX d z) (xw h d n m kc kp ku R C cs ps pe lv) [.ref (h 0), .int (nI s)] (fun r => r = nI (covN m (clo n m R) s)) := by
  refine xRO.of (by decide) (Nat.le_of_ble_eq_true rfl) ?_
  intro p e S M below meth c hB hK hP ls hl
  obtain ⟨hx, hb, hr, hml, hown, hlocks, hts⟩ := hB
  have hown : S.vm.findClass RX1 = some M.cls := hown
  have hS : va_S (frX S) S.heap S.heap [] := va_S.rf
  have hA : ∀ q : Nat, S.heap.size ≤ q → (frX S) q := fun _ h => h
  have hl : lv_has ls 4 [(0, .ref (h 0)), (1, .int (nI s))] := hl
  refine lv_iconst (v := nI 0) hx hb dX1_coversOf_0 (by decide) ?_
  refine lv_istore_n (lv' := [(2, .int (nI 0)), (0, .ref (h 0)), (1, .int (nI s))]) hx hb dX1_coversOf_1 rfl hl (by decide) rfl (fun ls hl => ?_)
  refine lv_iconst (v := nI 0) hx hb dX1_coversOf_2 (by decide) ?_
  refine lv_istore_n (lv' := [(3, .int (nI 0)), (2, .int (nI 0)), (0, .ref (h 0)), (1, .int (nI s))]) hx hb dX1_coversOf_3 rfl hl (by decide) rfl (fun ls hl => ?_)
  refine nv_loop (fun (i : Nat) (H : Heap) (locs : List Loc) (ls : Array Slot) => ∃ (r : Nat), r = (enm (fun a => !s.testBit a && lstB m (clo n m R) s a) i).length ∧ va_P D clX (xw h d n m kc kp ku R C cs ps pe lv) H ∧ va_S (frX S) S.heap H locs ∧ lv_has ls 4 [(3, .int (nI i)), (2, .int (nI r)), (0, .ref (h 0)), (1, .int (nI s))]) (m) (fun i H locs ls hi_i hI ih_i => ?_) (fun H locs ls hI => ?_) 0 (Nat.zero_le _) ⟨0, rfl, hP, hS, lv_sub hl [0, 1, 2, 3] rfl⟩
  · obtain ⟨r, e_r, hP, hS, hl⟩ := hI
    refine lv_iload_n hx hb dX1_coversOf_4 rfl (lv_at hl 0 rfl) ?_
    refine lv_aload_n hx hb dX1_coversOf_5 rfl (lv_at hl 2 rfl) ?_
    refine xg_m hx hb hts hown hK hP dX1_coversOf_6 ?_
    refine nv_ge hx hb (by omega) (by omega) (tgt := 38) dX1_coversOf_9 (by decide) (fun c_9 => ?_) (fun c_9 => ?_)
    · exact absurd hi_i (by omega)
    · refine lv_iload_n hx hb dX1_coversOf_12 rfl (lv_at hl 3 rfl) ?_
      refine lv_iload_n hx hb dX1_coversOf_13 rfl (lv_at hl 0 rfl) ?_
      refine nv_bit hx hb (set_lt hm hs) (by omega) dX1_coversOf_14 dX1_coversOf_15 dX1_coversOf_16 ?_
      refine nv_ne0 hx hb (bN_lt _ _) (tgt := 32) dX1_coversOf_17 (by decide) (fun c_17 => ?_) (fun c_17 => ?_)
      · refine lv_iinc (v := nI (i + 1)) (lv' := [(3, .int (nI (i + 1))), (2, .int (nI r)), (0, .ref (h 0)), (1, .int (nI s))]) hx hb dX1_coversOf_32 hl (k := 0) rfl (nI_1 _) (by decide) rfl (fun ls hl => ?_)
        refine lv_goto (tgt := 4) hx hb dX1_coversOf_35 (by decide) ?_
        exact ih_i _ _ _ ⟨r, by rw [e_r, enm_no]; simp [bit_1 c_17], hP, hS, lv_sub hl [0, 1, 2, 3] rfl⟩
      · refine lv_aload_n hx hb dX1_coversOf_20 rfl (lv_at hl 2 rfl) ?_
        refine lv_iload_n hx hb dX1_coversOf_21 rfl (lv_at hl 3 rfl) ?_
        refine lv_iload_n hx hb dX1_coversOf_22 rfl (lv_at hl 0 rfl) ?_
        refine xRO.call (m_X1_isLeast hn hm hC hs hi_i) ⟨hx, hb, hml, hown, hts⟩ (cwV 2 hts (lw_V q180 q182 qs12 q27 q183) rfl rfl rfl (by decide +kernel) ⟨Nat.le_of_ble_eq_true rfl, Nat.le_of_ble_eq_true rfl⟩) hK hP (x_rc hK hP) hS hA hl.1 rfl rfl (Nat.le_of_ble_eq_true rfl) ⟨Nat.zero_le _, Nat.zero_le _⟩ dX1_coversOf_23 (fun r_ H locs hr_ hT hS => ?_)
        have hP := hT _ hP
        subst hr_
        refine nv_eqB hx hb (tgt := 32) dX1_coversOf_26 (by decide) (fun c_26 => ?_) (fun c_26 => ?_)
        · refine lv_iinc (v := nI (i + 1)) (lv' := [(3, .int (nI (i + 1))), (2, .int (nI r)), (0, .ref (h 0)), (1, .int (nI s))]) hx hb dX1_coversOf_32 hl (k := 0) rfl (nI_1 _) (by decide) rfl (fun ls hl => ?_)
          refine lv_goto (tgt := 4) hx hb dX1_coversOf_35 (by decide) ?_
          exact ih_i _ _ _ ⟨r, by rw [e_r, enm_no]; simp [c_26], hP, hS, lv_sub hl [0, 1, 2, 3] rfl⟩
        · refine lv_iinc (v := nI (r + 1)) (lv' := [(2, .int (nI (r + 1))), (3, .int (nI i)), (0, .ref (h 0)), (1, .int (nI s))]) hx hb dX1_coversOf_29 hl (k := 1) rfl (nI_1 _) (by decide) rfl (fun ls hl => ?_)
          refine lv_iinc (v := nI (i + 1)) (lv' := [(3, .int (nI (i + 1))), (2, .int (nI (r + 1))), (0, .ref (h 0)), (1, .int (nI s))]) hx hb dX1_coversOf_32 hl (k := 1) rfl (nI_1 _) (by decide) rfl (fun ls hl => ?_)
          refine lv_goto (tgt := 4) hx hb dX1_coversOf_35 (by decide) ?_
          exact ih_i _ _ _ ⟨r + 1, by rw [e_r, enm_yes]; simp [bN_0.mp c_17, c_26], hP, hS, lv_sub hl [0, 1, 2, 3] rfl⟩
  · obtain ⟨r, e_r, hP, hS, hl⟩ := hI
    refine lv_iload_n hx hb dX1_coversOf_4 rfl (lv_at hl 0 rfl) ?_
    refine lv_aload_n hx hb dX1_coversOf_5 rfl (lv_at hl 2 rfl) ?_
    refine xg_m hx hb hts hown hK hP dX1_coversOf_6 ?_
    refine nv_ge hx hb (by omega) (by omega) (tgt := 38) dX1_coversOf_9 (by decide) (fun c_9 => ?_) (fun c_9 => ?_)
    · refine lv_iload_n hx hb dX1_coversOf_38 rfl (lv_at hl 1 rfl) ?_
      exact xRO.ret hx hb hr rfl hlocks hS dX1_coversOf_39 (by rw [e_r, cov_eq (clo_op n m R) hs hcl])
    · exact absurd c_9 (by omega)
end
section
/-! ConceptLattice: underRules, stepRules, refresh -/

set_option maxHeartbeats 4000000 in
set_option maxRecDepth 100000 in
theorem m_X1_underRules {l : Launch} {D : va_G} {d z : ClassId} {h : Nat → Nat} {n m kc kp ku : Nat} {R C cs ps pe lv : Nat → Nat} (hm : m ≤ 7) (hp : kp ≤ 128) (hPs : ∀ i, i < kp → ps i < 2 ^ m) (hPe : ∀ i, i < kp → pe i < 2 ^ m) {s : Nat} (hs : s < 2 ^ m) : xRO l yX1_underRules cX1_underRules 6 (some .int) 0 0 D (tyX d z) (xw h d n m kc kp ku R C cs ps pe lv) [.ref (h 0), .int (nI s)] (fun r => r = nI (lop m (FR ps pe kp) s)) := by
  refine xRO.of (by decide) (Nat.le_of_ble_eq_true rfl) ?_
  intro p e S M below meth c hB hK hP ls hl
  obtain ⟨hx, hb, hr, hml, hown, hlocks, hts⟩ := hB
  have hown : S.vm.findClass RX1 = some M.cls := hown
  have hS : va_S (frX S) S.heap S.heap [] := va_S.rf
  have hA : ∀ q : Nat, S.heap.size ≤ q → (frX S) q := fun _ h => h
  have hl : lv_has ls 6 [(0, .ref (h 0)), (1, .int (nI s))] := hl
  refine lv_iload_n hx hb dX1_underRules_0 rfl (lv_at hl 1 rfl) ?_
  refine lv_istore_n (lv' := [(2, .int (nI s)), (0, .ref (h 0)), (1, .int (nI s))]) hx hb dX1_underRules_1 rfl hl (by decide) rfl (fun ls hl => ?_)
  refine lv_iconst (v := nI 0) hx hb dX1_underRules_2 (by decide) ?_
  refine lv_istore_n (lv' := [(3, .int (nI 0)), (2, .int (nI s)), (0, .ref (h 0)), (1, .int (nI s))]) hx hb dX1_underRules_3 rfl hl (by decide) rfl (fun ls hl => ?_)
  refine nv_loop (fun (k : Nat) (H : Heap) (locs : List Loc) (ls : Array Slot) => ∃ (r : Nat), ssb s r ∧ r < 2 ^ m ∧ (∀ Y, Y < 2 ^ m → FR ps pe kp Y → ssb s Y → ssb r Y) ∧ k ≤ cnt r 7 ∧ va_P D clX (xw h d n m kc kp ku R C cs ps pe lv) H ∧ va_S (frX S) S.heap H locs ∧ lv_has ls 6 [(3, .int (nI k)), (2, .int (nI r)), (0, .ref (h 0)), (1, .int (nI s))]) (8) (fun k H locs ls hi_k hI ih_k => ?_) (fun H locs ls hI => ?_) 0 (Nat.zero_le _) ⟨s, ssb_refl s, hs, fun Y _ _ h => h, Nat.zero_le _, hP, hS, lv_sub hl [0, 1, 2, 3] rfl⟩
  · obtain ⟨r, h_1, h_2, h_3, h_4, hP, hS, hl⟩ := hI
    refine lv_iload_n hx hb dX1_underRules_4 rfl (lv_at hl 0 rfl) ?_
    refine lv_bipush (v := nI 8) hx hb dX1_underRules_5 (by decide) ?_
    refine nv_ge hx hb (by omega) (by decide) (tgt := 81) dX1_underRules_7 (by decide) (fun c_7 => ?_) (fun c_7 => ?_)
    · exact absurd hi_k (by omega)
    · refine lv_iload_n hx hb dX1_underRules_10 rfl (lv_at hl 1 rfl) ?_
      refine lv_istore (lv' := [(4, .int (nI r)), (3, .int (nI k)), (2, .int (nI r)), (0, .ref (h 0)), (1, .int (nI s))]) hx hb dX1_underRules_11 hl (by decide) rfl (fun ls hl => ?_)
      refine lv_iconst (v := nI 0) hx hb dX1_underRules_13 (by decide) ?_
      refine lv_istore (lv' := [(5, .int (nI 0)), (4, .int (nI r)), (3, .int (nI k)), (2, .int (nI r)), (0, .ref (h 0)), (1, .int (nI s))]) hx hb dX1_underRules_14 hl (by decide) rfl (fun ls hl => ?_)
      refine nv_loop (fun (i : Nat) (H : Heap) (locs : List Loc) (ls : Array Slot) => ∃ (r1 : Nat), UIn m ps pe kp s r i r1 ∧ va_P D clX (xw h d n m kc kp ku R C cs ps pe lv) H ∧ va_S (frX S) S.heap H locs ∧ lv_has ls 6 [(5, .int (nI i)), (2, .int (nI r1)), (4, .int (nI r)), (3, .int (nI k)), (0, .ref (h 0)), (1, .int (nI s))]) (kp) (fun i H locs ls hi_i hI ih_i => ?_) (fun H locs ls hI => ?_) 0 (Nat.zero_le _) ⟨r, UIn.start h_2 h_3, hP, hS, lv_sub hl [0, 3, 1, 2, 4, 5] rfl⟩
      · obtain ⟨r1, h_U, hP, hS, hl⟩ := hI
        refine lv_iload hx hb dX1_underRules_16 (lv_at hl 0 rfl) ?_
        refine lv_aload_n hx hb dX1_underRules_18 rfl (lv_at hl 4 rfl) ?_
        refine xg_pseudoCount hx hb hts hown hK hP dX1_underRules_19 ?_
        refine nv_ge hx hb (by omega) (by omega) (tgt := 66) dX1_underRules_22 (by decide) (fun c_22 => ?_) (fun c_22 => ?_)
        · exact absurd hi_i (by omega)
        · refine lv_aload_n hx hb dX1_underRules_25 rfl (lv_at hl 4 rfl) ?_
          refine xg_pseudo hx hb hts hown hK hP dX1_underRules_26 ?_
          refine lv_iload hx hb dX1_underRules_29 (lv_at hl 0 rfl) ?_
          refine xl_pseudo hx hb hK hP (by omega) dX1_underRules_31 ?_
          refine lv_iload_n hx hb dX1_underRules_32 rfl (lv_at hl 1 rfl) ?_
          refine nv_andn hx hb dX1_underRules_33 dX1_underRules_34 dX1_underRules_35 ?_
          refine nv_ne0 hx hb (Nat.lt_of_le_of_lt (nd_le _ _) (set_lt hm (hPs i hi_i))) (tgt := 60) dX1_underRules_36 (by decide) (fun c_36 => ?_) (fun c_36 => ?_)
          · refine lv_iinc (v := nI (i + 1)) (lv' := [(5, .int (nI (i + 1))), (2, .int (nI r1)), (4, .int (nI r)), (3, .int (nI k)), (0, .ref (h 0)), (1, .int (nI s))]) hx hb dX1_underRules_60 hl (k := 0) rfl (nI_1 _) (by decide) rfl (fun ls hl => ?_)
            refine lv_goto (tgt := 16) hx hb dX1_underRules_63 (by decide) ?_
            exact ih_i _ _ _ ⟨r1, h_U.stay (fun z => c_36 (ssb_nd.mpr z.1)), hP, hS, lv_sub hl [0, 1, 2, 3, 4, 5] rfl⟩
          · refine lv_aload_n hx hb dX1_underRules_39 rfl (lv_at hl 4 rfl) ?_
            refine xg_pseudo hx hb hts hown hK hP dX1_underRules_40 ?_
            refine lv_iload hx hb dX1_underRules_43 (lv_at hl 0 rfl) ?_
            refine xl_pseudo hx hb hK hP (by omega) dX1_underRules_45 ?_
            refine lv_iload_n hx hb dX1_underRules_46 rfl (lv_at hl 1 rfl) ?_
            refine nv_eq hx hb (set_lt hm (hPs i hi_i)) (set_lt hm h_U.2.1) (tgt := 60) dX1_underRules_47 (by decide) (fun c_47 => ?_) (fun c_47 => ?_)
            · refine lv_iinc (v := nI (i + 1)) (lv' := [(5, .int (nI (i + 1))), (2, .int (nI r1)), (4, .int (nI r)), (3, .int (nI k)), (0, .ref (h 0)), (1, .int (nI s))]) hx hb dX1_underRules_60 hl (k := 0) rfl (nI_1 _) (by decide) rfl (fun ls hl => ?_)
              refine lv_goto (tgt := 16) hx hb dX1_underRules_63 (by decide) ?_
              exact ih_i _ _ _ ⟨r1, h_U.stay (fun z => z.2 c_47), hP, hS, lv_sub hl [0, 1, 2, 3, 4, 5] rfl⟩
            · refine lv_iload_n hx hb dX1_underRules_50 rfl (lv_at hl 1 rfl) ?_
              refine lv_aload_n hx hb dX1_underRules_51 rfl (lv_at hl 4 rfl) ?_
              refine xg_pseudoEnd hx hb hts hown hK hP dX1_underRules_52 ?_
              refine lv_iload hx hb dX1_underRules_55 (lv_at hl 0 rfl) ?_
              refine xl_pseudoEnd hx hb hK hP (by omega) dX1_underRules_57 ?_
              refine nv_ior hx hb dX1_underRules_58 ?_
              refine lv_istore_n (lv' := [(2, .int (nI (r1 ||| (pe i)))), (5, .int (nI i)), (4, .int (nI r)), (3, .int (nI k)), (0, .ref (h 0)), (1, .int (nI s))]) hx hb dX1_underRules_59 rfl hl (by decide) rfl (fun ls hl => ?_)
              refine lv_iinc (v := nI (i + 1)) (lv' := [(5, .int (nI (i + 1))), (2, .int (nI (r1 ||| (pe i)))), (4, .int (nI r)), (3, .int (nI k)), (0, .ref (h 0)), (1, .int (nI s))]) hx hb dX1_underRules_60 hl (k := 1) rfl (nI_1 _) (by decide) rfl (fun ls hl => ?_)
              refine lv_goto (tgt := 16) hx hb dX1_underRules_63 (by decide) ?_
              exact ih_i _ _ _ ⟨r1 ||| pe i, h_U.grow hi_i (hPe i hi_i) (ssb_nd.mp c_36) c_47, hP, hS, lv_sub hl [0, 1, 2, 3, 4, 5] rfl⟩
      · obtain ⟨r1, h_U, hP, hS, hl⟩ := hI
        refine lv_iload hx hb dX1_underRules_16 (lv_at hl 0 rfl) ?_
        refine lv_aload_n hx hb dX1_underRules_18 rfl (lv_at hl 4 rfl) ?_
        refine xg_pseudoCount hx hb hts hown hK hP dX1_underRules_19 ?_
        refine nv_ge hx hb (by omega) (by omega) (tgt := 66) dX1_underRules_22 (by decide) (fun c_22 => ?_) (fun c_22 => ?_)
        · refine lv_iload hx hb dX1_underRules_66 (lv_at hl 2 rfl) ?_
          refine lv_iload_n hx hb dX1_underRules_68 rfl (lv_at hl 1 rfl) ?_
          refine nv_ne hx hb (set_lt hm h_2) (set_lt hm h_U.2.1) (tgt := 75) dX1_underRules_69 (by decide) (fun c_69 => ?_) (fun c_69 => ?_)
          · refine lv_iinc (v := nI (k + 1)) (lv' := [(3, .int (nI (k + 1))), (5, .int (nI kp)), (2, .int (nI r1)), (4, .int (nI r)), (0, .ref (h 0)), (1, .int (nI s))]) hx hb dX1_underRules_75 hl (k := 3) rfl (nI_1 _) (by decide) rfl (fun ls hl => ?_)
            refine lv_goto (tgt := 4) hx hb dX1_underRules_78 (by decide) ?_
            exact ih_k _ _ _ ⟨r1, ssb_trans h_1 h_U.1, h_U.2.1, h_U.2.2.1, Nat.lt_of_le_of_lt h_4 (cnt_prop h_U.1 c_69 h_U.2.1 hm), hP, hS, lv_sub hl [0, 2, 4, 5] rfl⟩
          · refine lv_goto (tgt := 81) hx hb dX1_underRules_72 (by decide) ?_
            refine lv_iload_n hx hb dX1_underRules_81 rfl (lv_at hl 1 rfl) ?_
            exact xRO.ret hx hb hr rfl hlocks hS dX1_underRules_82 (by rw [← lop_eq ⟨h_U.2.1, by rw [← c_69]; exact h_U.2.2.2 c_69.symm, ssb_trans h_1 h_U.1, h_U.2.2.1⟩])
        · exact absurd c_22 (by omega)
  · obtain ⟨r, h_1, h_2, h_3, h_4, hP, hS, hl⟩ := hI
    exact absurd h_4 (by have := cnt_le r 7; omega)

set_option maxHeartbeats 4000000 in
set_option maxRecDepth 100000 in
theorem m_X1_stepRules {l : Launch} {D : va_G} {d z : ClassId} {h : Nat → Nat} {n m kc kp ku : Nat} {R C cs ps pe lv : Nat → Nat} (hm : m ≤ 7) (hp : kp ≤ 128) (hPs : ∀ i, i < kp → ps i < 2 ^ m) (hPe : ∀ i, i < kp → pe i < 2 ^ m) {s : Nat} (hs : s < 2 ^ m - 1) : xRO l yX1_stepRules cX1_stepRules 6 (some .int) 1 25 D (tyX d z) (xw h d n m kc kp ku R C cs ps pe lv) [.ref (h 0), .int (nI s)] (fun r => ∃ X, r = nI X ∧ LeastAb m (FR ps pe kp) s X) := by
  refine xRO.of (by decide) (Nat.le_of_ble_eq_true rfl) ?_
  intro p e S M below meth c hB hK hP ls hl
  obtain ⟨hx, hb, hr, hml, hown, hlocks, hts⟩ := hB
  have hown : S.vm.findClass RX1 = some M.cls := hown
  have hS : va_S (frX S) S.heap S.heap [] := va_S.rf
  have hA : ∀ q : Nat, S.heap.size ≤ q → (frX S) q := fun _ h => h
  have hl : lv_has ls 6 [(0, .ref (h 0)), (1, .int (nI s))] := hl
  have hs1 : s < 2 ^ m := by omega
  have hL : LeastOp m (FR ps pe kp) (lop m (FR ps pe kp)) := lop_op (FR_full hPe) (fun _ _ => FR_and)
  refine lv_iconst (v := nI 0) hx hb dX1_stepRules_0 (by decide) ?_
  refine lv_istore_n (lv' := [(2, .int (nI 0)), (0, .ref (h 0)), (1, .int (nI s))]) hx hb dX1_stepRules_1 rfl hl (by decide) rfl (fun ls hl => ?_)
  refine nv_loop (fun (i : Nat) (H : Heap) (locs : List Loc) (ls : Array Slot) => (∀ a', a' < i → ¬ hit (lop m (FR ps pe kp)) s a') ∧ va_P D clX (xw h d n m kc kp ku R C cs ps pe lv) H ∧ va_S (frX S) S.heap H locs ∧ lv_has ls 6 [(2, .int (nI i)), (0, .ref (h 0)), (1, .int (nI s))]) (m) (fun i H locs ls hi_i hI ih_i => ?_) (fun H locs ls hI => ?_) 0 (Nat.zero_le _) ⟨fun a' ha => absurd ha (by omega), hP, hS, lv_sub hl [0, 1, 2] rfl⟩
  · obtain ⟨h_no, hP, hS, hl⟩ := hI
    refine lv_iload_n hx hb dX1_stepRules_2 rfl (lv_at hl 0 rfl) ?_
    refine lv_aload_n hx hb dX1_stepRules_3 rfl (lv_at hl 1 rfl) ?_
    refine xg_m hx hb hts hown hK hP dX1_stepRules_4 ?_
    refine nv_ge hx hb (by omega) (by omega) (tgt := 65) dX1_stepRules_7 (by decide) (fun c_7 => ?_) (fun c_7 => ?_)
    · exact absurd hi_i (by omega)
    · refine lv_iconst (v := nI 1) hx hb dX1_stepRules_10 (by decide) ?_
      refine lv_iload_n hx hb dX1_stepRules_11 rfl (lv_at hl 0 rfl) ?_
      refine nv_ishl hx hb (by omega) dX1_stepRules_12 ?_
      refine lv_istore_n (lv' := [(3, .int (nI (2 ^ i))), (2, .int (nI i)), (0, .ref (h 0)), (1, .int (nI s))]) hx hb dX1_stepRules_13 rfl hl (by decide) rfl (fun ls hl => ?_)
      refine lv_iload_n hx hb dX1_stepRules_14 rfl (lv_at hl 3 rfl) ?_
      refine lv_iload_n hx hb dX1_stepRules_15 rfl (lv_at hl 0 rfl) ?_
      refine nv_iand hx hb dX1_stepRules_16 ?_
      refine nv_ne0 hx hb (Nat.lt_of_le_of_lt Nat.and_le_left (by have := p7 hm; omega)) (tgt := 59) dX1_stepRules_17 (by decide) (fun c_17 => ?_) (fun c_17 => ?_)
      · refine lv_iinc (v := nI (i + 1)) (lv' := [(2, .int (nI (i + 1))), (3, .int (nI (2 ^ i))), (0, .ref (h 0)), (1, .int (nI s))]) hx hb dX1_stepRules_59 hl (k := 1) rfl (nI_1 _) (by decide) rfl (fun ls hl => ?_)
        refine lv_goto (tgt := 2) hx hb dX1_stepRules_62 (by decide) ?_
        exact ih_i _ _ _ ⟨lt_s h_no (fun z => c_17 (and_p.mpr z.1)), hP, hS, lv_sub hl [0, 2, 3] rfl⟩
      · refine lv_iload_n hx hb dX1_stepRules_20 rfl (lv_at hl 3 rfl) ?_
        refine lv_iconst (v := nI 2) hx hb dX1_stepRules_21 (by decide) ?_
        refine lv_iload_n hx hb dX1_stepRules_22 rfl (lv_at hl 0 rfl) ?_
        refine nv_imul hx hb dX1_stepRules_23 ?_
        refine lv_iconst (v := nI 1) hx hb dX1_stepRules_24 (by decide) ?_
        refine nv_isub hx hb (pw2_1 _) dX1_stepRules_25 ?_
        refine nv_andn hx hb dX1_stepRules_26 dX1_stepRules_27 dX1_stepRules_28 ?_
        refine lv_istore (lv' := [(4, .int (nI (nd s ((2 * (2 ^ i)) - 1)))), (3, .int (nI (2 ^ i))), (2, .int (nI i)), (0, .ref (h 0)), (1, .int (nI s))]) hx hb dX1_stepRules_29 hl (by decide) rfl (fun ls hl => ?_)
        refine lv_aload_n hx hb dX1_stepRules_31 rfl (lv_at hl 3 rfl) ?_
        refine lv_iload hx hb dX1_stepRules_32 (lv_at hl 0 rfl) ?_
        refine lv_iload_n hx hb dX1_stepRules_34 rfl (lv_at hl 1 rfl) ?_
        refine nv_ior hx hb dX1_stepRules_35 ?_
        refine xRO.call (m_X1_underRules hm hp hPs hPe (x_lt hs1 hi_i)) ⟨hx, hb, hml, hown, hts⟩ (cwV 1 hts (lw_V q148 q150 qs10 q27 q151) rfl rfl rfl (by decide +kernel) ⟨Nat.le_of_ble_eq_true rfl, Nat.le_of_ble_eq_true rfl⟩) hK hP (x_rc hK hP) hS hA hl.1 rfl rfl (Nat.le_of_ble_eq_true rfl) ⟨Nat.zero_le _, Nat.zero_le _⟩ dX1_stepRules_36 (fun r_ H locs hr_ hT hS => ?_)
        have hP := hT _ hP
        subst hr_
        refine lv_istore (lv' := [(5, .int (nI (lop m (FR ps pe kp) ((nd s ((2 * (2 ^ i)) - 1)) ||| (2 ^ i))))), (4, .int (nI (nd s ((2 * (2 ^ i)) - 1)))), (3, .int (nI (2 ^ i))), (2, .int (nI i)), (0, .ref (h 0)), (1, .int (nI s))]) hx hb dX1_stepRules_39 hl (by decide) rfl (fun ls hl => ?_)
        refine lv_iload hx hb dX1_stepRules_41 (lv_at hl 0 rfl) ?_
        refine lv_iconst (v := nI 2) hx hb dX1_stepRules_43 (by decide) ?_
        refine lv_iload_n hx hb dX1_stepRules_44 rfl (lv_at hl 2 rfl) ?_
        refine nv_imul hx hb dX1_stepRules_45 ?_
        refine lv_iconst (v := nI 1) hx hb dX1_stepRules_46 (by decide) ?_
        refine nv_isub hx hb (pw2_1 _) dX1_stepRules_47 ?_
        refine nv_andn hx hb dX1_stepRules_48 dX1_stepRules_49 dX1_stepRules_50 ?_
        refine lv_iload hx hb dX1_stepRules_51 (lv_at hl 1 rfl) ?_
        refine nv_ne hx hb (Nat.lt_of_le_of_lt (nd_le _ _) (set_lt hm (hL _ (x_lt hs1 hi_i)).1)) (Nat.lt_of_le_of_lt (nd_le _ _) (by have := p7 hm; omega)) (tgt := 59) dX1_stepRules_53 (by decide) (fun c_53 => ?_) (fun c_53 => ?_)
        · refine lv_iinc (v := nI (i + 1)) (lv' := [(2, .int (nI (i + 1))), (5, .int (nI (lop m (FR ps pe kp) ((nd s ((2 * (2 ^ i)) - 1)) ||| (2 ^ i))))), (4, .int (nI (nd s ((2 * (2 ^ i)) - 1)))), (3, .int (nI (2 ^ i))), (0, .ref (h 0)), (1, .int (nI s))]) hx hb dX1_stepRules_59 hl (k := 3) rfl (nI_1 _) (by decide) rfl (fun ls hl => ?_)
          refine lv_goto (tgt := 2) hx hb dX1_stepRules_62 (by decide) ?_
          exact ih_i _ _ _ ⟨lt_s h_no (fun z => c_53 z.2), hP, hS, lv_sub hl [0, 4, 5] rfl⟩
        · refine lv_iload hx hb dX1_stepRules_56 (lv_at hl 0 rfl) ?_
          exact xRO.ret hx hb hr rfl hlocks hS dX1_stepRules_58 (⟨_, rfl, step_hit hL hs1 hi_i ⟨and_p.mp c_17, c_53⟩ h_no⟩)
  · obtain ⟨h_no, hP, hS, hl⟩ := hI
    exact absurd h_no (fun z => step_none hL hs z)

set_option maxHeartbeats 4000000 in
set_option maxRecDepth 100000 in
theorem m_X1_refresh {l : Launch} {D : va_G} {d z : ClassId} {h : Nat → Nat} {n m kc kp ku : Nat} {R C cs ps pe lv : Nat → Nat} (hn : n ≤ 8) (hm : m ≤ 7) (hC : Cols n m R C) (hku : ku ≤ 1) (hfr : ku = 1 → Fr n m R kc kp cs ps) : xRV (Nat × Nat × (Nat → Nat) × (Nat → Nat) × (Nat → Nat)) l yX1_refresh cX1_refresh 5 3 70 D (tyX d z) (xw h d n m kc kp ku R C cs ps pe lv) [.ref (h 0)] (fun u => Fr n m R u.1 u.2.1 u.2.2.1 u.2.2.2.1) (fun u => xw h d n m u.1 u.2.1 1 R C u.2.2.1 u.2.2.2.1 u.2.2.2.2 lv) := by
  refine xRV.of (by decide) (Nat.le_of_ble_eq_true rfl) ?_
  intro p e S M below meth c hB hK hP hD ls hl
  obtain ⟨hx, hb, hr, hml, hown, hlocks, hts⟩ := hB
  have hown : S.vm.findClass RX1 = some M.cls := hown
  have hS : va_S (va_A (xw h d n m kc kp ku R C cs ps pe lv) S.heap.size) S.heap S.heap [] := va_S.rf
  have hA : ∀ q : Nat, S.heap.size ≤ q → (va_A (xw h d n m kc kp ku R C cs ps pe lv) S.heap.size) q := fun _ h => Or.inr h
  have hl : lv_has ls 5 [(0, .ref (h 0))] := hl
  refine lv_aload_n hx hb dX1_refresh_0 rfl (lv_at hl 0 rfl) ?_
  refine xg_current hx hb hts hown hK hP dX1_refresh_1 ?_
  refine nv_eq0 hx hb (by omega) (tgt := 8) dX1_refresh_4 (by decide) (fun c_4 => ?_) (fun c_4 => ?_)
  · refine lv_aload_n hx hb dX1_refresh_8 rfl (lv_at hl 0 rfl) ?_
    refine lv_iconst (v := nI 1) hx hb dX1_refresh_9 (by decide) ?_
    refine xp_current hx hb hts hown hK hP hD hS (by decide) (by decide) dX1_refresh_10 (fun H locs hP hD hS => ?_)
    refine lv_iconst (v := nI 1) hx hb dX1_refresh_13 (by decide) ?_
    refine lv_aload_n hx hb dX1_refresh_14 rfl (lv_at hl 0 rfl) ?_
    refine xg_m hx hb hts hown hK hP dX1_refresh_15 ?_
    refine nv_ishl hx hb (by omega) dX1_refresh_18 ?_
    refine lv_iconst (v := nI 1) hx hb dX1_refresh_19 (by decide) ?_
    refine nv_isub hx hb (pw_1 _) dX1_refresh_20 ?_
    refine lv_istore_n (lv' := [(1, .int (nI ((2 ^ m) - 1))), (0, .ref (h 0))]) hx hb dX1_refresh_21 rfl hl (by decide) rfl (fun ls hl => ?_)
    refine lv_aload_n hx hb dX1_refresh_22 rfl (lv_at hl 1 rfl) ?_
    refine lv_iconst (v := nI 0) hx hb dX1_refresh_23 (by decide) ?_
    refine xp_closedCount hx hb hts hown hK hP hD hS dX1_refresh_24 (fun H locs hP hD hS => ?_)
    refine lv_aload_n hx hb dX1_refresh_27 rfl (lv_at hl 1 rfl) ?_
    refine lv_iconst (v := nI 0) hx hb dX1_refresh_28 (by decide) ?_
    refine xRO.call (m_X1_closed hn hm hC (Nat.two_pow_pos m)) ⟨hx, hb, hml, hown, hts⟩ (cwV 1 hts (lw_V q128 q130 qs6 q27 q131) rfl rfl rfl (by decide +kernel) ⟨Nat.le_of_ble_eq_true rfl, Nat.le_of_ble_eq_true rfl⟩) hK hP (x_rc hK hP) hS hA hl.1 rfl rfl (Nat.le_of_ble_eq_true rfl) ⟨Nat.zero_le _, Nat.zero_le _⟩ dX1_refresh_29 (fun r_ H locs hr_ hT hS => ?_)
    have hP := hT _ hP
    subst hr_
    refine lv_istore_n (lv' := [(2, .int (nI (clo n m R 0))), (1, .int (nI ((2 ^ m) - 1))), (0, .ref (h 0))]) hx hb dX1_refresh_32 rfl hl (by decide) rfl (fun ls hl => ?_)
    refine lv_iconst (v := nI 0) hx hb dX1_refresh_33 (by decide) ?_
    refine lv_istore_n (lv' := [(3, .int (nI 0)), (2, .int (nI (clo n m R 0))), (1, .int (nI ((2 ^ m) - 1))), (0, .ref (h 0))]) hx hb dX1_refresh_34 rfl hl (by decide) rfl (fun ls hl => ?_)
    refine nv_loop (fun (k : Nat) (H : Heap) (locs : List Loc) (ls : Array Slot) => ∃ (t : Nat), ∃ (cs1 : Nat → Nat), t < 2 ^ m ∧ clo n m R t = t ∧ En (isC (clo n m R)) t k cs1 ∧ va_P D clX (xw h d n m k kp 1 R C cs1 ps pe lv) H ∧ va_D (va_A (xw h d n m kc kp ku R C cs ps pe lv) S.heap.size) (xw h d n m k kp 1 R C cs1 ps pe lv) ∧ va_S (va_A (xw h d n m kc kp ku R C cs ps pe lv) S.heap.size) S.heap H locs ∧ lv_has ls 5 [(3, .int (nI k)), (2, .int (nI t)), (1, .int (nI (2 ^ m - 1))), (0, .ref (h 0))]) (128) (fun k H locs ls hi_k hI ih_k => ?_) (fun H locs ls hI => ?_) 0 (Nat.zero_le _) ⟨clo n m R 0, cs, (clo_op n m R).1 0 (Nat.two_pow_pos m), (clo_op n m R).2.2.2 0 (Nat.two_pow_pos m), clos_start (clo_op n m R) cs, hP, hD, hS, lv_sub hl [0, 1, 2, 3] rfl⟩
    · obtain ⟨t, cs1, h_t, h_c, h_E, hP, hD, hS, hl⟩ := hI
      refine lv_iload_n hx hb dX1_refresh_35 rfl (lv_at hl 0 rfl) ?_
      refine lv_sipush (v := nI 128) hx hb dX1_refresh_36 (by decide) ?_
      refine nv_ge hx hb (by omega) (by decide) (tgt := 82) dX1_refresh_39 (by decide) (fun c_39 => ?_) (fun c_39 => ?_)
      · exact absurd hi_k (by omega)
      · refine lv_aload_n hx hb dX1_refresh_42 rfl (lv_at hl 3 rfl) ?_
        refine xg_closed hx hb hts hown hK hP dX1_refresh_43 ?_
        refine lv_aload_n hx hb dX1_refresh_46 rfl (lv_at hl 3 rfl) ?_
        refine xg_closedCount hx hb hts hown hK hP dX1_refresh_47 ?_
        refine lv_iload_n hx hb dX1_refresh_50 rfl (lv_at hl 1 rfl) ?_
        refine xs_closed hx hb hK hP hD hS (by omega) dX1_refresh_51 (fun H locs hP hD hS => ?_)
        refine lv_aload_n hx hb dX1_refresh_52 rfl (lv_at hl 3 rfl) ?_
        refine lv_dup hx hb dX1_refresh_53 rfl ?_
        refine xg_closedCount hx hb hts hown hK hP dX1_refresh_54 ?_
        refine lv_iconst (v := nI 1) hx hb dX1_refresh_57 (by decide) ?_
        refine nv_iadd hx hb dX1_refresh_58 ?_
        refine xp_closedCount hx hb hts hown hK hP hD hS dX1_refresh_59 (fun H locs hP hD hS => ?_)
        refine lv_iload_n hx hb dX1_refresh_62 rfl (lv_at hl 1 rfl) ?_
        refine lv_iload_n hx hb dX1_refresh_63 rfl (lv_at hl 2 rfl) ?_
        refine nv_ne hx hb (set_lt hm h_t) (all_lt hm) (tgt := 70) dX1_refresh_64 (by decide) (fun c_64 => ?_) (fun c_64 => ?_)
        · refine lv_aload_n hx hb dX1_refresh_70 rfl (lv_at hl 3 rfl) ?_
          refine lv_iload_n hx hb dX1_refresh_71 rfl (lv_at hl 1 rfl) ?_
          refine xRO.call (m_X1_stepClosed hn hm hC (show t < 2 ^ m - 1 by omega)) ⟨hx, hb, hml, hown, hts⟩ (cwV 1 hts (lw_V q140 q142 qs8 q27 q143) rfl rfl rfl (by decide +kernel) ⟨Nat.le_of_ble_eq_true rfl, Nat.le_of_ble_eq_true rfl⟩) hK hP (x_rc hK hP) hS hA hl.1 rfl rfl (Nat.le_of_ble_eq_true rfl) ⟨Nat.zero_le _, Nat.zero_le _⟩ dX1_refresh_72 (fun r_ H locs hr_ hT hS => ?_)
          have hP := hT _ hP
          obtain ⟨X, rfl, h_X⟩ := hr_
          refine lv_istore_n (lv' := [(2, .int (nI X)), (3, .int (nI k)), (1, .int (nI (2 ^ m - 1))), (0, .ref (h 0))]) hx hb dX1_refresh_75 rfl hl (by decide) rfl (fun ls hl => ?_)
          refine lv_iinc (v := nI (k + 1)) (lv' := [(3, .int (nI (k + 1))), (2, .int (nI X)), (1, .int (nI (2 ^ m - 1))), (0, .ref (h 0))]) hx hb dX1_refresh_76 hl (k := 1) rfl (nI_1 _) (by decide) rfl (fun ls hl => ?_)
          refine lv_goto (tgt := 35) hx hb dX1_refresh_79 (by decide) ?_
          exact ih_k _ _ _ ⟨X, un cs1 k t, h_X.2.1, h_X.2.2.1, clos_next h_E h_c h_X, hP, hD, hS, lv_sub hl [0, 1, 2, 3] rfl⟩
        · refine lv_goto (tgt := 82) hx hb dX1_refresh_67 (by decide) ?_
          have h_C : En (isC (clo n m R)) (2 ^ m) (k + 1) (un cs1 k t) := by have h9 := h_E.push (isC_t.mpr h_c); rw [show t + 1 = 2 ^ m by omega] at h9; exact h9
          refine lv_aload_n hx hb dX1_refresh_82 rfl (lv_at hl 3 rfl) ?_
          refine lv_iconst (v := nI 0) hx hb dX1_refresh_83 (by decide) ?_
          refine xp_pseudoCount hx hb hts hown hK hP hD hS dX1_refresh_84 (fun H locs hP hD hS => ?_)
          refine lv_iconst (v := nI 0) hx hb dX1_refresh_87 (by decide) ?_
          refine lv_istore_n (lv' := [(2, .int (nI 0)), (3, .int (nI k)), (1, .int (nI (2 ^ m - 1))), (0, .ref (h 0))]) hx hb dX1_refresh_88 rfl hl (by decide) rfl (fun ls hl => ?_)
          refine lv_iconst (v := nI 0) hx hb dX1_refresh_89 (by decide) ?_
          refine lv_istore_n (lv' := [(3, .int (nI 0)), (2, .int (nI 0)), (1, .int (nI (2 ^ m - 1))), (0, .ref (h 0))]) hx hb dX1_refresh_90 rfl hl (by decide) rfl (fun ls hl => ?_)
          refine nv_loop (fun (q : Nat) (H : Heap) (locs : List Loc) (ls : Array Slot) => ∃ (t2 : Nat), ∃ (p1 : Nat), ∃ (ps1 : Nat → Nat), ∃ (pe1 : Nat → Nat), t2 < 2 ^ m ∧ inF (clo n m R) t2 ∧ En (isP (clo n m R)) t2 p1 ps1 ∧ (∀ i, i < p1 → pe1 i = clo n m R (ps1 i)) ∧ q ≤ t2 ∧ va_P D clX (xw h d n m (k + 1) p1 1 R C (un cs1 k t) ps1 pe1 lv) H ∧ va_D (va_A (xw h d n m kc kp ku R C cs ps pe lv) S.heap.size) (xw h d n m (k + 1) p1 1 R C (un cs1 k t) ps1 pe1 lv) ∧ va_S (va_A (xw h d n m kc kp ku R C cs ps pe lv) S.heap.size) S.heap H locs ∧ lv_has ls 5 [(3, .int (nI q)), (2, .int (nI t2)), (1, .int (nI (2 ^ m - 1))), (0, .ref (h 0))]) (128) (fun q H locs ls hi_q hI ih_q => ?_) (fun H locs ls hI => ?_) 0 (Nat.zero_le _) ⟨0, 0, ps, pe, Nat.two_pow_pos m, inF_0 (clo_op n m R), En.zero _ ps, fun i hi => absurd hi (by omega), Nat.le_refl 0, hP, hD, hS, lv_sub hl [0, 1, 2, 3] rfl⟩
          · obtain ⟨t2, p1, ps1, pe1, h_t, h_F, h_E, h_e, h_q, hP, hD, hS, hl⟩ := hI
            refine lv_iload_n hx hb dX1_refresh_91 rfl (lv_at hl 0 rfl) ?_
            refine lv_sipush (v := nI 128) hx hb dX1_refresh_92 (by decide) ?_
            refine nv_ge hx hb (by omega) (by decide) (tgt := 162) dX1_refresh_95 (by decide) (fun c_95 => ?_) (fun c_95 => ?_)
            · exact absurd hi_q (by omega)
            · refine lv_aload_n hx hb dX1_refresh_98 rfl (lv_at hl 3 rfl) ?_
              refine lv_iload_n hx hb dX1_refresh_99 rfl (lv_at hl 1 rfl) ?_
              refine xRO.call (m_X1_closed hn hm hC h_t) ⟨hx, hb, hml, hown, hts⟩ (cwV 1 hts (lw_V q128 q130 qs6 q27 q131) rfl rfl rfl (by decide +kernel) ⟨Nat.le_of_ble_eq_true rfl, Nat.le_of_ble_eq_true rfl⟩) hK hP (x_rc hK hP) hS hA hl.1 rfl rfl (Nat.le_of_ble_eq_true rfl) ⟨Nat.zero_le _, Nat.zero_le _⟩ dX1_refresh_100 (fun r_ H locs hr_ hT hS => ?_)
              have hP := hT _ hP
              subst hr_
              refine lv_istore (lv' := [(4, .int (nI (clo n m R t2))), (3, .int (nI q)), (2, .int (nI t2)), (1, .int (nI (2 ^ m - 1))), (0, .ref (h 0))]) hx hb dX1_refresh_103 hl (by decide) rfl (fun ls hl => ?_)
              refine lv_iload hx hb dX1_refresh_105 (lv_at hl 0 rfl) ?_
              refine lv_iload_n hx hb dX1_refresh_107 rfl (lv_at hl 2 rfl) ?_
              refine nv_eq hx hb (set_lt hm ((clo_op n m R).1 _ h_t)) (set_lt hm h_t) (tgt := 142) dX1_refresh_108 (by decide) (fun c_108 => ?_) (fun c_108 => ?_)
              · have h_E2 : En (isP (clo n m R)) (t2 + 1) p1 ps1 := h_E.skip (isP_no c_108)
                have h_e2 : ∀ i, i < p1 → pe1 i = clo n m R (ps1 i) := h_e
                have h_m2 : ∀ i, i < p1 → ps1 i < 2 ^ m := fun i hi => Nat.lt_of_lt_of_le (h_E2.mem hi).1 h_t
                have h_p2 : p1 ≤ 128 := by have := h_E2.le; have := p7 hm; omega
                have h_n2 : ∀ i, i < p1 → pe1 i < 2 ^ m := fun i hi => by rw [h_e2 i hi]; exact (clo_op n m R).1 _ (h_m2 i hi)
                refine lv_iload_n hx hb dX1_refresh_142 rfl (lv_at hl 2 rfl) ?_
                refine lv_iload_n hx hb dX1_refresh_143 rfl (lv_at hl 3 rfl) ?_
                refine nv_ne hx hb (set_lt hm h_t) (all_lt hm) (tgt := 150) dX1_refresh_144 (by decide) (fun c_144 => ?_) (fun c_144 => ?_)
                · refine lv_aload_n hx hb dX1_refresh_150 rfl (lv_at hl 4 rfl) ?_
                  refine lv_iload_n hx hb dX1_refresh_151 rfl (lv_at hl 2 rfl) ?_
                  refine xRO.call (m_X1_stepRules hm h_p2 h_m2 h_n2 (show t2 < 2 ^ m - 1 by omega)) ⟨hx, hb, hml, hown, hts⟩ (cwV 1 hts (lw_V q144 q146 qs9 q27 q147) rfl rfl rfl (by decide +kernel) ⟨Nat.le_of_ble_eq_true rfl, Nat.le_of_ble_eq_true rfl⟩) hK hP (x_rc hK hP) hS hA hl.1 rfl rfl (Nat.le_of_ble_eq_true rfl) ⟨Nat.zero_le _, Nat.zero_le _⟩ dX1_refresh_152 (fun r_ H locs hr_ hT hS => ?_)
                  have hP := hT _ hP
                  obtain ⟨X2, rfl, h_X2⟩ := hr_
                  have h_X2 := rules_next (clo_op n m R) h_t h_E2 h_e2 h_X2
                  refine lv_istore_n (lv' := [(2, .int (nI X2)), (4, .int (nI (clo n m R t2))), (3, .int (nI q)), (1, .int (nI (2 ^ m - 1))), (0, .ref (h 0))]) hx hb dX1_refresh_155 rfl hl (by decide) rfl (fun ls hl => ?_)
                  refine lv_iinc (v := nI (q + 1)) (lv' := [(3, .int (nI (q + 1))), (2, .int (nI X2)), (4, .int (nI (clo n m R t2))), (1, .int (nI (2 ^ m - 1))), (0, .ref (h 0))]) hx hb dX1_refresh_156 hl (k := 2) rfl (nI_1 _) (by decide) rfl (fun ls hl => ?_)
                  refine lv_goto (tgt := 91) hx hb dX1_refresh_159 (by decide) ?_
                  exact ih_q _ _ _ ⟨X2, p1, ps1, pe1, h_X2.2.1, h_X2.2.2.1, rule_next h_E2 h_X2, h_e2, Nat.lt_of_le_of_lt h_q h_X2.1, hP, hD, hS, lv_sub hl [0, 1, 3, 4] rfl⟩
                · refine lv_goto (tgt := 162) hx hb dX1_refresh_147 (by decide) ?_
                  exact xRV.ret hx hb hr hlocks hS dX1_refresh_162 (k + 1, p1, un cs1 k t, ps1, pe1) ⟨h_C, by rw [show t2 + 1 = 2 ^ m by omega] at h_E2; exact h_E2⟩ hP hD
              · refine lv_aload_n hx hb dX1_refresh_111 rfl (lv_at hl 4 rfl) ?_
                refine xg_pseudo hx hb hts hown hK hP dX1_refresh_112 ?_
                refine lv_aload_n hx hb dX1_refresh_115 rfl (lv_at hl 4 rfl) ?_
                refine xg_pseudoCount hx hb hts hown hK hP dX1_refresh_116 ?_
                refine lv_iload_n hx hb dX1_refresh_119 rfl (lv_at hl 2 rfl) ?_
                refine xs_pseudo hx hb hK hP hD hS (by have := h_E.le; have := p7 hm; omega) dX1_refresh_120 (fun H locs hP hD hS => ?_)
                refine lv_aload_n hx hb dX1_refresh_121 rfl (lv_at hl 4 rfl) ?_
                refine xg_pseudoEnd hx hb hts hown hK hP dX1_refresh_122 ?_
                refine lv_aload_n hx hb dX1_refresh_125 rfl (lv_at hl 4 rfl) ?_
                refine xg_pseudoCount hx hb hts hown hK hP dX1_refresh_126 ?_
                refine lv_iload hx hb dX1_refresh_129 (lv_at hl 0 rfl) ?_
                refine xs_pseudoEnd hx hb hK hP hD hS (by have := h_E.le; have := p7 hm; omega) dX1_refresh_131 (fun H locs hP hD hS => ?_)
                refine lv_aload_n hx hb dX1_refresh_132 rfl (lv_at hl 4 rfl) ?_
                refine lv_dup hx hb dX1_refresh_133 rfl ?_
                refine xg_pseudoCount hx hb hts hown hK hP dX1_refresh_134 ?_
                refine lv_iconst (v := nI 1) hx hb dX1_refresh_137 (by decide) ?_
                refine nv_iadd hx hb dX1_refresh_138 ?_
                refine xp_pseudoCount hx hb hts hown hK hP hD hS dX1_refresh_139 (fun H locs hP hD hS => ?_)
                have h_E2 : En (isP (clo n m R)) (t2 + 1) (p1 + 1) (un ps1 p1 t2) := h_E.push (isP_yes h_F c_108)
                have h_e2 : ∀ i, i < (p1 + 1) → (un pe1 p1 (clo n m R t2)) i = clo n m R ((un ps1 p1 t2) i) := pe_push h_e
                have h_m2 : ∀ i, i < (p1 + 1) → (un ps1 p1 t2) i < 2 ^ m := fun i hi => Nat.lt_of_lt_of_le (h_E2.mem hi).1 h_t
                have h_p2 : (p1 + 1) ≤ 128 := by have := h_E2.le; have := p7 hm; omega
                have h_n2 : ∀ i, i < (p1 + 1) → (un pe1 p1 (clo n m R t2)) i < 2 ^ m := fun i hi => by rw [h_e2 i hi]; exact (clo_op n m R).1 _ (h_m2 i hi)
                refine lv_iload_n hx hb dX1_refresh_142 rfl (lv_at hl 2 rfl) ?_
                refine lv_iload_n hx hb dX1_refresh_143 rfl (lv_at hl 3 rfl) ?_
                refine nv_ne hx hb (set_lt hm h_t) (all_lt hm) (tgt := 150) dX1_refresh_144 (by decide) (fun c_144 => ?_) (fun c_144 => ?_)
                · refine lv_aload_n hx hb dX1_refresh_150 rfl (lv_at hl 4 rfl) ?_
                  refine lv_iload_n hx hb dX1_refresh_151 rfl (lv_at hl 2 rfl) ?_
                  refine xRO.call (m_X1_stepRules hm h_p2 h_m2 h_n2 (show t2 < 2 ^ m - 1 by omega)) ⟨hx, hb, hml, hown, hts⟩ (cwV 1 hts (lw_V q144 q146 qs9 q27 q147) rfl rfl rfl (by decide +kernel) ⟨Nat.le_of_ble_eq_true rfl, Nat.le_of_ble_eq_true rfl⟩) hK hP (x_rc hK hP) hS hA hl.1 rfl rfl (Nat.le_of_ble_eq_true rfl) ⟨Nat.zero_le _, Nat.zero_le _⟩ dX1_refresh_152 (fun r_ H locs hr_ hT hS => ?_)
                  have hP := hT _ hP
                  obtain ⟨X2, rfl, h_X2⟩ := hr_
                  have h_X2 := rules_next (clo_op n m R) h_t h_E2 h_e2 h_X2
                  refine lv_istore_n (lv' := [(2, .int (nI X2)), (4, .int (nI (clo n m R t2))), (3, .int (nI q)), (1, .int (nI (2 ^ m - 1))), (0, .ref (h 0))]) hx hb dX1_refresh_155 rfl hl (by decide) rfl (fun ls hl => ?_)
                  refine lv_iinc (v := nI (q + 1)) (lv' := [(3, .int (nI (q + 1))), (2, .int (nI X2)), (4, .int (nI (clo n m R t2))), (1, .int (nI (2 ^ m - 1))), (0, .ref (h 0))]) hx hb dX1_refresh_156 hl (k := 2) rfl (nI_1 _) (by decide) rfl (fun ls hl => ?_)
                  refine lv_goto (tgt := 91) hx hb dX1_refresh_159 (by decide) ?_
                  exact ih_q _ _ _ ⟨X2, (p1 + 1), (un ps1 p1 t2), (un pe1 p1 (clo n m R t2)), h_X2.2.1, h_X2.2.2.1, rule_next h_E2 h_X2, h_e2, Nat.lt_of_le_of_lt h_q h_X2.1, hP, hD, hS, lv_sub hl [0, 1, 3, 4] rfl⟩
                · refine lv_goto (tgt := 162) hx hb dX1_refresh_147 (by decide) ?_
                  exact xRV.ret hx hb hr hlocks hS dX1_refresh_162 (k + 1, p1 + 1, un cs1 k t, un ps1 p1 t2, un pe1 p1 (clo n m R t2)) ⟨h_C, by rw [show t2 + 1 = 2 ^ m by omega] at h_E2; exact h_E2⟩ hP hD
          · obtain ⟨t2, p1, ps1, pe1, h_t, h_F, h_E, h_e, h_q, hP, hD, hS, hl⟩ := hI
            exact absurd h_q (by have := p7 hm; omega)
    · obtain ⟨t, cs1, h_t, h_c, h_E, hP, hD, hS, hl⟩ := hI
      exact absurd h_E.le (by have := p7 hm; omega)
  · obtain rfl : ku = 1 := by omega
    exact xRV.ret hx hb hr hlocks hS dX1_refresh_7 (kc, kp, cs, ps, pe) (hfr rfl) hP hD
end
section
/-! ConceptLattice: the public methods that change nothing -/

set_option maxHeartbeats 4000000 in
set_option maxRecDepth 100000 in
theorem m_X1_objects {l : Launch} {D : va_G} {d z : ClassId} {h : Nat → Nat} {n m kc kp ku : Nat} {R C cs ps pe lv : Nat → Nat}  : xRO l yX1_objects cX1_objects 1 (some .int) 0 0 D (tyX d z) (xw h d n m kc kp ku R C cs ps pe lv) [.ref (h 0)] (fun r => r = nI n) := by
  refine xRO.of (by decide) (Nat.le_of_ble_eq_true rfl) ?_
  intro p e S M below meth c hB hK hP ls hl
  obtain ⟨hx, hb, hr, hml, hown, hlocks, hts⟩ := hB
  have hown : S.vm.findClass RX1 = some M.cls := hown
  have hS : va_S (frX S) S.heap S.heap [] := va_S.rf
  have hA : ∀ q : Nat, S.heap.size ≤ q → (frX S) q := fun _ h => h
  have hl : lv_has ls 1 [(0, .ref (h 0))] := hl
  refine lv_aload_n hx hb dX1_objects_0 rfl (lv_at hl 0 rfl) ?_
  refine xg_n hx hb hts hown hK hP dX1_objects_1 ?_
  exact xRO.ret hx hb hr rfl hlocks hS dX1_objects_4 rfl

set_option maxHeartbeats 4000000 in
set_option maxRecDepth 100000 in
theorem m_X1_attributes {l : Launch} {D : va_G} {d z : ClassId} {h : Nat → Nat} {n m kc kp ku : Nat} {R C cs ps pe lv : Nat → Nat}  : xRO l yX1_attributes cX1_attributes 1 (some .int) 0 0 D (tyX d z) (xw h d n m kc kp ku R C cs ps pe lv) [.ref (h 0)] (fun r => r = nI m) := by
  refine xRO.of (by decide) (Nat.le_of_ble_eq_true rfl) ?_
  intro p e S M below meth c hB hK hP ls hl
  obtain ⟨hx, hb, hr, hml, hown, hlocks, hts⟩ := hB
  have hown : S.vm.findClass RX1 = some M.cls := hown
  have hS : va_S (frX S) S.heap S.heap [] := va_S.rf
  have hA : ∀ q : Nat, S.heap.size ≤ q → (frX S) q := fun _ h => h
  have hl : lv_has ls 1 [(0, .ref (h 0))] := hl
  refine lv_aload_n hx hb dX1_attributes_0 rfl (lv_at hl 0 rfl) ?_
  refine xg_m hx hb hts hown hK hP dX1_attributes_1 ?_
  exact xRO.ret hx hb hr rfl hlocks hS dX1_attributes_4 rfl

set_option maxHeartbeats 4000000 in
set_option maxRecDepth 100000 in
theorem m_X1_rowOf {l : Launch} {D : va_G} {d z : ClassId} {h : Nat → Nat} {n m kc kp ku : Nat} {R C cs ps pe lv : Nat → Nat} (hn : n ≤ 8) {x : Int32} : xRO l yX1_rowOf cX1_rowOf 2 (some .int) 1 21 D (tyX d z) (xw h d n m kc kp ku R C cs ps pe lv) [.ref (h 0), .int x] (fun r => r = onS n (fun g => nI (R g)) x) := by
  refine xRO.of (by decide) (Nat.le_of_ble_eq_true rfl) ?_
  intro p e S M below meth c hB hK hP ls hl
  obtain ⟨hx, hb, hr, hml, hown, hlocks, hts⟩ := hB
  have hown : S.vm.findClass RX1 = some M.cls := hown
  have hS : va_S (frX S) S.heap S.heap [] := va_S.rf
  have hA : ∀ q : Nat, S.heap.size ≤ q → (frX S) q := fun _ h => h
  have hl : lv_has ls 2 [(0, .ref (h 0)), (1, .int x)] := hl
  refine lv_aload_n hx hb dX1_rowOf_0 rfl (lv_at hl 0 rfl) ?_
  refine lv_iload_n hx hb dX1_rowOf_1 rfl (lv_at hl 1 rfl) ?_
  refine xRO.call (m_X1_isObject) ⟨hx, hb, hml, hown, hts⟩ (cwV 1 hts (lw_V q84 q86 qs0 q27 q87) rfl rfl rfl (by decide +kernel) ⟨Nat.le_of_ble_eq_true rfl, Nat.le_of_ble_eq_true rfl⟩) hK hP (x_rc hK hP) hS hA hl.1 rfl rfl (Nat.le_of_ble_eq_true rfl) ⟨Nat.zero_le _, Nat.zero_le _⟩ dX1_rowOf_2 (fun r_ H locs hr_ hT hS => ?_)
  have hP := hT _ hP
  subst hr_
  refine nv_eqB hx hb (tgt := 17) dX1_rowOf_5 (by decide) (fun c_5 => ?_) (fun c_5 => ?_)
  · refine lv_iconst (v := (-1)) hx hb dX1_rowOf_17 (by decide) ?_
    exact xRO.ret hx hb hr rfl hlocks hS dX1_rowOf_18 (by rw [onS_f c_5])
  · obtain ⟨j, hj, rfl⟩ := inB_t (by omega) c_5
    refine lv_aload_n hx hb dX1_rowOf_8 rfl (lv_at hl 0 rfl) ?_
    refine xg_rows hx hb hts hown hK hP dX1_rowOf_9 ?_
    refine lv_iload_n hx hb dX1_rowOf_12 rfl (lv_at hl 1 rfl) ?_
    refine xl_rows hx hb hK hP (by omega) dX1_rowOf_13 ?_
    refine lv_goto (tgt := 18) hx hb dX1_rowOf_14 (by decide) ?_
    exact xRO.ret hx hb hr rfl hlocks hS dX1_rowOf_18 (by rw [onS_t (by omega) hj])

set_option maxHeartbeats 4000000 in
set_option maxRecDepth 100000 in
theorem m_X1_extent {l : Launch} {D : va_G} {d z : ClassId} {h : Nat → Nat} {n m kc kp ku : Nat} {R C cs ps pe lv : Nat → Nat} (hn : n ≤ 8) (hm : m ≤ 7) (hC : Cols n m R C) {x : Int32} : xRO l yX1_extent cX1_extent 2 (some .int) 1 23 D (tyX d z) (xw h d n m kc kp ku R C cs ps pe lv) [.ref (h 0), .int x] (fun r => r = onS (2 ^ m) (fun s => nI (exR R s n)) x) := by
  refine xRO.of (by decide) (Nat.le_of_ble_eq_true rfl) ?_
  intro p e S M below meth c hB hK hP ls hl
  obtain ⟨hx, hb, hr, hml, hown, hlocks, hts⟩ := hB
  have hown : S.vm.findClass RX1 = some M.cls := hown
  have hS : va_S (frX S) S.heap S.heap [] := va_S.rf
  have hA : ∀ q : Nat, S.heap.size ≤ q → (frX S) q := fun _ h => h
  have hl : lv_has ls 2 [(0, .ref (h 0)), (1, .int x)] := hl
  refine lv_aload_n hx hb dX1_extent_0 rfl (lv_at hl 0 rfl) ?_
  refine lv_iload_n hx hb dX1_extent_1 rfl (lv_at hl 1 rfl) ?_
  refine xRO.call (m_X1_isSet hm) ⟨hx, hb, hml, hown, hts⟩ (cwV 1 hts (lw_V q100 q102 qs3 q27 q103) rfl rfl rfl (by decide +kernel) ⟨Nat.le_of_ble_eq_true rfl, Nat.le_of_ble_eq_true rfl⟩) hK hP (x_rc hK hP) hS hA hl.1 rfl rfl (Nat.le_of_ble_eq_true rfl) ⟨Nat.zero_le _, Nat.zero_le _⟩ dX1_extent_2 (fun r_ H locs hr_ hT hS => ?_)
  have hP := hT _ hP
  subst hr_
  refine nv_eqB hx hb (tgt := 16) dX1_extent_5 (by decide) (fun c_5 => ?_) (fun c_5 => ?_)
  · refine lv_iconst (v := (-1)) hx hb dX1_extent_16 (by decide) ?_
    exact xRO.ret hx hb hr rfl hlocks hS dX1_extent_17 (by rw [onS_f c_5])
  · obtain ⟨j, hj, rfl⟩ := inB_t (pow_lt hm) c_5
    refine lv_aload_n hx hb dX1_extent_8 rfl (lv_at hl 0 rfl) ?_
    refine lv_iload_n hx hb dX1_extent_9 rfl (lv_at hl 1 rfl) ?_
    refine xRO.call (m_X1_extentOf hn hm (set_lt hm hj)) ⟨hx, hb, hml, hown, hts⟩ (cwV 1 hts (lw_V q112 q114 qs4 q27 q115) rfl rfl rfl (by decide +kernel) ⟨Nat.le_of_ble_eq_true rfl, Nat.le_of_ble_eq_true rfl⟩) hK hP (x_rc hK hP) hS hA hl.1 rfl rfl (Nat.le_of_ble_eq_true rfl) ⟨Nat.zero_le _, Nat.zero_le _⟩ dX1_extent_10 (fun r_ H locs hr_ hT hS => ?_)
    have hP := hT _ hP
    subst hr_
    refine lv_goto (tgt := 17) hx hb dX1_extent_13 (by decide) ?_
    exact xRO.ret hx hb hr rfl hlocks hS dX1_extent_17 (by rw [onS_t (pow_lt hm) hj, exC_eq hC hj])

set_option maxHeartbeats 4000000 in
set_option maxRecDepth 100000 in
theorem m_X1_intent {l : Launch} {D : va_G} {d z : ClassId} {h : Nat → Nat} {n m kc kp ku : Nat} {R C cs ps pe lv : Nat → Nat} (hn : n ≤ 8) (hm : m ≤ 7) {x : Int32} : xRO l yX1_intent cX1_intent 2 (some .int) 1 23 D (tyX d z) (xw h d n m kc kp ku R C cs ps pe lv) [.ref (h 0), .int x] (fun r => r = onS (2 ^ n) (fun s => nI (inR R m s n)) x) := by
  refine xRO.of (by decide) (Nat.le_of_ble_eq_true rfl) ?_
  intro p e S M below meth c hB hK hP ls hl
  obtain ⟨hx, hb, hr, hml, hown, hlocks, hts⟩ := hB
  have hown : S.vm.findClass RX1 = some M.cls := hown
  have hS : va_S (frX S) S.heap S.heap [] := va_S.rf
  have hA : ∀ q : Nat, S.heap.size ≤ q → (frX S) q := fun _ h => h
  have hl : lv_has ls 2 [(0, .ref (h 0)), (1, .int x)] := hl
  refine lv_iload_n hx hb dX1_intent_0 rfl (lv_at hl 1 rfl) ?_
  refine lv_if_lt (tgt := 22) hx hb dX1_intent_1 (by decide) (fun c_1 => ?_) (fun c_1 => ?_)
  · refine lv_iconst (v := (-1)) hx hb dX1_intent_22 (by decide) ?_
    exact xRO.ret hx hb hr rfl hlocks hS dX1_intent_23 (by rw [onS_f (inB_lt c_1)])
  · refine lv_iload_n hx hb dX1_intent_4 rfl (lv_at hl 1 rfl) ?_
    refine lv_iconst (v := nI 1) hx hb dX1_intent_5 (by decide) ?_
    refine lv_aload_n hx hb dX1_intent_6 rfl (lv_at hl 0 rfl) ?_
    refine xg_n hx hb hts hown hK hP dX1_intent_7 ?_
    refine nv_ishl hx hb (by omega) dX1_intent_10 ?_
    refine lv_icmp_ge (tgt := 22) hx hb dX1_intent_11 (by decide) (fun c_11 => ?_) (fun c_11 => ?_)
    · refine lv_iconst (v := (-1)) hx hb dX1_intent_22 (by decide) ?_
      exact xRO.ret hx hb hr rfl hlocks hS dX1_intent_23 (by rw [onS_f (inB_ge c_11)])
    · obtain ⟨j, hj, rfl⟩ := inB_t (pow8_lt hn) (inB_in c_1 c_11)
      refine lv_aload_n hx hb dX1_intent_14 rfl (lv_at hl 0 rfl) ?_
      refine lv_iload_n hx hb dX1_intent_15 rfl (lv_at hl 1 rfl) ?_
      refine xRO.call (m_X1_intentOf hn hm (ext_lt hn hj)) ⟨hx, hb, hml, hown, hts⟩ (cwV 1 hts (lw_V q120 q122 qs5 q27 q123) rfl rfl rfl (by decide +kernel) ⟨Nat.le_of_ble_eq_true rfl, Nat.le_of_ble_eq_true rfl⟩) hK hP (x_rc hK hP) hS hA hl.1 rfl rfl (Nat.le_of_ble_eq_true rfl) ⟨Nat.zero_le _, Nat.zero_le _⟩ dX1_intent_16 (fun r_ H locs hr_ hT hS => ?_)
      have hP := hT _ hP
      subst hr_
      refine lv_goto (tgt := 23) hx hb dX1_intent_19 (by decide) ?_
      exact xRO.ret hx hb hr rfl hlocks hS dX1_intent_23 (by rw [onS_t (pow8_lt hn) hj])

set_option maxHeartbeats 4000000 in
set_option maxRecDepth 100000 in
theorem m_X1_closure {l : Launch} {D : va_G} {d z : ClassId} {h : Nat → Nat} {n m kc kp ku : Nat} {R C cs ps pe lv : Nat → Nat} (hn : n ≤ 8) (hm : m ≤ 7) (hC : Cols n m R C) {x : Int32} : xRO l yX1_closure cX1_closure 2 (some .int) 2 45 D (tyX d z) (xw h d n m kc kp ku R C cs ps pe lv) [.ref (h 0), .int x] (fun r => r = onS (2 ^ m) (fun s => nI (clo n m R s)) x) := by
  refine xRO.of (by decide) (Nat.le_of_ble_eq_true rfl) ?_
  intro p e S M below meth c hB hK hP ls hl
  obtain ⟨hx, hb, hr, hml, hown, hlocks, hts⟩ := hB
  have hown : S.vm.findClass RX1 = some M.cls := hown
  have hS : va_S (frX S) S.heap S.heap [] := va_S.rf
  have hA : ∀ q : Nat, S.heap.size ≤ q → (frX S) q := fun _ h => h
  have hl : lv_has ls 2 [(0, .ref (h 0)), (1, .int x)] := hl
  refine lv_aload_n hx hb dX1_closure_0 rfl (lv_at hl 0 rfl) ?_
  refine lv_iload_n hx hb dX1_closure_1 rfl (lv_at hl 1 rfl) ?_
  refine xRO.call (m_X1_isSet hm) ⟨hx, hb, hml, hown, hts⟩ (cwV 1 hts (lw_V q100 q102 qs3 q27 q103) rfl rfl rfl (by decide +kernel) ⟨Nat.le_of_ble_eq_true rfl, Nat.le_of_ble_eq_true rfl⟩) hK hP (x_rc hK hP) hS hA hl.1 rfl rfl (Nat.le_of_ble_eq_true rfl) ⟨Nat.zero_le _, Nat.zero_le _⟩ dX1_closure_2 (fun r_ H locs hr_ hT hS => ?_)
  have hP := hT _ hP
  subst hr_
  refine nv_eqB hx hb (tgt := 16) dX1_closure_5 (by decide) (fun c_5 => ?_) (fun c_5 => ?_)
  · refine lv_iconst (v := (-1)) hx hb dX1_closure_16 (by decide) ?_
    exact xRO.ret hx hb hr rfl hlocks hS dX1_closure_17 (by rw [onS_f c_5])
  · obtain ⟨j, hj, rfl⟩ := inB_t (pow_lt hm) c_5
    refine lv_aload_n hx hb dX1_closure_8 rfl (lv_at hl 0 rfl) ?_
    refine lv_iload_n hx hb dX1_closure_9 rfl (lv_at hl 1 rfl) ?_
    refine xRO.call (m_X1_closed hn hm hC hj) ⟨hx, hb, hml, hown, hts⟩ (cwV 1 hts (lw_V q128 q130 qs6 q27 q131) rfl rfl rfl (by decide +kernel) ⟨Nat.le_of_ble_eq_true rfl, Nat.le_of_ble_eq_true rfl⟩) hK hP (x_rc hK hP) hS hA hl.1 rfl rfl (Nat.le_of_ble_eq_true rfl) ⟨Nat.zero_le _, Nat.zero_le _⟩ dX1_closure_10 (fun r_ H locs hr_ hT hS => ?_)
    have hP := hT _ hP
    subst hr_
    refine lv_goto (tgt := 17) hx hb dX1_closure_13 (by decide) ?_
    exact xRO.ret hx hb hr rfl hlocks hS dX1_closure_17 (by rw [onS_t (pow_lt hm) hj])

set_option maxHeartbeats 4000000 in
set_option maxRecDepth 100000 in
theorem m_X1_nextClosed {l : Launch} {D : va_G} {d z : ClassId} {h : Nat → Nat} {n m kc kp ku : Nat} {R C cs ps pe lv : Nat → Nat} (hn : n ≤ 8) (hm : m ≤ 7) (hC : Cols n m R C) {x : Int32} : xRO l yX1_nextClosed cX1_nextClosed 3 (some .int) 3 70 D (tyX d z) (xw h d n m kc kp ku R C cs ps pe lv) [.ref (h 0), .int x] (fun r => Nxt m (clo n m R) x r) := by
  refine xRO.of (by decide) (Nat.le_of_ble_eq_true rfl) ?_
  intro p e S M below meth c hB hK hP ls hl
  obtain ⟨hx, hb, hr, hml, hown, hlocks, hts⟩ := hB
  have hown : S.vm.findClass RX1 = some M.cls := hown
  have hS : va_S (frX S) S.heap S.heap [] := va_S.rf
  have hA : ∀ q : Nat, S.heap.size ≤ q → (frX S) q := fun _ h => h
  have hl : lv_has ls 3 [(0, .ref (h 0)), (1, .int x)] := hl
  refine lv_iconst (v := nI 1) hx hb dX1_nextClosed_0 (by decide) ?_
  refine lv_aload_n hx hb dX1_nextClosed_1 rfl (lv_at hl 0 rfl) ?_
  refine xg_m hx hb hts hown hK hP dX1_nextClosed_2 ?_
  refine nv_ishl hx hb (by omega) dX1_nextClosed_5 ?_
  refine lv_iconst (v := nI 1) hx hb dX1_nextClosed_6 (by decide) ?_
  refine nv_isub hx hb (pw_1 _) dX1_nextClosed_7 ?_
  refine lv_istore_n (lv' := [(2, .int (nI ((2 ^ m) - 1))), (0, .ref (h 0)), (1, .int x)]) hx hb dX1_nextClosed_8 rfl hl (by decide) rfl (fun ls hl => ?_)
  refine lv_iload_n hx hb dX1_nextClosed_9 rfl (lv_at hl 2 rfl) ?_
  refine lv_iload_n hx hb dX1_nextClosed_10 rfl (lv_at hl 0 rfl) ?_
  refine lv_icmp_lt (tgt := 16) hx hb dX1_nextClosed_11 (by decide) (fun c_11 => ?_) (fun c_11 => ?_)
  · refine lv_iload_n hx hb dX1_nextClosed_16 rfl (lv_at hl 2 rfl) ?_
    refine lv_if_ge (tgt := 28) hx hb dX1_nextClosed_17 (by decide) (fun c_17 => ?_) (fun c_17 => ?_)
    · obtain ⟨j, hj, rfl⟩ := ge_in (all_lt hm) c_17 c_11
      refine lv_aload_n hx hb dX1_nextClosed_28 rfl (lv_at hl 1 rfl) ?_
      refine lv_iload_n hx hb dX1_nextClosed_29 rfl (lv_at hl 2 rfl) ?_
      refine xRO.call (m_X1_stepClosed hn hm hC hj) ⟨hx, hb, hml, hown, hts⟩ (cwV 1 hts (lw_V q140 q142 qs8 q27 q143) rfl rfl rfl (by decide +kernel) ⟨Nat.le_of_ble_eq_true rfl, Nat.le_of_ble_eq_true rfl⟩) hK hP (x_rc hK hP) hS hA hl.1 rfl rfl (Nat.le_of_ble_eq_true rfl) ⟨Nat.zero_le _, Nat.zero_le _⟩ dX1_nextClosed_30 (fun r_ H locs hr_ hT hS => ?_)
      have hP := hT _ hP
      obtain ⟨X, rfl, h_X⟩ := hr_
      exact xRO.ret hx hb hr rfl hlocks hS dX1_nextClosed_33 (nxt_step hm hj h_X)
    · refine lv_aload_n hx hb dX1_nextClosed_20 rfl (lv_at hl 1 rfl) ?_
      refine lv_iconst (v := nI 0) hx hb dX1_nextClosed_21 (by decide) ?_
      refine xRO.call (m_X1_closed hn hm hC (Nat.two_pow_pos m)) ⟨hx, hb, hml, hown, hts⟩ (cwV 1 hts (lw_V q128 q130 qs6 q27 q131) rfl rfl rfl (by decide +kernel) ⟨Nat.le_of_ble_eq_true rfl, Nat.le_of_ble_eq_true rfl⟩) hK hP (x_rc hK hP) hS hA hl.1 rfl rfl (Nat.le_of_ble_eq_true rfl) ⟨Nat.zero_le _, Nat.zero_le _⟩ dX1_nextClosed_22 (fun r_ H locs hr_ hT hS => ?_)
      have hP := hT _ hP
      subst hr_
      refine lv_goto (tgt := 33) hx hb dX1_nextClosed_25 (by decide) ?_
      exact xRO.ret hx hb hr rfl hlocks hS dX1_nextClosed_33 (nxt_neg (clo_op n m R) hm c_17)
  · refine lv_iconst (v := (-1)) hx hb dX1_nextClosed_14 (by decide) ?_
    exact xRO.ret hx hb hr rfl hlocks hS dX1_nextClosed_15 (nxt_none hm c_11)

set_option maxHeartbeats 4000000 in
set_option maxRecDepth 100000 in
theorem m_X1_follows {l : Launch} {D : va_G} {d z : ClassId} {h : Nat → Nat} {n m kc kp ku : Nat} {R C cs ps pe lv : Nat → Nat} (hn : n ≤ 8) (hm : m ≤ 7) (hC : Cols n m R C) {x y : Int32} : xRO l yX1_follows cX1_follows 3 (some .int) 2 45 D (tyX d z) (xw h d n m kc kp ku R C cs ps pe lv) [.ref (h 0), .int x, .int y] (fun r => r = fol2 n m R x y) := by
  refine xRO.of (by decide) (Nat.le_of_ble_eq_true rfl) ?_
  intro p e S M below meth c hB hK hP ls hl
  obtain ⟨hx, hb, hr, hml, hown, hlocks, hts⟩ := hB
  have hown : S.vm.findClass RX1 = some M.cls := hown
  have hS : va_S (frX S) S.heap S.heap [] := va_S.rf
  have hA : ∀ q : Nat, S.heap.size ≤ q → (frX S) q := fun _ h => h
  have hl : lv_has ls 3 [(0, .ref (h 0)), (1, .int x), (2, .int y)] := hl
  refine lv_aload_n hx hb dX1_follows_0 rfl (lv_at hl 0 rfl) ?_
  refine lv_iload_n hx hb dX1_follows_1 rfl (lv_at hl 1 rfl) ?_
  refine xRO.call (m_X1_isSet hm) ⟨hx, hb, hml, hown, hts⟩ (cwV 1 hts (lw_V q100 q102 qs3 q27 q103) rfl rfl rfl (by decide +kernel) ⟨Nat.le_of_ble_eq_true rfl, Nat.le_of_ble_eq_true rfl⟩) hK hP (x_rc hK hP) hS hA hl.1 rfl rfl (Nat.le_of_ble_eq_true rfl) ⟨Nat.zero_le _, Nat.zero_le _⟩ dX1_follows_2 (fun r_ H locs hr_ hT hS => ?_)
  have hP := hT _ hP
  subst hr_
  refine nv_eqB hx hb (tgt := 16) dX1_follows_5 (by decide) (fun c_5 => ?_) (fun c_5 => ?_)
  · refine lv_iconst (v := (-1)) hx hb dX1_follows_16 (by decide) ?_
    exact xRO.ret hx hb hr rfl hlocks hS dX1_follows_17 (by rw [fol2_1 c_5])
  · refine lv_aload_n hx hb dX1_follows_8 rfl (lv_at hl 0 rfl) ?_
    refine lv_iload_n hx hb dX1_follows_9 rfl (lv_at hl 2 rfl) ?_
    refine xRO.call (m_X1_isSet hm) ⟨hx, hb, hml, hown, hts⟩ (cwV 1 hts (lw_V q100 q102 qs3 q27 q103) rfl rfl rfl (by decide +kernel) ⟨Nat.le_of_ble_eq_true rfl, Nat.le_of_ble_eq_true rfl⟩) hK hP (x_rc hK hP) hS hA hl.1 rfl rfl (Nat.le_of_ble_eq_true rfl) ⟨Nat.zero_le _, Nat.zero_le _⟩ dX1_follows_10 (fun r_ H locs hr_ hT hS => ?_)
    have hP := hT _ hP
    subst hr_
    refine nv_neB hx hb (tgt := 18) dX1_follows_13 (by decide) (fun c_13 => ?_) (fun c_13 => ?_)
    · obtain ⟨p0, hp, rfl⟩ := inB_t (pow_lt hm) c_5
      obtain ⟨q0, hq, rfl⟩ := inB_t (pow_lt hm) c_13
      refine lv_iload_n hx hb dX1_follows_18 rfl (lv_at hl 2 rfl) ?_
      refine lv_aload_n hx hb dX1_follows_19 rfl (lv_at hl 0 rfl) ?_
      refine lv_iload_n hx hb dX1_follows_20 rfl (lv_at hl 1 rfl) ?_
      refine xRO.call (m_X1_closed hn hm hC hp) ⟨hx, hb, hml, hown, hts⟩ (cwV 1 hts (lw_V q128 q130 qs6 q27 q131) rfl rfl rfl (by decide +kernel) ⟨Nat.le_of_ble_eq_true rfl, Nat.le_of_ble_eq_true rfl⟩) hK hP (x_rc hK hP) hS hA hl.1 rfl rfl (Nat.le_of_ble_eq_true rfl) ⟨Nat.zero_le _, Nat.zero_le _⟩ dX1_follows_21 (fun r_ H locs hr_ hT hS => ?_)
      have hP := hT _ hP
      subst hr_
      refine nv_andn hx hb dX1_follows_24 dX1_follows_25 dX1_follows_26 ?_
      refine nv_ne0 hx hb (Nat.lt_of_le_of_lt (nd_le _ _) (set_lt hm hq)) (tgt := 34) dX1_follows_27 (by decide) (fun c_27 => ?_) (fun c_27 => ?_)
      · refine lv_iconst (v := nI 0) hx hb dX1_follows_34 (by decide) ?_
        exact xRO.ret hx hb hr rfl hlocks hS dX1_follows_35 (by rw [fol2_3 (pow_lt hm) hp hq]; unfold folV; rw [if_neg c_27]; rfl)
      · refine lv_iconst (v := nI 1) hx hb dX1_follows_30 (by decide) ?_
        refine lv_goto (tgt := 35) hx hb dX1_follows_31 (by decide) ?_
        exact xRO.ret hx hb hr rfl hlocks hS dX1_follows_35 (by rw [fol2_3 (pow_lt hm) hp hq]; unfold folV; rw [if_pos c_27]; rfl)
    · refine lv_iconst (v := (-1)) hx hb dX1_follows_16 (by decide) ?_
      exact xRO.ret hx hb hr rfl hlocks hS dX1_follows_17 (by rw [fol2_2 c_13])

set_option maxHeartbeats 4000000 in
set_option maxRecDepth 100000 in
theorem m_X1_covers {l : Launch} {D : va_G} {d z : ClassId} {h : Nat → Nat} {n m kc kp ku : Nat} {R C cs ps pe lv : Nat → Nat} (hn : n ≤ 8) (hm : m ≤ 7) (hC : Cols n m R C) {x : Int32} : xRO l yX1_covers cX1_covers 3 (some .int) 4 93 D (tyX d z) (xw h d n m kc kp ku R C cs ps pe lv) [.ref (h 0), .int x] (fun r => r = onS (2 ^ m) (fun s => nI (covN m (clo n m R) (clo n m R s))) x) := by
  refine xRO.of (by decide) (Nat.le_of_ble_eq_true rfl) ?_
  intro p e S M below meth c hB hK hP ls hl
  obtain ⟨hx, hb, hr, hml, hown, hlocks, hts⟩ := hB
  have hown : S.vm.findClass RX1 = some M.cls := hown
  have hS : va_S (frX S) S.heap S.heap [] := va_S.rf
  have hA : ∀ q : Nat, S.heap.size ≤ q → (frX S) q := fun _ h => h
  have hl : lv_has ls 3 [(0, .ref (h 0)), (1, .int x)] := hl
  refine lv_aload_n hx hb dX1_covers_0 rfl (lv_at hl 0 rfl) ?_
  refine lv_iload_n hx hb dX1_covers_1 rfl (lv_at hl 1 rfl) ?_
  refine xRO.call (m_X1_isSet hm) ⟨hx, hb, hml, hown, hts⟩ (cwV 1 hts (lw_V q100 q102 qs3 q27 q103) rfl rfl rfl (by decide +kernel) ⟨Nat.le_of_ble_eq_true rfl, Nat.le_of_ble_eq_true rfl⟩) hK hP (x_rc hK hP) hS hA hl.1 rfl rfl (Nat.le_of_ble_eq_true rfl) ⟨Nat.zero_le _, Nat.zero_le _⟩ dX1_covers_2 (fun r_ H locs hr_ hT hS => ?_)
  have hP := hT _ hP
  subst hr_
  refine nv_neB hx hb (tgt := 10) dX1_covers_5 (by decide) (fun c_5 => ?_) (fun c_5 => ?_)
  · obtain ⟨j, hj, rfl⟩ := inB_t (pow_lt hm) c_5
    refine lv_aload_n hx hb dX1_covers_10 rfl (lv_at hl 0 rfl) ?_
    refine lv_iload_n hx hb dX1_covers_11 rfl (lv_at hl 1 rfl) ?_
    refine xRO.call (m_X1_closed hn hm hC hj) ⟨hx, hb, hml, hown, hts⟩ (cwV 1 hts (lw_V q128 q130 qs6 q27 q131) rfl rfl rfl (by decide +kernel) ⟨Nat.le_of_ble_eq_true rfl, Nat.le_of_ble_eq_true rfl⟩) hK hP (x_rc hK hP) hS hA hl.1 rfl rfl (Nat.le_of_ble_eq_true rfl) ⟨Nat.zero_le _, Nat.zero_le _⟩ dX1_covers_12 (fun r_ H locs hr_ hT hS => ?_)
    have hP := hT _ hP
    subst hr_
    refine lv_istore_n (lv' := [(2, .int (nI (clo n m R j))), (0, .ref (h 0)), (1, .int (nI j))]) hx hb dX1_covers_15 rfl hl (by decide) rfl (fun ls hl => ?_)
    refine lv_aload_n hx hb dX1_covers_16 rfl (lv_at hl 1 rfl) ?_
    refine lv_iload_n hx hb dX1_covers_17 rfl (lv_at hl 0 rfl) ?_
    refine xRO.call (m_X1_coversOf hn hm hC ((clo_op n m R).1 _ hj) ((clo_op n m R).2.2.2 _ hj)) ⟨hx, hb, hml, hown, hts⟩ (cwV 1 hts (lw_V q176 q178 qs11 q27 q179) rfl rfl rfl (by decide +kernel) ⟨Nat.le_of_ble_eq_true rfl, Nat.le_of_ble_eq_true rfl⟩) hK hP (x_rc hK hP) hS hA hl.1 rfl rfl (Nat.le_of_ble_eq_true rfl) ⟨Nat.zero_le _, Nat.zero_le _⟩ dX1_covers_18 (fun r_ H locs hr_ hT hS => ?_)
    have hP := hT _ hP
    subst hr_
    exact xRO.ret hx hb hr rfl hlocks hS dX1_covers_21 (by rw [onS_t (pow_lt hm) hj])
  · refine lv_iconst (v := (-1)) hx hb dX1_covers_8 (by decide) ?_
    exact xRO.ret hx hb hr rfl hlocks hS dX1_covers_9 (by rw [onS_f c_5])

set_option maxHeartbeats 4000000 in
set_option maxRecDepth 100000 in
theorem m_X1_generatorSize {l : Launch} {D : va_G} {d z : ClassId} {h : Nat → Nat} {n m kc kp ku : Nat} {R C cs ps pe lv : Nat → Nat} (hn : n ≤ 8) (hm : m ≤ 7) (hC : Cols n m R C) {x : Int32} : xRO l yX1_generatorSize cX1_generatorSize 7 (some .int) 2 45 D (tyX d z) (xw h d n m kc kp ku R C cs ps pe lv) [.ref (h 0), .int x] (fun r => GenP m (clo n m R) x r) := by
  refine xRO.of (by decide) (Nat.le_of_ble_eq_true rfl) ?_
  intro p e S M below meth c hB hK hP ls hl
  obtain ⟨hx, hb, hr, hml, hown, hlocks, hts⟩ := hB
  have hown : S.vm.findClass RX1 = some M.cls := hown
  have hS : va_S (frX S) S.heap S.heap [] := va_S.rf
  have hA : ∀ q : Nat, S.heap.size ≤ q → (frX S) q := fun _ h => h
  have hl : lv_has ls 7 [(0, .ref (h 0)), (1, .int x)] := hl
  refine lv_aload_n hx hb dX1_generatorSize_0 rfl (lv_at hl 0 rfl) ?_
  refine lv_iload_n hx hb dX1_generatorSize_1 rfl (lv_at hl 1 rfl) ?_
  refine xRO.call (m_X1_isSet hm) ⟨hx, hb, hml, hown, hts⟩ (cwV 1 hts (lw_V q100 q102 qs3 q27 q103) rfl rfl rfl (by decide +kernel) ⟨Nat.le_of_ble_eq_true rfl, Nat.le_of_ble_eq_true rfl⟩) hK hP (x_rc hK hP) hS hA hl.1 rfl rfl (Nat.le_of_ble_eq_true rfl) ⟨Nat.zero_le _, Nat.zero_le _⟩ dX1_generatorSize_2 (fun r_ H locs hr_ hT hS => ?_)
  have hP := hT _ hP
  subst hr_
  refine nv_neB hx hb (tgt := 10) dX1_generatorSize_5 (by decide) (fun c_5 => ?_) (fun c_5 => ?_)
  · obtain ⟨s, hs, rfl⟩ := inB_t (pow_lt hm) c_5
    have hG : clo n m R s < 2 ^ m := (clo_op n m R).1 _ hs
    refine lv_aload_n hx hb dX1_generatorSize_10 rfl (lv_at hl 0 rfl) ?_
    refine lv_iload_n hx hb dX1_generatorSize_11 rfl (lv_at hl 1 rfl) ?_
    refine xRO.call (m_X1_closed hn hm hC hs) ⟨hx, hb, hml, hown, hts⟩ (cwV 1 hts (lw_V q128 q130 qs6 q27 q131) rfl rfl rfl (by decide +kernel) ⟨Nat.le_of_ble_eq_true rfl, Nat.le_of_ble_eq_true rfl⟩) hK hP (x_rc hK hP) hS hA hl.1 rfl rfl (Nat.le_of_ble_eq_true rfl) ⟨Nat.zero_le _, Nat.zero_le _⟩ dX1_generatorSize_12 (fun r_ H locs hr_ hT hS => ?_)
    have hP := hT _ hP
    subst hr_
    refine lv_istore_n (lv' := [(2, .int (nI (clo n m R s))), (0, .ref (h 0)), (1, .int (nI s))]) hx hb dX1_generatorSize_15 rfl hl (by decide) rfl (fun ls hl => ?_)
    refine lv_aload_n hx hb dX1_generatorSize_16 rfl (lv_at hl 1 rfl) ?_
    refine xg_m hx hb hts hown hK hP dX1_generatorSize_17 ?_
    refine lv_istore_n (lv' := [(3, .int (nI m)), (2, .int (nI (clo n m R s))), (0, .ref (h 0)), (1, .int (nI s))]) hx hb dX1_generatorSize_20 rfl hl (by decide) rfl (fun ls hl => ?_)
    refine lv_iload_n hx hb dX1_generatorSize_21 rfl (lv_at hl 1 rfl) ?_
    refine lv_istore (lv' := [(4, .int (nI (clo n m R s))), (3, .int (nI m)), (2, .int (nI (clo n m R s))), (0, .ref (h 0)), (1, .int (nI s))]) hx hb dX1_generatorSize_22 hl (by decide) rfl (fun ls hl => ?_)
    refine lv_iconst (v := nI 0) hx hb dX1_generatorSize_24 (by decide) ?_
    refine lv_istore (lv' := [(5, .int (nI 0)), (4, .int (nI (clo n m R s))), (3, .int (nI m)), (2, .int (nI (clo n m R s))), (0, .ref (h 0)), (1, .int (nI s))]) hx hb dX1_generatorSize_25 hl (by decide) rfl (fun ls hl => ?_)
    refine nv_loop (fun (k : Nat) (H : Heap) (locs : List Loc) (ls : Array Slot) => ∃ (part : Nat), ∃ (least : Nat), GIn m (clo n m R) (clo n m R s) part least ∧ part + k ≤ 127 ∧ va_P D clX (xw h d n m kc kp ku R C cs ps pe lv) H ∧ va_S (frX S) S.heap H locs ∧ lv_has ls 7 [(5, .int (nI k)), (4, .int (nI part)), (3, .int (nI least)), (2, .int (nI (clo n m R s))), (0, .ref (h 0)), (1, .int (nI s))]) (128) (fun k H locs ls hi_k hI ih_k => ?_) (fun H locs ls hI => ?_) 0 (Nat.zero_le _) ⟨clo n m R s, m, GIn.start m (clo n m R) (clo n m R s), by have := p7 hm; omega, hP, hS, lv_sub hl [0, 1, 2, 3, 4, 5] rfl⟩
    · obtain ⟨part, least, h_G, h_k, hP, hS, hl⟩ := hI
      refine lv_iload hx hb dX1_generatorSize_27 (lv_at hl 0 rfl) ?_
      refine lv_sipush (v := nI 128) hx hb dX1_generatorSize_29 (by decide) ?_
      refine nv_ge hx hb (by omega) (by decide) (tgt := 83) dX1_generatorSize_32 (by decide) (fun c_32 => ?_) (fun c_32 => ?_)
      · exact absurd hi_k (by omega)
      · have hpt : part < 2 ^ m := Nat.lt_of_le_of_lt (ssb_le h_G.1) hG
        refine lv_iload hx hb dX1_generatorSize_35 (lv_at hl 1 rfl) ?_
        refine xRO.callS (m_X1_ones (set_lt hm hpt)) ⟨hx, hb, hml, hown, hts⟩ (va_cwS 1 hts (lw_S q196 q197 q27 q198) rfl rfl rfl (by decide +kernel) ⟨Nat.le_of_ble_eq_true rfl, Nat.le_of_ble_eq_true rfl⟩) hK (fun k q h => by simp at h) hS hA hl.1 rfl rfl (Nat.le_of_ble_eq_true rfl) ⟨Nat.zero_le _, Nat.zero_le _⟩ dX1_generatorSize_37 (fun r_ H locs hr_ hT hS => ?_)
        have hP := hT _ hP
        rw [cnt_8 hpt hm] at hr_; subst hr_
        refine lv_istore (lv' := [(6, .int (nI (cnt part 7))), (5, .int (nI k)), (4, .int (nI part)), (3, .int (nI least)), (2, .int (nI (clo n m R s))), (0, .ref (h 0)), (1, .int (nI s))]) hx hb dX1_generatorSize_40 hl (by decide) rfl (fun ls hl => ?_)
        refine lv_iload hx hb dX1_generatorSize_42 (lv_at hl 0 rfl) ?_
        refine lv_iload_n hx hb dX1_generatorSize_44 rfl (lv_at hl 3 rfl) ?_
        refine nv_ge hx hb (by have := cnt_le part 7; omega) (by have := h_G.2.1; omega) (tgt := 61) dX1_generatorSize_45 (by decide) (fun c_45 => ?_) (fun c_45 => ?_)
        · have h_1 : GIn1 m (clo n m R) (clo n m R s) part least := h_G.leave (fun z => absurd z.1 (by omega))
          refine lv_iload hx hb dX1_generatorSize_61 (lv_at hl 2 rfl) ?_
          refine nv_ne0 hx hb (set_lt hm (Nat.lt_of_le_of_lt (ssb_le h_G.1) hG)) (tgt := 69) dX1_generatorSize_63 (by decide) (fun c_63 => ?_) (fun c_63 => ?_)
          · refine lv_iload hx hb dX1_generatorSize_69 (lv_at hl 2 rfl) ?_
            refine lv_iconst (v := nI 1) hx hb dX1_generatorSize_71 (by decide) ?_
            refine nv_isub hx hb (by omega) dX1_generatorSize_72 ?_
            refine lv_iload_n hx hb dX1_generatorSize_73 rfl (lv_at hl 4 rfl) ?_
            refine nv_iand hx hb dX1_generatorSize_74 ?_
            refine lv_istore (lv' := [(4, .int (nI ((part - 1) &&& (clo n m R s)))), (6, .int (nI (cnt part 7))), (5, .int (nI k)), (3, .int (nI least)), (2, .int (nI (clo n m R s))), (0, .ref (h 0)), (1, .int (nI s))]) hx hb dX1_generatorSize_75 hl (by decide) rfl (fun ls hl => ?_)
            refine lv_iinc (v := nI (k + 1)) (lv' := [(5, .int (nI (k + 1))), (4, .int (nI ((part - 1) &&& (clo n m R s)))), (6, .int (nI (cnt part 7))), (3, .int (nI least)), (2, .int (nI (clo n m R s))), (0, .ref (h 0)), (1, .int (nI s))]) hx hb dX1_generatorSize_77 hl (k := 2) rfl (nI_1 _) (by decide) rfl (fun ls hl => ?_)
            refine lv_goto (tgt := 27) hx hb dX1_generatorSize_80 (by decide) ?_
            exact ih_k _ _ _ ⟨(part - 1) &&& clo n m R s, least, h_1.next, by have := Nat.and_le_left (n := part - 1) (m := clo n m R s); omega, hP, hS, lv_sub hl [0, 1, 3, 4, 5, 6] rfl⟩
          · refine lv_goto (tgt := 83) hx hb dX1_generatorSize_66 (by decide) ?_
            subst c_63
            refine lv_iload_n hx hb dX1_generatorSize_83 rfl (lv_at hl 3 rfl) ?_
            exact xRO.ret hx hb hr rfl hlocks hS dX1_generatorSize_84 (Or.inr ⟨s, _, rfl, hs, h_1.done (clo_op n m R) hm hG ((clo_op n m R).2.2.2 _ hs), rfl⟩)
        · refine lv_aload_n hx hb dX1_generatorSize_48 rfl (lv_at hl 5 rfl) ?_
          refine lv_iload hx hb dX1_generatorSize_49 (lv_at hl 2 rfl) ?_
          refine xRO.call (m_X1_closed hn hm hC hpt) ⟨hx, hb, hml, hown, hts⟩ (cwV 1 hts (lw_V q128 q130 qs6 q27 q131) rfl rfl rfl (by decide +kernel) ⟨Nat.le_of_ble_eq_true rfl, Nat.le_of_ble_eq_true rfl⟩) hK hP (x_rc hK hP) hS hA hl.1 rfl rfl (Nat.le_of_ble_eq_true rfl) ⟨Nat.zero_le _, Nat.zero_le _⟩ dX1_generatorSize_51 (fun r_ H locs hr_ hT hS => ?_)
          have hP := hT _ hP
          subst hr_
          refine lv_iload_n hx hb dX1_generatorSize_54 rfl (lv_at hl 4 rfl) ?_
          refine nv_ne hx hb (set_lt hm ((clo_op n m R).1 _ hpt)) (set_lt hm hG) (tgt := 61) dX1_generatorSize_55 (by decide) (fun c_55 => ?_) (fun c_55 => ?_)
          · have h_1 : GIn1 m (clo n m R) (clo n m R s) part least := h_G.leave (fun z => c_55 z.2)
            refine lv_iload hx hb dX1_generatorSize_61 (lv_at hl 2 rfl) ?_
            refine nv_ne0 hx hb (set_lt hm (Nat.lt_of_le_of_lt (ssb_le h_G.1) hG)) (tgt := 69) dX1_generatorSize_63 (by decide) (fun c_63 => ?_) (fun c_63 => ?_)
            · refine lv_iload hx hb dX1_generatorSize_69 (lv_at hl 2 rfl) ?_
              refine lv_iconst (v := nI 1) hx hb dX1_generatorSize_71 (by decide) ?_
              refine nv_isub hx hb (by omega) dX1_generatorSize_72 ?_
              refine lv_iload_n hx hb dX1_generatorSize_73 rfl (lv_at hl 4 rfl) ?_
              refine nv_iand hx hb dX1_generatorSize_74 ?_
              refine lv_istore (lv' := [(4, .int (nI ((part - 1) &&& (clo n m R s)))), (6, .int (nI (cnt part 7))), (5, .int (nI k)), (3, .int (nI least)), (2, .int (nI (clo n m R s))), (0, .ref (h 0)), (1, .int (nI s))]) hx hb dX1_generatorSize_75 hl (by decide) rfl (fun ls hl => ?_)
              refine lv_iinc (v := nI (k + 1)) (lv' := [(5, .int (nI (k + 1))), (4, .int (nI ((part - 1) &&& (clo n m R s)))), (6, .int (nI (cnt part 7))), (3, .int (nI least)), (2, .int (nI (clo n m R s))), (0, .ref (h 0)), (1, .int (nI s))]) hx hb dX1_generatorSize_77 hl (k := 2) rfl (nI_1 _) (by decide) rfl (fun ls hl => ?_)
              refine lv_goto (tgt := 27) hx hb dX1_generatorSize_80 (by decide) ?_
              exact ih_k _ _ _ ⟨(part - 1) &&& clo n m R s, least, h_1.next, by have := Nat.and_le_left (n := part - 1) (m := clo n m R s); omega, hP, hS, lv_sub hl [0, 1, 3, 4, 5, 6] rfl⟩
            · refine lv_goto (tgt := 83) hx hb dX1_generatorSize_66 (by decide) ?_
              subst c_63
              refine lv_iload_n hx hb dX1_generatorSize_83 rfl (lv_at hl 3 rfl) ?_
              exact xRO.ret hx hb hr rfl hlocks hS dX1_generatorSize_84 (Or.inr ⟨s, _, rfl, hs, h_1.done (clo_op n m R) hm hG ((clo_op n m R).2.2.2 _ hs), rfl⟩)
          · refine lv_iload hx hb dX1_generatorSize_58 (lv_at hl 0 rfl) ?_
            refine lv_istore_n (lv' := [(3, .int (nI (cnt part 7))), (6, .int (nI (cnt part 7))), (5, .int (nI k)), (4, .int (nI part)), (2, .int (nI (clo n m R s))), (0, .ref (h 0)), (1, .int (nI s))]) hx hb dX1_generatorSize_60 rfl hl (by decide) rfl (fun ls hl => ?_)
            have h_1 : GIn1 m (clo n m R) (clo n m R s) part (cnt part 7) := h_G.take hG c_45 c_55
            refine lv_iload hx hb dX1_generatorSize_61 (lv_at hl 3 rfl) ?_
            refine nv_ne0 hx hb (set_lt hm (Nat.lt_of_le_of_lt (ssb_le h_G.1) hG)) (tgt := 69) dX1_generatorSize_63 (by decide) (fun c_63 => ?_) (fun c_63 => ?_)
            · refine lv_iload hx hb dX1_generatorSize_69 (lv_at hl 3 rfl) ?_
              refine lv_iconst (v := nI 1) hx hb dX1_generatorSize_71 (by decide) ?_
              refine nv_isub hx hb (by omega) dX1_generatorSize_72 ?_
              refine lv_iload_n hx hb dX1_generatorSize_73 rfl (lv_at hl 4 rfl) ?_
              refine nv_iand hx hb dX1_generatorSize_74 ?_
              refine lv_istore (lv' := [(4, .int (nI ((part - 1) &&& (clo n m R s)))), (3, .int (nI (cnt part 7))), (6, .int (nI (cnt part 7))), (5, .int (nI k)), (2, .int (nI (clo n m R s))), (0, .ref (h 0)), (1, .int (nI s))]) hx hb dX1_generatorSize_75 hl (by decide) rfl (fun ls hl => ?_)
              refine lv_iinc (v := nI (k + 1)) (lv' := [(5, .int (nI (k + 1))), (4, .int (nI ((part - 1) &&& (clo n m R s)))), (3, .int (nI (cnt part 7))), (6, .int (nI (cnt part 7))), (2, .int (nI (clo n m R s))), (0, .ref (h 0)), (1, .int (nI s))]) hx hb dX1_generatorSize_77 hl (k := 3) rfl (nI_1 _) (by decide) rfl (fun ls hl => ?_)
              refine lv_goto (tgt := 27) hx hb dX1_generatorSize_80 (by decide) ?_
              exact ih_k _ _ _ ⟨(part - 1) &&& clo n m R s, cnt part 7, h_1.next, by have := Nat.and_le_left (n := part - 1) (m := clo n m R s); omega, hP, hS, lv_sub hl [0, 1, 2, 4, 5, 6] rfl⟩
            · refine lv_goto (tgt := 83) hx hb dX1_generatorSize_66 (by decide) ?_
              subst c_63
              refine lv_iload_n hx hb dX1_generatorSize_83 rfl (lv_at hl 0 rfl) ?_
              exact xRO.ret hx hb hr rfl hlocks hS dX1_generatorSize_84 (Or.inr ⟨s, _, rfl, hs, h_1.done (clo_op n m R) hm hG ((clo_op n m R).2.2.2 _ hs), rfl⟩)
    · obtain ⟨part, least, h_G, h_k, hP, hS, hl⟩ := hI
      exact absurd h_k (by omega)
  · refine lv_iconst (v := (-1)) hx hb dX1_generatorSize_8 (by decide) ?_
    exact xRO.ret hx hb hr rfl hlocks hS dX1_generatorSize_9 (Or.inl ⟨c_5, rfl⟩)
end
section
/-! ConceptLattice: the public methods that write -/

set_option maxHeartbeats 4000000 in
set_option maxRecDepth 100000 in
theorem m_X1_cross {l : Launch} {D : va_G} {d z : ClassId} {h : Nat → Nat} {n m kc kp ku : Nat} {R C cs ps pe lv : Nat → Nat} (hn : n ≤ 8) (hm : m ≤ 7) (hC : Cols n m R C) (hku : ku ≤ 1) (hfr : ku = 1 → Fr n m R kc kp cs ps) (hR : ∀ g, R g < 2 ^ m) {o a f : Int32} : xRW (XS) l yX1_cross cX1_cross 6 (some .int) 1 24 D (tyX d z) (xw h d n m kc kp ku R C cs ps pe lv) [.ref (h 0), .int o, .int a, .int f] (fun r u => r = crV n m R o a ∧ XI n m (crR n m R o a f) u) (fun u => xW h d n m u) := by
  refine xRW.of (by decide) (Nat.le_of_ble_eq_true rfl) ?_
  intro p e S M below meth c hB hK hP hD ls hl
  obtain ⟨hx, hb, hr, hml, hown, hlocks, hts⟩ := hB
  have hown : S.vm.findClass RX1 = some M.cls := hown
  have hS : va_S (va_A (xw h d n m kc kp ku R C cs ps pe lv) S.heap.size) S.heap S.heap [] := va_S.rf
  have hA : ∀ q : Nat, S.heap.size ≤ q → (va_A (xw h d n m kc kp ku R C cs ps pe lv) S.heap.size) q := fun _ h => Or.inr h
  have hl : lv_has ls 6 [(0, .ref (h 0)), (1, .int o), (2, .int a), (3, .int f)] := hl
  refine lv_aload_n hx hb dX1_cross_0 rfl (lv_at hl 0 rfl) ?_
  refine lv_iload_n hx hb dX1_cross_1 rfl (lv_at hl 1 rfl) ?_
  refine xRO.call (m_X1_isObject) ⟨hx, hb, hml, hown, hts⟩ (cwV 1 hts (lw_V q84 q86 qs0 q27 q87) rfl rfl rfl (by decide +kernel) ⟨Nat.le_of_ble_eq_true rfl, Nat.le_of_ble_eq_true rfl⟩) hK hP (x_rc hK hP) hS hA hl.1 rfl rfl (Nat.le_of_ble_eq_true rfl) ⟨Nat.zero_le _, Nat.zero_le _⟩ dX1_cross_2 (fun r_ H locs hr_ hT hS => ?_)
  have hP := hT _ hP
  subst hr_
  refine nv_neB hx hb (tgt := 10) dX1_cross_5 (by decide) (fun c_5 => ?_) (fun c_5 => ?_)
  · refine lv_aload_n hx hb dX1_cross_10 rfl (lv_at hl 0 rfl) ?_
    refine lv_iload_n hx hb dX1_cross_11 rfl (lv_at hl 2 rfl) ?_
    refine xRO.call (m_X1_isAttribute) ⟨hx, hb, hml, hown, hts⟩ (cwV 1 hts (lw_V q88 q90 qs1 q27 q91) rfl rfl rfl (by decide +kernel) ⟨Nat.le_of_ble_eq_true rfl, Nat.le_of_ble_eq_true rfl⟩) hK hP (x_rc hK hP) hS hA hl.1 rfl rfl (Nat.le_of_ble_eq_true rfl) ⟨Nat.zero_le _, Nat.zero_le _⟩ dX1_cross_12 (fun r_ H locs hr_ hT hS => ?_)
    have hP := hT _ hP
    subst hr_
    refine nv_neB hx hb (tgt := 21) dX1_cross_15 (by decide) (fun c_15 => ?_) (fun c_15 => ?_)
    · obtain ⟨j, hj, rfl⟩ := inB_t (by omega) c_5
      obtain ⟨i, hi, rfl⟩ := inB_t (by omega) c_15
      refine lv_aload_n hx hb dX1_cross_21 rfl (lv_at hl 0 rfl) ?_
      refine xg_rows hx hb hts hown hK hP dX1_cross_22 ?_
      refine lv_iload_n hx hb dX1_cross_25 rfl (lv_at hl 1 rfl) ?_
      refine xl_rows hx hb hK hP (by omega) dX1_cross_26 ?_
      refine lv_iload_n hx hb dX1_cross_27 rfl (lv_at hl 2 rfl) ?_
      refine nv_bit hx hb (set_lt hm (hR j)) (by omega) dX1_cross_28 dX1_cross_29 dX1_cross_30 ?_
      refine lv_istore (lv' := [(4, .int (nI (bN (R j) i))), (0, .ref (h 0)), (1, .int (nI j)), (2, .int (nI i)), (3, .int f)]) hx hb dX1_cross_31 hl (by decide) rfl (fun ls hl => ?_)
      refine lv_iconst (v := nI 1) hx hb dX1_cross_33 (by decide) ?_
      refine lv_iload_n hx hb dX1_cross_34 rfl (lv_at hl 3 rfl) ?_
      refine nv_ishl hx hb (by omega) dX1_cross_35 ?_
      refine lv_istore (lv' := [(5, .int (nI (2 ^ i))), (4, .int (nI (bN (R j) i))), (0, .ref (h 0)), (1, .int (nI j)), (2, .int (nI i)), (3, .int f)]) hx hb dX1_cross_36 hl (by decide) rfl (fun ls hl => ?_)
      refine lv_aload_n hx hb dX1_cross_38 rfl (lv_at hl 2 rfl) ?_
      refine lv_iload_n hx hb dX1_cross_39 rfl (lv_at hl 3 rfl) ?_
      refine lv_iload_n hx hb dX1_cross_40 rfl (lv_at hl 5 rfl) ?_
      refine lv_if_eq (tgt := 56) hx hb dX1_cross_41 (by decide) (fun c_41 => ?_) (fun c_41 => ?_)
      · refine lv_aload_n hx hb dX1_cross_56 rfl (lv_at hl 2 rfl) ?_
        refine xg_rows hx hb hts hown hK hP dX1_cross_57 ?_
        refine lv_iload_n hx hb dX1_cross_60 rfl (lv_at hl 3 rfl) ?_
        refine xl_rows hx hb hK hP (by omega) dX1_cross_61 ?_
        refine lv_iload hx hb dX1_cross_62 (lv_at hl 0 rfl) ?_
        refine nv_andn hx hb dX1_cross_64 dX1_cross_65 dX1_cross_66 ?_
        refine xRV.call0 (m_X1_setRow hn hm hC hj (Nat.lt_of_le_of_lt (nd_le _ _) (hR j))) ⟨hx, hb, hml, hown, hts⟩ (cwV 2 hts (lw_V q92 q94 qs2 q27 q95) rfl rfl rfl (by decide +kernel) ⟨Nat.le_of_ble_eq_true rfl, Nat.le_of_ble_eq_true rfl⟩) hK hP hD (x_rc hK hP) hS hA hl.1 rfl rfl (Nat.le_of_ble_eq_true rfl) ⟨Nat.zero_le _, Nat.zero_le _⟩ dX1_cross_67 (fun u_ H locs hu_ hP hD hS => ?_)
        have hP : va_P D clX (xw h d n m kc kp 0 (un R j (nd (R j) (2 ^ i))) u_ cs ps pe lv) H := hP
        have hD : va_D (va_A (xw h d n m kc kp ku R C cs ps pe lv) S.heap.size) (xw h d n m kc kp 0 (un R j (nd (R j) (2 ^ i))) u_ cs ps pe lv) := hD
        refine lv_iload hx hb dX1_cross_70 (lv_at hl 1 rfl) ?_
        exact xRW.ret hx hb hr rfl hlocks hS dX1_cross_72 (kc, kp, 0, un R j (nd (R j) (2 ^ i)), u_, cs, ps, pe, lv) ⟨by rw [crV_3 (by omega) (by omega) hj hi], by rw [crR_3 (by omega) (by omega) hj hi, if_pos c_41]; exact XI.of hu_ (by decide) (fun z => absurd z (by decide))⟩ hP hD
      · refine lv_aload_n hx hb dX1_cross_44 rfl (lv_at hl 2 rfl) ?_
        refine xg_rows hx hb hts hown hK hP dX1_cross_45 ?_
        refine lv_iload_n hx hb dX1_cross_48 rfl (lv_at hl 3 rfl) ?_
        refine xl_rows hx hb hK hP (by omega) dX1_cross_49 ?_
        refine lv_iload hx hb dX1_cross_50 (lv_at hl 0 rfl) ?_
        refine nv_ior hx hb dX1_cross_52 ?_
        refine lv_goto (tgt := 67) hx hb dX1_cross_53 (by decide) ?_
        refine xRV.call0 (m_X1_setRow hn hm hC hj (Nat.or_lt_two_pow (hR j) (pow_b hi))) ⟨hx, hb, hml, hown, hts⟩ (cwV 2 hts (lw_V q92 q94 qs2 q27 q95) rfl rfl rfl (by decide +kernel) ⟨Nat.le_of_ble_eq_true rfl, Nat.le_of_ble_eq_true rfl⟩) hK hP hD (x_rc hK hP) hS hA hl.1 rfl rfl (Nat.le_of_ble_eq_true rfl) ⟨Nat.zero_le _, Nat.zero_le _⟩ dX1_cross_67 (fun u_ H locs hu_ hP hD hS => ?_)
        have hP : va_P D clX (xw h d n m kc kp 0 (un R j ((R j) ||| (2 ^ i))) u_ cs ps pe lv) H := hP
        have hD : va_D (va_A (xw h d n m kc kp ku R C cs ps pe lv) S.heap.size) (xw h d n m kc kp 0 (un R j ((R j) ||| (2 ^ i))) u_ cs ps pe lv) := hD
        refine lv_iload hx hb dX1_cross_70 (lv_at hl 1 rfl) ?_
        exact xRW.ret hx hb hr rfl hlocks hS dX1_cross_72 (kc, kp, 0, un R j (R j ||| 2 ^ i), u_, cs, ps, pe, lv) ⟨by rw [crV_3 (by omega) (by omega) hj hi], by rw [crR_3 (by omega) (by omega) hj hi, if_neg c_41]; exact XI.of hu_ (by decide) (fun z => absurd z (by decide))⟩ hP hD
    · refine lv_bipush (v := (-2)) hx hb dX1_cross_18 (by decide) ?_
      exact xRW.ret hx hb hr rfl hlocks hS dX1_cross_20 (kc, kp, ku, R, C, cs, ps, pe, lv) ⟨by rw [crV_2 c_5 c_15], by rw [crR_2 c_15]; exact XI.of hC hku hfr⟩ hP hD
  · refine lv_iconst (v := (-1)) hx hb dX1_cross_8 (by decide) ?_
    exact xRW.ret hx hb hr rfl hlocks hS dX1_cross_9 (kc, kp, ku, R, C, cs, ps, pe, lv) ⟨by rw [crV_1 c_5], by rw [crR_1 c_5]; exact XI.of hC hku hfr⟩ hP hD

set_option maxHeartbeats 4000000 in
set_option maxRecDepth 100000 in
theorem m_X1_row {l : Launch} {D : va_G} {d z : ClassId} {h : Nat → Nat} {n m kc kp ku : Nat} {R C cs ps pe lv : Nat → Nat} (hn : n ≤ 8) (hm : m ≤ 7) (hC : Cols n m R C) (hku : ku ≤ 1) (hfr : ku = 1 → Fr n m R kc kp cs ps) {o x : Int32} : xRW (XS) l yX1_row cX1_row 4 (some .int) 1 24 D (tyX d z) (xw h d n m kc kp ku R C cs ps pe lv) [.ref (h 0), .int o, .int x] (fun r u => r = rwV n m R o x ∧ XI n m (rwR n m R o x) u) (fun u => xW h d n m u) := by
  refine xRW.of (by decide) (Nat.le_of_ble_eq_true rfl) ?_
  intro p e S M below meth c hB hK hP hD ls hl
  obtain ⟨hx, hb, hr, hml, hown, hlocks, hts⟩ := hB
  have hown : S.vm.findClass RX1 = some M.cls := hown
  have hS : va_S (va_A (xw h d n m kc kp ku R C cs ps pe lv) S.heap.size) S.heap S.heap [] := va_S.rf
  have hA : ∀ q : Nat, S.heap.size ≤ q → (va_A (xw h d n m kc kp ku R C cs ps pe lv) S.heap.size) q := fun _ h => Or.inr h
  have hl : lv_has ls 4 [(0, .ref (h 0)), (1, .int o), (2, .int x)] := hl
  refine lv_aload_n hx hb dX1_row_0 rfl (lv_at hl 0 rfl) ?_
  refine lv_iload_n hx hb dX1_row_1 rfl (lv_at hl 1 rfl) ?_
  refine xRO.call (m_X1_isObject) ⟨hx, hb, hml, hown, hts⟩ (cwV 1 hts (lw_V q84 q86 qs0 q27 q87) rfl rfl rfl (by decide +kernel) ⟨Nat.le_of_ble_eq_true rfl, Nat.le_of_ble_eq_true rfl⟩) hK hP (x_rc hK hP) hS hA hl.1 rfl rfl (Nat.le_of_ble_eq_true rfl) ⟨Nat.zero_le _, Nat.zero_le _⟩ dX1_row_2 (fun r_ H locs hr_ hT hS => ?_)
  have hP := hT _ hP
  subst hr_
  refine nv_neB hx hb (tgt := 10) dX1_row_5 (by decide) (fun c_5 => ?_) (fun c_5 => ?_)
  · refine lv_aload_n hx hb dX1_row_10 rfl (lv_at hl 0 rfl) ?_
    refine lv_iload_n hx hb dX1_row_11 rfl (lv_at hl 2 rfl) ?_
    refine xRO.call (m_X1_isSet hm) ⟨hx, hb, hml, hown, hts⟩ (cwV 1 hts (lw_V q100 q102 qs3 q27 q103) rfl rfl rfl (by decide +kernel) ⟨Nat.le_of_ble_eq_true rfl, Nat.le_of_ble_eq_true rfl⟩) hK hP (x_rc hK hP) hS hA hl.1 rfl rfl (Nat.le_of_ble_eq_true rfl) ⟨Nat.zero_le _, Nat.zero_le _⟩ dX1_row_12 (fun r_ H locs hr_ hT hS => ?_)
    have hP := hT _ hP
    subst hr_
    refine nv_neB hx hb (tgt := 21) dX1_row_15 (by decide) (fun c_15 => ?_) (fun c_15 => ?_)
    · obtain ⟨j, hj, rfl⟩ := inB_t (by omega) c_5
      obtain ⟨s, hs, rfl⟩ := inB_t (pow_lt hm) c_15
      refine lv_aload_n hx hb dX1_row_21 rfl (lv_at hl 0 rfl) ?_
      refine xg_rows hx hb hts hown hK hP dX1_row_22 ?_
      refine lv_iload_n hx hb dX1_row_25 rfl (lv_at hl 1 rfl) ?_
      refine xl_rows hx hb hK hP (by omega) dX1_row_26 ?_
      refine lv_istore_n (lv' := [(3, .int (nI (R j))), (0, .ref (h 0)), (1, .int (nI j)), (2, .int (nI s))]) hx hb dX1_row_27 rfl hl (by decide) rfl (fun ls hl => ?_)
      refine lv_aload_n hx hb dX1_row_28 rfl (lv_at hl 1 rfl) ?_
      refine lv_iload_n hx hb dX1_row_29 rfl (lv_at hl 2 rfl) ?_
      refine lv_iload_n hx hb dX1_row_30 rfl (lv_at hl 3 rfl) ?_
      refine xRV.call0 (m_X1_setRow hn hm hC hj hs) ⟨hx, hb, hml, hown, hts⟩ (cwV 2 hts (lw_V q92 q94 qs2 q27 q95) rfl rfl rfl (by decide +kernel) ⟨Nat.le_of_ble_eq_true rfl, Nat.le_of_ble_eq_true rfl⟩) hK hP hD (x_rc hK hP) hS hA hl.1 rfl rfl (Nat.le_of_ble_eq_true rfl) ⟨Nat.zero_le _, Nat.zero_le _⟩ dX1_row_31 (fun u_ H locs hu_ hP hD hS => ?_)
      have hP : va_P D clX (xw h d n m kc kp 0 (un R j s) u_ cs ps pe lv) H := hP
      have hD : va_D (va_A (xw h d n m kc kp ku R C cs ps pe lv) S.heap.size) (xw h d n m kc kp 0 (un R j s) u_ cs ps pe lv) := hD
      refine lv_iload_n hx hb dX1_row_34 rfl (lv_at hl 0 rfl) ?_
      exact xRW.ret hx hb hr rfl hlocks hS dX1_row_35 (kc, kp, 0, un R j (s), u_, cs, ps, pe, lv) ⟨by rw [rwV_3 (by omega) (pow_lt hm) hj hs], by rw [rwR_3 (by omega) (pow_lt hm) hj hs]; exact XI.of hu_ (by decide) (fun z => absurd z (by decide))⟩ hP hD
    · refine lv_bipush (v := (-2)) hx hb dX1_row_18 (by decide) ?_
      exact xRW.ret hx hb hr rfl hlocks hS dX1_row_20 (kc, kp, ku, R, C, cs, ps, pe, lv) ⟨by rw [rwV_2 c_5 c_15], by rw [rwR_2 c_15]; exact XI.of hC hku hfr⟩ hP hD
  · refine lv_iconst (v := (-1)) hx hb dX1_row_8 (by decide) ?_
    exact xRW.ret hx hb hr rfl hlocks hS dX1_row_9 (kc, kp, ku, R, C, cs, ps, pe, lv) ⟨by rw [rwV_1 c_5], by rw [rwR_1 c_5]; exact XI.of hC hku hfr⟩ hP hD

set_option maxHeartbeats 4000000 in
set_option maxRecDepth 100000 in
theorem m_X1_closedSets {l : Launch} {D : va_G} {d z : ClassId} {h : Nat → Nat} {n m kc kp ku : Nat} {R C cs ps pe lv : Nat → Nat} (hn : n ≤ 8) (hm : m ≤ 7) (hC : Cols n m R C) (hku : ku ≤ 1) (hfr : ku = 1 → Fr n m R kc kp cs ps) : xRW (XS) l yX1_closedSets cX1_closedSets 1 (some .int) 4 94 D (tyX d z) (xw h d n m kc kp ku R C cs ps pe lv) [.ref (h 0)] (fun r u => r = nI (enm (isC (clo n m R)) (2 ^ m)).length ∧ XI n m R u) (fun u => xW h d n m u) := by
  refine xRW.of (by decide) (Nat.le_of_ble_eq_true rfl) ?_
  intro p e S M below meth c hB hK hP hD ls hl
  obtain ⟨hx, hb, hr, hml, hown, hlocks, hts⟩ := hB
  have hown : S.vm.findClass RX1 = some M.cls := hown
  have hS : va_S (va_A (xw h d n m kc kp ku R C cs ps pe lv) S.heap.size) S.heap S.heap [] := va_S.rf
  have hA : ∀ q : Nat, S.heap.size ≤ q → (va_A (xw h d n m kc kp ku R C cs ps pe lv) S.heap.size) q := fun _ h => Or.inr h
  have hl : lv_has ls 1 [(0, .ref (h 0))] := hl
  refine lv_aload_n hx hb dX1_closedSets_0 rfl (lv_at hl 0 rfl) ?_
  refine xRV.call0 (m_X1_refresh hn hm hC hku hfr) ⟨hx, hb, hml, hown, hts⟩ (cwV 0 hts (lw_V q136 q138 qs7 q27 q139) rfl rfl rfl (by decide +kernel) ⟨Nat.le_of_ble_eq_true rfl, Nat.le_of_ble_eq_true rfl⟩) hK hP hD (x_rc hK hP) hS hA hl.1 rfl rfl (Nat.le_of_ble_eq_true rfl) ⟨Nat.zero_le _, Nat.zero_le _⟩ dX1_closedSets_1 (fun u_ H locs hu_ hP hD hS => ?_)
  obtain ⟨k1, p1, cs1, ps1, pe1⟩ := u_
  have hP : va_P D clX (xw h d n m k1 p1 1 R C cs1 ps1 pe1 lv) H := hP
  have hD : va_D (va_A (xw h d n m kc kp ku R C cs ps pe lv) S.heap.size) (xw h d n m k1 p1 1 R C cs1 ps1 pe1 lv) := hD
  have hu_ : Fr n m R k1 p1 cs1 ps1 := hu_
  have hk1 : k1 ≤ 128 := by have := hu_.1.le; have := p7 hm; omega
  have hp1 : p1 ≤ 128 := by have := hu_.2.le; have := p7 hm; omega
  refine lv_aload_n hx hb dX1_closedSets_4 rfl (lv_at hl 0 rfl) ?_
  refine xg_closedCount hx hb hts hown hK hP dX1_closedSets_5 ?_
  exact xRW.ret hx hb hr rfl hlocks hS dX1_closedSets_8 (k1, p1, 1, R, C, cs1, ps1, pe1, lv) ⟨by rw [hu_.1.1], XI.of hC (by decide) (fun _ => hu_)⟩ hP hD

set_option maxHeartbeats 4000000 in
set_option maxRecDepth 100000 in
theorem m_X1_rules {l : Launch} {D : va_G} {d z : ClassId} {h : Nat → Nat} {n m kc kp ku : Nat} {R C cs ps pe lv : Nat → Nat} (hn : n ≤ 8) (hm : m ≤ 7) (hC : Cols n m R C) (hku : ku ≤ 1) (hfr : ku = 1 → Fr n m R kc kp cs ps) : xRW (XS) l yX1_rules cX1_rules 1 (some .int) 4 94 D (tyX d z) (xw h d n m kc kp ku R C cs ps pe lv) [.ref (h 0)] (fun r u => r = nI (enm (isP (clo n m R)) (2 ^ m)).length ∧ XI n m R u) (fun u => xW h d n m u) := by
  refine xRW.of (by decide) (Nat.le_of_ble_eq_true rfl) ?_
  intro p e S M below meth c hB hK hP hD ls hl
  obtain ⟨hx, hb, hr, hml, hown, hlocks, hts⟩ := hB
  have hown : S.vm.findClass RX1 = some M.cls := hown
  have hS : va_S (va_A (xw h d n m kc kp ku R C cs ps pe lv) S.heap.size) S.heap S.heap [] := va_S.rf
  have hA : ∀ q : Nat, S.heap.size ≤ q → (va_A (xw h d n m kc kp ku R C cs ps pe lv) S.heap.size) q := fun _ h => Or.inr h
  have hl : lv_has ls 1 [(0, .ref (h 0))] := hl
  refine lv_aload_n hx hb dX1_rules_0 rfl (lv_at hl 0 rfl) ?_
  refine xRV.call0 (m_X1_refresh hn hm hC hku hfr) ⟨hx, hb, hml, hown, hts⟩ (cwV 0 hts (lw_V q136 q138 qs7 q27 q139) rfl rfl rfl (by decide +kernel) ⟨Nat.le_of_ble_eq_true rfl, Nat.le_of_ble_eq_true rfl⟩) hK hP hD (x_rc hK hP) hS hA hl.1 rfl rfl (Nat.le_of_ble_eq_true rfl) ⟨Nat.zero_le _, Nat.zero_le _⟩ dX1_rules_1 (fun u_ H locs hu_ hP hD hS => ?_)
  obtain ⟨k1, p1, cs1, ps1, pe1⟩ := u_
  have hP : va_P D clX (xw h d n m k1 p1 1 R C cs1 ps1 pe1 lv) H := hP
  have hD : va_D (va_A (xw h d n m kc kp ku R C cs ps pe lv) S.heap.size) (xw h d n m k1 p1 1 R C cs1 ps1 pe1 lv) := hD
  have hu_ : Fr n m R k1 p1 cs1 ps1 := hu_
  have hk1 : k1 ≤ 128 := by have := hu_.1.le; have := p7 hm; omega
  have hp1 : p1 ≤ 128 := by have := hu_.2.le; have := p7 hm; omega
  refine lv_aload_n hx hb dX1_rules_4 rfl (lv_at hl 0 rfl) ?_
  refine xg_pseudoCount hx hb hts hown hK hP dX1_rules_5 ?_
  exact xRW.ret hx hb hr rfl hlocks hS dX1_rules_8 (k1, p1, 1, R, C, cs1, ps1, pe1, lv) ⟨by rw [hu_.2.1], XI.of hC (by decide) (fun _ => hu_)⟩ hP hD

set_option maxHeartbeats 4000000 in
set_option maxRecDepth 100000 in
theorem m_X1_closedSet {l : Launch} {D : va_G} {d z : ClassId} {h : Nat → Nat} {n m kc kp ku : Nat} {R C cs ps pe lv : Nat → Nat} (hn : n ≤ 8) (hm : m ≤ 7) (hC : Cols n m R C) (hku : ku ≤ 1) (hfr : ku = 1 → Fr n m R kc kp cs ps) {x : Int32} : xRW (XS) l yX1_closedSet cX1_closedSet 2 (some .int) 4 94 D (tyX d z) (xw h d n m kc kp ku R C cs ps pe lv) [.ref (h 0), .int x] (fun r u => r = atL (enm (isC (clo n m R)) (2 ^ m)) x ∧ XI n m R u) (fun u => xW h d n m u) := by
  refine xRW.of (by decide) (Nat.le_of_ble_eq_true rfl) ?_
  intro p e S M below meth c hB hK hP hD ls hl
  obtain ⟨hx, hb, hr, hml, hown, hlocks, hts⟩ := hB
  have hown : S.vm.findClass RX1 = some M.cls := hown
  have hS : va_S (va_A (xw h d n m kc kp ku R C cs ps pe lv) S.heap.size) S.heap S.heap [] := va_S.rf
  have hA : ∀ q : Nat, S.heap.size ≤ q → (va_A (xw h d n m kc kp ku R C cs ps pe lv) S.heap.size) q := fun _ h => Or.inr h
  have hl : lv_has ls 2 [(0, .ref (h 0)), (1, .int x)] := hl
  refine lv_aload_n hx hb dX1_closedSet_0 rfl (lv_at hl 0 rfl) ?_
  refine xRV.call0 (m_X1_refresh hn hm hC hku hfr) ⟨hx, hb, hml, hown, hts⟩ (cwV 0 hts (lw_V q136 q138 qs7 q27 q139) rfl rfl rfl (by decide +kernel) ⟨Nat.le_of_ble_eq_true rfl, Nat.le_of_ble_eq_true rfl⟩) hK hP hD (x_rc hK hP) hS hA hl.1 rfl rfl (Nat.le_of_ble_eq_true rfl) ⟨Nat.zero_le _, Nat.zero_le _⟩ dX1_closedSet_1 (fun u_ H locs hu_ hP hD hS => ?_)
  obtain ⟨k1, p1, cs1, ps1, pe1⟩ := u_
  have hP : va_P D clX (xw h d n m k1 p1 1 R C cs1 ps1 pe1 lv) H := hP
  have hD : va_D (va_A (xw h d n m kc kp ku R C cs ps pe lv) S.heap.size) (xw h d n m k1 p1 1 R C cs1 ps1 pe1 lv) := hD
  have hu_ : Fr n m R k1 p1 cs1 ps1 := hu_
  have hk1 : k1 ≤ 128 := by have := hu_.1.le; have := p7 hm; omega
  have hp1 : p1 ≤ 128 := by have := hu_.2.le; have := p7 hm; omega
  refine lv_iload_n hx hb dX1_closedSet_4 rfl (lv_at hl 1 rfl) ?_
  refine lv_if_lt (tgt := 25) hx hb dX1_closedSet_5 (by decide) (fun c_5 => ?_) (fun c_5 => ?_)
  · refine lv_iconst (v := (-1)) hx hb dX1_closedSet_25 (by decide) ?_
    exact xRW.ret hx hb hr rfl hlocks hS dX1_closedSet_26 (k1, p1, 1, R, C, cs1, ps1, pe1, lv) ⟨by rw [atL_f hu_.1 (inB_lt c_5)], XI.of hC (by decide) (fun _ => hu_)⟩ hP hD
  · refine lv_iload_n hx hb dX1_closedSet_8 rfl (lv_at hl 1 rfl) ?_
    refine lv_aload_n hx hb dX1_closedSet_9 rfl (lv_at hl 0 rfl) ?_
    refine xg_closedCount hx hb hts hown hK hP dX1_closedSet_10 ?_
    refine lv_icmp_ge (tgt := 25) hx hb dX1_closedSet_13 (by decide) (fun c_13 => ?_) (fun c_13 => ?_)
    · refine lv_iconst (v := (-1)) hx hb dX1_closedSet_25 (by decide) ?_
      exact xRW.ret hx hb hr rfl hlocks hS dX1_closedSet_26 (k1, p1, 1, R, C, cs1, ps1, pe1, lv) ⟨by rw [atL_f hu_.1 (inB_ge c_13)], XI.of hC (by decide) (fun _ => hu_)⟩ hP hD
    · obtain ⟨j, hj, rfl⟩ := inB_t (by omega) (inB_in c_5 c_13)
      refine lv_aload_n hx hb dX1_closedSet_16 rfl (lv_at hl 0 rfl) ?_
      refine xg_closed hx hb hts hown hK hP dX1_closedSet_17 ?_
      refine lv_iload_n hx hb dX1_closedSet_20 rfl (lv_at hl 1 rfl) ?_
      refine xl_closed hx hb hK hP (by omega) dX1_closedSet_21 ?_
      refine lv_goto (tgt := 26) hx hb dX1_closedSet_22 (by decide) ?_
      exact xRW.ret hx hb hr rfl hlocks hS dX1_closedSet_26 (k1, p1, 1, R, C, cs1, ps1, pe1, lv) ⟨by rw [atL_t hu_.1 (by omega) hj], XI.of hC (by decide) (fun _ => hu_)⟩ hP hD

set_option maxHeartbeats 4000000 in
set_option maxRecDepth 100000 in
theorem m_X1_rule {l : Launch} {D : va_G} {d z : ClassId} {h : Nat → Nat} {n m kc kp ku : Nat} {R C cs ps pe lv : Nat → Nat} (hn : n ≤ 8) (hm : m ≤ 7) (hC : Cols n m R C) (hku : ku ≤ 1) (hfr : ku = 1 → Fr n m R kc kp cs ps) {x : Int32} : xRW (XS) l yX1_rule cX1_rule 2 (some .int) 4 94 D (tyX d z) (xw h d n m kc kp ku R C cs ps pe lv) [.ref (h 0), .int x] (fun r u => r = atL (enm (isP (clo n m R)) (2 ^ m)) x ∧ XI n m R u) (fun u => xW h d n m u) := by
  refine xRW.of (by decide) (Nat.le_of_ble_eq_true rfl) ?_
  intro p e S M below meth c hB hK hP hD ls hl
  obtain ⟨hx, hb, hr, hml, hown, hlocks, hts⟩ := hB
  have hown : S.vm.findClass RX1 = some M.cls := hown
  have hS : va_S (va_A (xw h d n m kc kp ku R C cs ps pe lv) S.heap.size) S.heap S.heap [] := va_S.rf
  have hA : ∀ q : Nat, S.heap.size ≤ q → (va_A (xw h d n m kc kp ku R C cs ps pe lv) S.heap.size) q := fun _ h => Or.inr h
  have hl : lv_has ls 2 [(0, .ref (h 0)), (1, .int x)] := hl
  refine lv_aload_n hx hb dX1_rule_0 rfl (lv_at hl 0 rfl) ?_
  refine xRV.call0 (m_X1_refresh hn hm hC hku hfr) ⟨hx, hb, hml, hown, hts⟩ (cwV 0 hts (lw_V q136 q138 qs7 q27 q139) rfl rfl rfl (by decide +kernel) ⟨Nat.le_of_ble_eq_true rfl, Nat.le_of_ble_eq_true rfl⟩) hK hP hD (x_rc hK hP) hS hA hl.1 rfl rfl (Nat.le_of_ble_eq_true rfl) ⟨Nat.zero_le _, Nat.zero_le _⟩ dX1_rule_1 (fun u_ H locs hu_ hP hD hS => ?_)
  obtain ⟨k1, p1, cs1, ps1, pe1⟩ := u_
  have hP : va_P D clX (xw h d n m k1 p1 1 R C cs1 ps1 pe1 lv) H := hP
  have hD : va_D (va_A (xw h d n m kc kp ku R C cs ps pe lv) S.heap.size) (xw h d n m k1 p1 1 R C cs1 ps1 pe1 lv) := hD
  have hu_ : Fr n m R k1 p1 cs1 ps1 := hu_
  have hk1 : k1 ≤ 128 := by have := hu_.1.le; have := p7 hm; omega
  have hp1 : p1 ≤ 128 := by have := hu_.2.le; have := p7 hm; omega
  refine lv_iload_n hx hb dX1_rule_4 rfl (lv_at hl 1 rfl) ?_
  refine lv_if_lt (tgt := 25) hx hb dX1_rule_5 (by decide) (fun c_5 => ?_) (fun c_5 => ?_)
  · refine lv_iconst (v := (-1)) hx hb dX1_rule_25 (by decide) ?_
    exact xRW.ret hx hb hr rfl hlocks hS dX1_rule_26 (k1, p1, 1, R, C, cs1, ps1, pe1, lv) ⟨by rw [atL_f hu_.2 (inB_lt c_5)], XI.of hC (by decide) (fun _ => hu_)⟩ hP hD
  · refine lv_iload_n hx hb dX1_rule_8 rfl (lv_at hl 1 rfl) ?_
    refine lv_aload_n hx hb dX1_rule_9 rfl (lv_at hl 0 rfl) ?_
    refine xg_pseudoCount hx hb hts hown hK hP dX1_rule_10 ?_
    refine lv_icmp_ge (tgt := 25) hx hb dX1_rule_13 (by decide) (fun c_13 => ?_) (fun c_13 => ?_)
    · refine lv_iconst (v := (-1)) hx hb dX1_rule_25 (by decide) ?_
      exact xRW.ret hx hb hr rfl hlocks hS dX1_rule_26 (k1, p1, 1, R, C, cs1, ps1, pe1, lv) ⟨by rw [atL_f hu_.2 (inB_ge c_13)], XI.of hC (by decide) (fun _ => hu_)⟩ hP hD
    · obtain ⟨j, hj, rfl⟩ := inB_t (by omega) (inB_in c_5 c_13)
      refine lv_aload_n hx hb dX1_rule_16 rfl (lv_at hl 0 rfl) ?_
      refine xg_pseudo hx hb hts hown hK hP dX1_rule_17 ?_
      refine lv_iload_n hx hb dX1_rule_20 rfl (lv_at hl 1 rfl) ?_
      refine xl_pseudo hx hb hK hP (by omega) dX1_rule_21 ?_
      refine lv_goto (tgt := 26) hx hb dX1_rule_22 (by decide) ?_
      exact xRW.ret hx hb hr rfl hlocks hS dX1_rule_26 (k1, p1, 1, R, C, cs1, ps1, pe1, lv) ⟨by rw [atL_t hu_.2 (by omega) hj], XI.of hC (by decide) (fun _ => hu_)⟩ hP hD

set_option maxHeartbeats 4000000 in
set_option maxRecDepth 100000 in
theorem m_X1_links {l : Launch} {D : va_G} {d z : ClassId} {h : Nat → Nat} {n m kc kp ku : Nat} {R C cs ps pe lv : Nat → Nat} (hn : n ≤ 8) (hm : m ≤ 7) (hC : Cols n m R C) (hku : ku ≤ 1) (hfr : ku = 1 → Fr n m R kc kp cs ps) : xRW (XS) l yX1_links cX1_links 3 (some .int) 4 94 D (tyX d z) (xw h d n m kc kp ku R C cs ps pe lv) [.ref (h 0)] (fun r u => r = nI (lnk m (clo n m R)) ∧ XI n m R u) (fun u => xW h d n m u) := by
  refine xRW.of (by decide) (Nat.le_of_ble_eq_true rfl) ?_
  intro p e S M below meth c hB hK hP hD ls hl
  obtain ⟨hx, hb, hr, hml, hown, hlocks, hts⟩ := hB
  have hown : S.vm.findClass RX1 = some M.cls := hown
  have hS : va_S (va_A (xw h d n m kc kp ku R C cs ps pe lv) S.heap.size) S.heap S.heap [] := va_S.rf
  have hA : ∀ q : Nat, S.heap.size ≤ q → (va_A (xw h d n m kc kp ku R C cs ps pe lv) S.heap.size) q := fun _ h => Or.inr h
  have hl : lv_has ls 3 [(0, .ref (h 0))] := hl
  refine lv_aload_n hx hb dX1_links_0 rfl (lv_at hl 0 rfl) ?_
  refine xRV.call0 (m_X1_refresh hn hm hC hku hfr) ⟨hx, hb, hml, hown, hts⟩ (cwV 0 hts (lw_V q136 q138 qs7 q27 q139) rfl rfl rfl (by decide +kernel) ⟨Nat.le_of_ble_eq_true rfl, Nat.le_of_ble_eq_true rfl⟩) hK hP hD (x_rc hK hP) hS hA hl.1 rfl rfl (Nat.le_of_ble_eq_true rfl) ⟨Nat.zero_le _, Nat.zero_le _⟩ dX1_links_1 (fun u_ H locs hu_ hP hD hS => ?_)
  obtain ⟨k1, p1, cs1, ps1, pe1⟩ := u_
  have hP : va_P D clX (xw h d n m k1 p1 1 R C cs1 ps1 pe1 lv) H := hP
  have hD : va_D (va_A (xw h d n m kc kp ku R C cs ps pe lv) S.heap.size) (xw h d n m k1 p1 1 R C cs1 ps1 pe1 lv) := hD
  have hu_ : Fr n m R k1 p1 cs1 ps1 := hu_
  have hk1 : k1 ≤ 128 := by have := hu_.1.le; have := p7 hm; omega
  have hp1 : p1 ≤ 128 := by have := hu_.2.le; have := p7 hm; omega
  refine lv_iconst (v := nI 0) hx hb dX1_links_4 (by decide) ?_
  refine lv_istore_n (lv' := [(1, .int (nI 0)), (0, .ref (h 0))]) hx hb dX1_links_5 rfl hl (by decide) rfl (fun ls hl => ?_)
  refine lv_iconst (v := nI 0) hx hb dX1_links_6 (by decide) ?_
  refine lv_istore_n (lv' := [(2, .int (nI 0)), (1, .int (nI 0)), (0, .ref (h 0))]) hx hb dX1_links_7 rfl hl (by decide) rfl (fun ls hl => ?_)
  refine nv_loop (fun (i : Nat) (H : Heap) (locs : List Loc) (ls : Array Slot) => ∃ (r : Nat), r = fd (fun i r => r + covN m (clo n m R) (cs1 i)) 0 i ∧ va_P D clX (xw h d n m k1 p1 1 R C cs1 ps1 pe1 lv) H ∧ va_D (va_A (xw h d n m kc kp ku R C cs ps pe lv) S.heap.size) (xw h d n m k1 p1 1 R C cs1 ps1 pe1 lv) ∧ va_S (va_A (xw h d n m kc kp ku R C cs ps pe lv) S.heap.size) S.heap H locs ∧ lv_has ls 3 [(2, .int (nI i)), (1, .int (nI r)), (0, .ref (h 0))]) (k1) (fun i H locs ls hi_i hI ih_i => ?_) (fun H locs ls hI => ?_) 0 (Nat.zero_le _) ⟨0, rfl, hP, hD, hS, lv_sub hl [0, 1, 2] rfl⟩
  · obtain ⟨r, e_r, hP, hD, hS, hl⟩ := hI
    refine lv_iload_n hx hb dX1_links_8 rfl (lv_at hl 0 rfl) ?_
    refine lv_aload_n hx hb dX1_links_9 rfl (lv_at hl 2 rfl) ?_
    refine xg_closedCount hx hb hts hown hK hP dX1_links_10 ?_
    refine nv_ge hx hb (by omega) (by omega) (tgt := 35) dX1_links_13 (by decide) (fun c_13 => ?_) (fun c_13 => ?_)
    · exact absurd hi_i (by omega)
    · refine lv_iload_n hx hb dX1_links_16 rfl (lv_at hl 1 rfl) ?_
      refine lv_aload_n hx hb dX1_links_17 rfl (lv_at hl 2 rfl) ?_
      refine lv_aload_n hx hb dX1_links_18 rfl (lv_at hl 2 rfl) ?_
      refine xg_closed hx hb hts hown hK hP dX1_links_19 ?_
      refine lv_iload_n hx hb dX1_links_22 rfl (lv_at hl 0 rfl) ?_
      refine xl_closed hx hb hK hP (by omega) dX1_links_23 ?_
      refine xRO.call (m_X1_coversOf hn hm hC (hu_.1.mem hi_i).1 (isC_t.mp (hu_.1.mem hi_i).2)) ⟨hx, hb, hml, hown, hts⟩ (cwV 1 hts (lw_V q176 q178 qs11 q27 q179) rfl rfl rfl (by decide +kernel) ⟨Nat.le_of_ble_eq_true rfl, Nat.le_of_ble_eq_true rfl⟩) hK hP (x_rc hK hP) hS hA hl.1 rfl rfl (Nat.le_of_ble_eq_true rfl) ⟨Nat.zero_le _, Nat.zero_le _⟩ dX1_links_24 (fun r_ H locs hr_ hT hS => ?_)
      have hP := hT _ hP
      subst hr_
      refine nv_iadd hx hb dX1_links_27 ?_
      refine lv_istore_n (lv' := [(1, .int (nI (r + (covN m (clo n m R) (cs1 i))))), (2, .int (nI i)), (0, .ref (h 0))]) hx hb dX1_links_28 rfl hl (by decide) rfl (fun ls hl => ?_)
      refine lv_iinc (v := nI (i + 1)) (lv' := [(2, .int (nI (i + 1))), (1, .int (nI (r + (covN m (clo n m R) (cs1 i))))), (0, .ref (h 0))]) hx hb dX1_links_29 hl (k := 1) rfl (nI_1 _) (by decide) rfl (fun ls hl => ?_)
      refine lv_goto (tgt := 8) hx hb dX1_links_32 (by decide) ?_
      exact ih_i _ _ _ ⟨r + covN m (clo n m R) (cs1 i), by rw [e_r]; rfl, hP, hD, hS, lv_sub hl [0, 1, 2] rfl⟩
  · obtain ⟨r, e_r, hP, hD, hS, hl⟩ := hI
    refine lv_iload_n hx hb dX1_links_8 rfl (lv_at hl 0 rfl) ?_
    refine lv_aload_n hx hb dX1_links_9 rfl (lv_at hl 2 rfl) ?_
    refine xg_closedCount hx hb hts hown hK hP dX1_links_10 ?_
    refine nv_ge hx hb (by omega) (by omega) (tgt := 35) dX1_links_13 (by decide) (fun c_13 => ?_) (fun c_13 => ?_)
    · refine lv_iload_n hx hb dX1_links_35 rfl (lv_at hl 1 rfl) ?_
      exact xRW.ret hx hb hr rfl hlocks hS dX1_links_36 (k1, p1, 1, R, C, cs1, ps1, pe1, lv) ⟨by rw [e_r, lnk_eq hu_.1], XI.of hC (by decide) (fun _ => hu_)⟩ hP hD
    · exact absurd c_13 (by omega)

set_option maxHeartbeats 4000000 in
set_option maxRecDepth 100000 in
theorem m_X1_dispensable {l : Launch} {D : va_G} {d z : ClassId} {h : Nat → Nat} {n m kc kp ku : Nat} {R C cs ps pe lv : Nat → Nat} (hn : n ≤ 8) (hm : m ≤ 7) (hC : Cols n m R C) (hku : ku ≤ 1) (hfr : ku = 1 → Fr n m R kc kp cs ps) {x : Int32} : xRW (XS) l yX1_dispensable cX1_dispensable 5 (some .int) 4 94 D (tyX d z) (xw h d n m kc kp ku R C cs ps pe lv) [.ref (h 0), .int x] (fun r u => DspP m (clo n m R) x r ∧ XI n m R u) (fun u => xW h d n m u) := by
  refine xRW.of (by decide) (Nat.le_of_ble_eq_true rfl) ?_
  intro p e S M below meth c hB hK hP hD ls hl
  obtain ⟨hx, hb, hr, hml, hown, hlocks, hts⟩ := hB
  have hown : S.vm.findClass RX1 = some M.cls := hown
  have hS : va_S (va_A (xw h d n m kc kp ku R C cs ps pe lv) S.heap.size) S.heap S.heap [] := va_S.rf
  have hA : ∀ q : Nat, S.heap.size ≤ q → (va_A (xw h d n m kc kp ku R C cs ps pe lv) S.heap.size) q := fun _ h => Or.inr h
  have hl : lv_has ls 5 [(0, .ref (h 0)), (1, .int x)] := hl
  refine lv_aload_n hx hb dX1_dispensable_0 rfl (lv_at hl 0 rfl) ?_
  refine lv_iload_n hx hb dX1_dispensable_1 rfl (lv_at hl 1 rfl) ?_
  refine xRO.call (m_X1_isAttribute) ⟨hx, hb, hml, hown, hts⟩ (cwV 1 hts (lw_V q88 q90 qs1 q27 q91) rfl rfl rfl (by decide +kernel) ⟨Nat.le_of_ble_eq_true rfl, Nat.le_of_ble_eq_true rfl⟩) hK hP (x_rc hK hP) hS hA hl.1 rfl rfl (Nat.le_of_ble_eq_true rfl) ⟨Nat.zero_le _, Nat.zero_le _⟩ dX1_dispensable_2 (fun r_ H locs hr_ hT hS => ?_)
  have hP := hT _ hP
  subst hr_
  refine nv_neB hx hb (tgt := 10) dX1_dispensable_5 (by decide) (fun c_5 => ?_) (fun c_5 => ?_)
  · obtain ⟨a, ha, rfl⟩ := inB_t (by omega) c_5
    refine lv_aload_n hx hb dX1_dispensable_10 rfl (lv_at hl 0 rfl) ?_
    refine xRV.call0 (m_X1_refresh hn hm hC hku hfr) ⟨hx, hb, hml, hown, hts⟩ (cwV 0 hts (lw_V q136 q138 qs7 q27 q139) rfl rfl rfl (by decide +kernel) ⟨Nat.le_of_ble_eq_true rfl, Nat.le_of_ble_eq_true rfl⟩) hK hP hD (x_rc hK hP) hS hA hl.1 rfl rfl (Nat.le_of_ble_eq_true rfl) ⟨Nat.zero_le _, Nat.zero_le _⟩ dX1_dispensable_11 (fun u_ H locs hu_ hP hD hS => ?_)
    obtain ⟨k1, p1, cs1, ps1, pe1⟩ := u_
    have hP : va_P D clX (xw h d n m k1 p1 1 R C cs1 ps1 pe1 lv) H := hP
    have hD : va_D (va_A (xw h d n m kc kp ku R C cs ps pe lv) S.heap.size) (xw h d n m k1 p1 1 R C cs1 ps1 pe1 lv) := hD
    have hu_ : Fr n m R k1 p1 cs1 ps1 := hu_
    have hk1 : k1 ≤ 128 := by have := hu_.1.le; have := p7 hm; omega
    have hp1 : p1 ≤ 128 := by have := hu_.2.le; have := p7 hm; omega
    refine lv_iconst (v := nI 1) hx hb dX1_dispensable_14 (by decide) ?_
    refine lv_iload_n hx hb dX1_dispensable_15 rfl (lv_at hl 1 rfl) ?_
    refine nv_ishl hx hb (by omega) dX1_dispensable_16 ?_
    refine lv_istore_n (lv' := [(2, .int (nI (2 ^ a))), (0, .ref (h 0)), (1, .int (nI a))]) hx hb dX1_dispensable_17 rfl hl (by decide) rfl (fun ls hl => ?_)
    refine lv_iconst (v := nI 0) hx hb dX1_dispensable_18 (by decide) ?_
    refine lv_istore_n (lv' := [(3, .int (nI 0)), (2, .int (nI (2 ^ a))), (0, .ref (h 0)), (1, .int (nI a))]) hx hb dX1_dispensable_19 rfl hl (by decide) rfl (fun ls hl => ?_)
    refine nv_loop (fun (i : Nat) (H : Heap) (locs : List Loc) (ls : Array Slot) => (∀ j, j < i → ¬ (¬ cs1 j ||| 2 ^ a = cs1 j ∧ clo n m R (cs1 j ||| 2 ^ a) = cs1 j ||| 2 ^ a)) ∧ va_P D clX (xw h d n m k1 p1 1 R C cs1 ps1 pe1 lv) H ∧ va_D (va_A (xw h d n m kc kp ku R C cs ps pe lv) S.heap.size) (xw h d n m k1 p1 1 R C cs1 ps1 pe1 lv) ∧ va_S (va_A (xw h d n m kc kp ku R C cs ps pe lv) S.heap.size) S.heap H locs ∧ lv_has ls 5 [(3, .int (nI i)), (2, .int (nI (2 ^ a))), (0, .ref (h 0)), (1, .int (nI a))]) (k1) (fun i H locs ls hi_i hI ih_i => ?_) (fun H locs ls hI => ?_) 0 (Nat.zero_le _) ⟨fun j hj => absurd hj (by omega), hP, hD, hS, lv_sub hl [0, 1, 2, 3] rfl⟩
    · obtain ⟨h_d, hP, hD, hS, hl⟩ := hI
      refine lv_iload_n hx hb dX1_dispensable_20 rfl (lv_at hl 0 rfl) ?_
      refine lv_aload_n hx hb dX1_dispensable_21 rfl (lv_at hl 2 rfl) ?_
      refine xg_closedCount hx hb hts hown hK hP dX1_dispensable_22 ?_
      refine nv_ge hx hb (by omega) (by omega) (tgt := 68) dX1_dispensable_25 (by decide) (fun c_25 => ?_) (fun c_25 => ?_)
      · exact absurd hi_i (by omega)
      · refine lv_aload_n hx hb dX1_dispensable_28 rfl (lv_at hl 2 rfl) ?_
        refine xg_closed hx hb hts hown hK hP dX1_dispensable_29 ?_
        refine lv_iload_n hx hb dX1_dispensable_32 rfl (lv_at hl 0 rfl) ?_
        refine xl_closed hx hb hK hP (by omega) dX1_dispensable_33 ?_
        refine lv_iload_n hx hb dX1_dispensable_34 rfl (lv_at hl 1 rfl) ?_
        refine nv_ior hx hb dX1_dispensable_35 ?_
        refine lv_istore (lv' := [(4, .int (nI ((cs1 i) ||| (2 ^ a)))), (3, .int (nI i)), (2, .int (nI (2 ^ a))), (0, .ref (h 0)), (1, .int (nI a))]) hx hb dX1_dispensable_36 hl (by decide) rfl (fun ls hl => ?_)
        refine lv_iload hx hb dX1_dispensable_38 (lv_at hl 0 rfl) ?_
        refine lv_aload_n hx hb dX1_dispensable_40 rfl (lv_at hl 3 rfl) ?_
        refine xg_closed hx hb hts hown hK hP dX1_dispensable_41 ?_
        refine lv_iload_n hx hb dX1_dispensable_44 rfl (lv_at hl 1 rfl) ?_
        refine xl_closed hx hb hK hP (by omega) dX1_dispensable_45 ?_
        refine nv_eq hx hb (Nat.or_lt_two_pow (set_lt hm (hu_.1.mem hi_i).1) (pw_lt (by omega))) (set_lt hm (hu_.1.mem hi_i).1) (tgt := 62) dX1_dispensable_46 (by decide) (fun c_46 => ?_) (fun c_46 => ?_)
        · refine lv_iinc (v := nI (i + 1)) (lv' := [(3, .int (nI (i + 1))), (4, .int (nI ((cs1 i) ||| (2 ^ a)))), (2, .int (nI (2 ^ a))), (0, .ref (h 0)), (1, .int (nI a))]) hx hb dX1_dispensable_62 hl (k := 1) rfl (nI_1 _) (by decide) rfl (fun ls hl => ?_)
          refine lv_goto (tgt := 20) hx hb dX1_dispensable_65 (by decide) ?_
          exact ih_i _ _ _ ⟨lt_s h_d (fun z => z.1 c_46), hP, hD, hS, lv_sub hl [0, 2, 3, 4] rfl⟩
        · refine lv_aload_n hx hb dX1_dispensable_49 rfl (lv_at hl 3 rfl) ?_
          refine lv_iload hx hb dX1_dispensable_50 (lv_at hl 0 rfl) ?_
          refine xRO.call (m_X1_closed hn hm hC (Nat.or_lt_two_pow (hu_.1.mem hi_i).1 (pow_b ha))) ⟨hx, hb, hml, hown, hts⟩ (cwV 1 hts (lw_V q128 q130 qs6 q27 q131) rfl rfl rfl (by decide +kernel) ⟨Nat.le_of_ble_eq_true rfl, Nat.le_of_ble_eq_true rfl⟩) hK hP (x_rc hK hP) hS hA hl.1 rfl rfl (Nat.le_of_ble_eq_true rfl) ⟨Nat.zero_le _, Nat.zero_le _⟩ dX1_dispensable_52 (fun r_ H locs hr_ hT hS => ?_)
          have hP := hT _ hP
          subst hr_
          refine lv_iload hx hb dX1_dispensable_55 (lv_at hl 0 rfl) ?_
          refine nv_ne hx hb (set_lt hm ((clo_op n m R).1 _ (Nat.or_lt_two_pow (hu_.1.mem hi_i).1 (pow_b ha)))) (Nat.or_lt_two_pow (set_lt hm (hu_.1.mem hi_i).1) (pw_lt (by omega))) (tgt := 62) dX1_dispensable_57 (by decide) (fun c_57 => ?_) (fun c_57 => ?_)
          · refine lv_iinc (v := nI (i + 1)) (lv' := [(3, .int (nI (i + 1))), (4, .int (nI ((cs1 i) ||| (2 ^ a)))), (2, .int (nI (2 ^ a))), (0, .ref (h 0)), (1, .int (nI a))]) hx hb dX1_dispensable_62 hl (k := 1) rfl (nI_1 _) (by decide) rfl (fun ls hl => ?_)
            refine lv_goto (tgt := 20) hx hb dX1_dispensable_65 (by decide) ?_
            exact ih_i _ _ _ ⟨lt_s h_d (fun z => c_57 z.2), hP, hD, hS, lv_sub hl [0, 2, 3, 4] rfl⟩
          · refine lv_iconst (v := nI 0) hx hb dX1_dispensable_60 (by decide) ?_
            exact xRW.ret hx hb hr rfl hlocks hS dX1_dispensable_61 (k1, p1, 1, R, C, cs1, ps1, pe1, lv) ⟨Or.inr ⟨a, rfl, ha, Or.inl ⟨rfl, disp_yes ha hu_.1 hi_i c_46 c_57⟩⟩, XI.of hC (by decide) (fun _ => hu_)⟩ hP hD
    · obtain ⟨h_d, hP, hD, hS, hl⟩ := hI
      refine lv_iload_n hx hb dX1_dispensable_20 rfl (lv_at hl 0 rfl) ?_
      refine lv_aload_n hx hb dX1_dispensable_21 rfl (lv_at hl 2 rfl) ?_
      refine xg_closedCount hx hb hts hown hK hP dX1_dispensable_22 ?_
      refine nv_ge hx hb (by omega) (by omega) (tgt := 68) dX1_dispensable_25 (by decide) (fun c_25 => ?_) (fun c_25 => ?_)
      · refine lv_iconst (v := nI 1) hx hb dX1_dispensable_68 (by decide) ?_
        exact xRW.ret hx hb hr rfl hlocks hS dX1_dispensable_69 (k1, p1, 1, R, C, cs1, ps1, pe1, lv) ⟨Or.inr ⟨a, rfl, ha, Or.inr ⟨rfl, disp_no ha hu_.1 h_d⟩⟩, XI.of hC (by decide) (fun _ => hu_)⟩ hP hD
      · exact absurd c_25 (by omega)
  · refine lv_iconst (v := (-1)) hx hb dX1_dispensable_8 (by decide) ?_
    exact xRW.ret hx hb hr rfl hlocks hS dX1_dispensable_9 (kc, kp, ku, R, C, cs, ps, pe, lv) ⟨Or.inl ⟨c_5, rfl⟩, XI.of hC hku hfr⟩ hP hD

set_option maxHeartbeats 4000000 in
set_option maxRecDepth 100000 in
theorem m_X1_height {l : Launch} {D : va_G} {d z : ClassId} {h : Nat → Nat} {n m kc kp ku : Nat} {R C cs ps pe lv : Nat → Nat} (hn : n ≤ 8) (hm : m ≤ 7) (hC : Cols n m R C) (hku : ku ≤ 1) (hfr : ku = 1 → Fr n m R kc kp cs ps) : xRW (XS) l yX1_height cX1_height 4 (some .int) 4 94 D (tyX d z) (xw h d n m kc kp ku R C cs ps pe lv) [.ref (h 0)] (fun r u => (∃ t, r = nI t ∧ IsHt m (clo n m R) t) ∧ XI n m R u) (fun u => xW h d n m u) := by
  refine xRW.of (by decide) (Nat.le_of_ble_eq_true rfl) ?_
  intro p e S M below meth c hB hK hP hD ls hl
  obtain ⟨hx, hb, hr, hml, hown, hlocks, hts⟩ := hB
  have hown : S.vm.findClass RX1 = some M.cls := hown
  have hS : va_S (va_A (xw h d n m kc kp ku R C cs ps pe lv) S.heap.size) S.heap S.heap [] := va_S.rf
  have hA : ∀ q : Nat, S.heap.size ≤ q → (va_A (xw h d n m kc kp ku R C cs ps pe lv) S.heap.size) q := fun _ h => Or.inr h
  have hl : lv_has ls 4 [(0, .ref (h 0))] := hl
  refine lv_aload_n hx hb dX1_height_0 rfl (lv_at hl 0 rfl) ?_
  refine xRV.call0 (m_X1_refresh hn hm hC hku hfr) ⟨hx, hb, hml, hown, hts⟩ (cwV 0 hts (lw_V q136 q138 qs7 q27 q139) rfl rfl rfl (by decide +kernel) ⟨Nat.le_of_ble_eq_true rfl, Nat.le_of_ble_eq_true rfl⟩) hK hP hD (x_rc hK hP) hS hA hl.1 rfl rfl (Nat.le_of_ble_eq_true rfl) ⟨Nat.zero_le _, Nat.zero_le _⟩ dX1_height_1 (fun u_ H locs hu_ hP hD hS => ?_)
  obtain ⟨k1, p1, cs1, ps1, pe1⟩ := u_
  have hP : va_P D clX (xw h d n m k1 p1 1 R C cs1 ps1 pe1 lv) H := hP
  have hD : va_D (va_A (xw h d n m kc kp ku R C cs ps pe lv) S.heap.size) (xw h d n m k1 p1 1 R C cs1 ps1 pe1 lv) := hD
  have hu_ : Fr n m R k1 p1 cs1 ps1 := hu_
  have hk1 : k1 ≤ 128 := by have := hu_.1.le; have := p7 hm; omega
  have hp1 : p1 ≤ 128 := by have := hu_.2.le; have := p7 hm; omega
  refine lv_iconst (v := nI 0) hx hb dX1_height_4 (by decide) ?_
  refine lv_istore_n (lv' := [(1, .int (nI 0)), (0, .ref (h 0))]) hx hb dX1_height_5 rfl hl (by decide) rfl (fun ls hl => ?_)
  refine lv_iconst (v := nI 0) hx hb dX1_height_6 (by decide) ?_
  refine lv_istore_n (lv' := [(2, .int (nI 0)), (1, .int (nI 0)), (0, .ref (h 0))]) hx hb dX1_height_7 rfl hl (by decide) rfl (fun ls hl => ?_)
  refine nv_loop (fun (i : Nat) (H : Heap) (locs : List Loc) (ls : Array Slot) => ∃ (lv1 : Nat → Nat), ∃ (r : Nat), LvOK cs1 lv1 i ∧ r = mx lv1 i ∧ (∀ j, j < i → lv1 j ≤ j + 1) ∧ r ≤ 129 ∧ va_P D clX (xw h d n m k1 p1 1 R C cs1 ps1 pe1 lv1) H ∧ va_D (va_A (xw h d n m kc kp ku R C cs ps pe lv) S.heap.size) (xw h d n m k1 p1 1 R C cs1 ps1 pe1 lv1) ∧ va_S (va_A (xw h d n m kc kp ku R C cs ps pe lv) S.heap.size) S.heap H locs ∧ lv_has ls 4 [(2, .int (nI i)), (1, .int (nI r)), (0, .ref (h 0))]) (k1) (fun i H locs ls hi_i hI ih_i => ?_) (fun H locs ls hI => ?_) 0 (Nat.zero_le _) ⟨lv, 0, fun j hj => absurd hj (by omega), rfl, fun j hj => absurd hj (by omega), Nat.zero_le _, hP, hD, hS, lv_sub hl [0, 1, 2] rfl⟩
  · obtain ⟨lv1, r, h_L, e_r, h_b, h_r, hP, hD, hS, hl⟩ := hI
    refine lv_iload_n hx hb dX1_height_8 rfl (lv_at hl 0 rfl) ?_
    refine lv_aload_n hx hb dX1_height_9 rfl (lv_at hl 2 rfl) ?_
    refine xg_closedCount hx hb hts hown hK hP dX1_height_10 ?_
    refine nv_ge hx hb (by omega) (by omega) (tgt := 110) dX1_height_13 (by decide) (fun c_13 => ?_) (fun c_13 => ?_)
    · exact absurd hi_i (by omega)
    · refine lv_aload_n hx hb dX1_height_16 rfl (lv_at hl 2 rfl) ?_
      refine xg_level hx hb hts hown hK hP dX1_height_17 ?_
      refine lv_iload_n hx hb dX1_height_20 rfl (lv_at hl 0 rfl) ?_
      refine lv_iconst (v := nI 1) hx hb dX1_height_21 (by decide) ?_
      refine xs_level hx hb hK hP hD hS (by omega) dX1_height_22 (fun H locs hP hD hS => ?_)
      refine lv_iconst (v := nI 0) hx hb dX1_height_23 (by decide) ?_
      refine lv_istore_n (lv' := [(3, .int (nI 0)), (2, .int (nI i)), (1, .int (nI r)), (0, .ref (h 0))]) hx hb dX1_height_24 rfl hl (by decide) rfl (fun ls hl => ?_)
      refine nv_loop (fun (k : Nat) (H : Heap) (locs : List Loc) (ls : Array Slot) => ∃ (v : Nat), v = levI cs1 lv1 i k ∧ v ≤ k + 1 ∧ va_P D clX (xw h d n m k1 p1 1 R C cs1 ps1 pe1 (un lv1 i v)) H ∧ va_D (va_A (xw h d n m kc kp ku R C cs ps pe lv) S.heap.size) (xw h d n m k1 p1 1 R C cs1 ps1 pe1 (un lv1 i v)) ∧ va_S (va_A (xw h d n m kc kp ku R C cs ps pe lv) S.heap.size) S.heap H locs ∧ lv_has ls 4 [(3, .int (nI k)), (2, .int (nI i)), (1, .int (nI r)), (0, .ref (h 0))]) (i) (fun k H locs ls hi_k hI ih_k => ?_) (fun H locs ls hI => ?_) 0 (Nat.zero_le _) ⟨1, rfl, Nat.le_refl 1, hP, hD, hS, lv_sub hl [0, 1, 2, 3] rfl⟩
      · obtain ⟨v, e_v, h_v, hP, hD, hS, hl⟩ := hI
        refine lv_iload_n hx hb dX1_height_25 rfl (lv_at hl 0 rfl) ?_
        refine lv_iload_n hx hb dX1_height_26 rfl (lv_at hl 1 rfl) ?_
        refine nv_ge hx hb (by omega) (by omega) (tgt := 83) dX1_height_27 (by decide) (fun c_27 => ?_) (fun c_27 => ?_)
        · exact absurd hi_k (by omega)
        · refine lv_aload_n hx hb dX1_height_30 rfl (lv_at hl 3 rfl) ?_
          refine xg_closed hx hb hts hown hK hP dX1_height_31 ?_
          refine lv_iload_n hx hb dX1_height_34 rfl (lv_at hl 0 rfl) ?_
          refine xl_closed hx hb hK hP (by omega) dX1_height_35 ?_
          refine lv_aload_n hx hb dX1_height_36 rfl (lv_at hl 3 rfl) ?_
          refine xg_closed hx hb hts hown hK hP dX1_height_37 ?_
          refine lv_iload_n hx hb dX1_height_40 rfl (lv_at hl 1 rfl) ?_
          refine xl_closed hx hb hK hP (by omega) dX1_height_41 ?_
          refine nv_andn hx hb dX1_height_42 dX1_height_43 dX1_height_44 ?_
          refine nv_ne0 hx hb (Nat.lt_of_le_of_lt (nd_le _ _) (set_lt hm (hu_.1.mem (Nat.lt_trans hi_k hi_i)).1)) (tgt := 77) dX1_height_45 (by decide) (fun c_45 => ?_) (fun c_45 => ?_)
          · refine lv_iinc (v := nI (k + 1)) (lv' := [(3, .int (nI (k + 1))), (2, .int (nI i)), (1, .int (nI r)), (0, .ref (h 0))]) hx hb dX1_height_77 hl (k := 0) rfl (nI_1 _) (by decide) rfl (fun ls hl => ?_)
            refine lv_goto (tgt := 25) hx hb dX1_height_80 (by decide) ?_
            exact ih_k _ _ _ ⟨v, by rw [levI_0 (fun z => c_45 z.1)]; exact e_v, by omega, hP, hD, hS, lv_sub hl [0, 1, 2, 3] rfl⟩
          · refine lv_aload_n hx hb dX1_height_48 rfl (lv_at hl 3 rfl) ?_
            refine xg_level hx hb hts hown hK hP dX1_height_49 ?_
            refine lv_iload_n hx hb dX1_height_52 rfl (lv_at hl 0 rfl) ?_
            refine xl_level hx hb hK hP (by omega) dX1_height_53 ?_
            rw [un_n (show k ≠ i by omega)]
            refine lv_aload_n hx hb dX1_height_54 rfl (lv_at hl 3 rfl) ?_
            refine xg_level hx hb hts hown hK hP dX1_height_55 ?_
            refine lv_iload_n hx hb dX1_height_58 rfl (lv_at hl 1 rfl) ?_
            refine xl_level hx hb hK hP (by omega) dX1_height_59 ?_
            rw [un_s]
            refine nv_lt hx hb (by have := h_b k (by omega); omega) (by omega) (tgt := 77) dX1_height_60 (by decide) (fun c_60 => ?_) (fun c_60 => ?_)
            · refine lv_iinc (v := nI (k + 1)) (lv' := [(3, .int (nI (k + 1))), (2, .int (nI i)), (1, .int (nI r)), (0, .ref (h 0))]) hx hb dX1_height_77 hl (k := 0) rfl (nI_1 _) (by decide) rfl (fun ls hl => ?_)
              refine lv_goto (tgt := 25) hx hb dX1_height_80 (by decide) ?_
              exact ih_k _ _ _ ⟨v, by rw [levI_0 (fun z => absurd z.2 (by rw [← e_v]; omega))]; exact e_v, by omega, hP, hD, hS, lv_sub hl [0, 1, 2, 3] rfl⟩
            · refine lv_aload_n hx hb dX1_height_63 rfl (lv_at hl 3 rfl) ?_
              refine xg_level hx hb hts hown hK hP dX1_height_64 ?_
              refine lv_iload_n hx hb dX1_height_67 rfl (lv_at hl 1 rfl) ?_
              refine lv_aload_n hx hb dX1_height_68 rfl (lv_at hl 3 rfl) ?_
              refine xg_level hx hb hts hown hK hP dX1_height_69 ?_
              refine lv_iload_n hx hb dX1_height_72 rfl (lv_at hl 0 rfl) ?_
              refine xl_level hx hb hK hP (by omega) dX1_height_73 ?_
              rw [un_n (show k ≠ i by omega)]
              refine lv_iconst (v := nI 1) hx hb dX1_height_74 (by decide) ?_
              refine nv_iadd hx hb dX1_height_75 ?_
              refine xs_level hx hb hK hP hD hS (by omega) dX1_height_76 (fun H locs hP hD hS => ?_)
              refine lv_iinc (v := nI (k + 1)) (lv' := [(3, .int (nI (k + 1))), (2, .int (nI i)), (1, .int (nI r)), (0, .ref (h 0))]) hx hb dX1_height_77 hl (k := 0) rfl (nI_1 _) (by decide) rfl (fun ls hl => ?_)
              refine lv_goto (tgt := 25) hx hb dX1_height_80 (by decide) ?_
              rw [un_un] at hP hD
              exact ih_k _ _ _ ⟨lv1 k + 1, by rw [levI_1 c_45 (by rw [← e_v]; exact c_60)], by have := h_b k (by omega); omega, hP, hD, hS, lv_sub hl [0, 1, 2, 3] rfl⟩
      · obtain ⟨v, e_v, h_v, hP, hD, hS, hl⟩ := hI
        refine lv_iload_n hx hb dX1_height_25 rfl (lv_at hl 0 rfl) ?_
        refine lv_iload_n hx hb dX1_height_26 rfl (lv_at hl 1 rfl) ?_
        refine nv_ge hx hb (by omega) (by omega) (tgt := 83) dX1_height_27 (by decide) (fun c_27 => ?_) (fun c_27 => ?_)
        · refine lv_aload_n hx hb dX1_height_83 rfl (lv_at hl 3 rfl) ?_
          refine xg_level hx hb hts hown hK hP dX1_height_84 ?_
          refine lv_iload_n hx hb dX1_height_87 rfl (lv_at hl 1 rfl) ?_
          refine xl_level hx hb hK hP (by omega) dX1_height_88 ?_
          rw [un_s]
          refine lv_iload_n hx hb dX1_height_89 rfl (lv_at hl 2 rfl) ?_
          refine nv_le hx hb (by omega) (by omega) (tgt := 102) dX1_height_90 (by decide) (fun c_90 => ?_) (fun c_90 => ?_)
          · refine lv_iload_n hx hb dX1_height_102 rfl (lv_at hl 2 rfl) ?_
            refine lv_istore_n (lv' := [(1, .int (nI r)), (3, .int (nI i)), (2, .int (nI i)), (0, .ref (h 0))]) hx hb dX1_height_103 rfl hl (by decide) rfl (fun ls hl => ?_)
            refine lv_iinc (v := nI (i + 1)) (lv' := [(2, .int (nI (i + 1))), (1, .int (nI r)), (3, .int (nI i)), (0, .ref (h 0))]) hx hb dX1_height_104 hl (k := 2) rfl (nI_1 _) (by decide) rfl (fun ls hl => ?_)
            refine lv_goto (tgt := 8) hx hb dX1_height_107 (by decide) ?_
            exact ih_i _ _ _ ⟨un lv1 i v, r, LvOK.push h_L e_v, by rw [mx_push, ← e_r]; rw [if_neg (by omega)], lt_s (fun j hj => by rw [un_n (by omega)]; exact h_b j hj) (by rw [un_s]; exact h_v), h_r, hP, hD, hS, lv_sub hl [0, 1, 3] rfl⟩
          · refine lv_aload_n hx hb dX1_height_93 rfl (lv_at hl 3 rfl) ?_
            refine xg_level hx hb hts hown hK hP dX1_height_94 ?_
            refine lv_iload_n hx hb dX1_height_97 rfl (lv_at hl 1 rfl) ?_
            refine xl_level hx hb hK hP (by omega) dX1_height_98 ?_
            rw [un_s]
            refine lv_goto (tgt := 103) hx hb dX1_height_99 (by decide) ?_
            refine lv_istore_n (lv' := [(1, .int (nI v)), (3, .int (nI i)), (2, .int (nI i)), (0, .ref (h 0))]) hx hb dX1_height_103 rfl hl (by decide) rfl (fun ls hl => ?_)
            refine lv_iinc (v := nI (i + 1)) (lv' := [(2, .int (nI (i + 1))), (1, .int (nI v)), (3, .int (nI i)), (0, .ref (h 0))]) hx hb dX1_height_104 hl (k := 2) rfl (nI_1 _) (by decide) rfl (fun ls hl => ?_)
            refine lv_goto (tgt := 8) hx hb dX1_height_107 (by decide) ?_
            exact ih_i _ _ _ ⟨un lv1 i v, v, LvOK.push h_L e_v, by rw [mx_push, ← e_r]; rw [if_pos (by omega)], lt_s (fun j hj => by rw [un_n (by omega)]; exact h_b j hj) (by rw [un_s]; exact h_v), by omega, hP, hD, hS, lv_sub hl [0, 1, 3] rfl⟩
        · exact absurd c_27 (by omega)
  · obtain ⟨lv1, r, h_L, e_r, h_b, h_r, hP, hD, hS, hl⟩ := hI
    refine lv_iload_n hx hb dX1_height_8 rfl (lv_at hl 0 rfl) ?_
    refine lv_aload_n hx hb dX1_height_9 rfl (lv_at hl 2 rfl) ?_
    refine xg_closedCount hx hb hts hown hK hP dX1_height_10 ?_
    refine nv_ge hx hb (by omega) (by omega) (tgt := 110) dX1_height_13 (by decide) (fun c_13 => ?_) (fun c_13 => ?_)
    · refine lv_iload_n hx hb dX1_height_110 rfl (lv_at hl 1 rfl) ?_
      exact xRW.ret hx hb hr rfl hlocks hS dX1_height_111 (k1, p1, 1, R, C, cs1, ps1, pe1, lv1) ⟨⟨r, rfl, by rw [e_r]; exact lev_isHt hu_.1 h_L⟩, XI.of hC (by decide) (fun _ => hu_)⟩ hP hD
    · exact absurd c_13 (by omega)
end
section
/-! ConceptLatticeModel: its leaves -/

set_option maxHeartbeats 4000000 in
set_option maxRecDepth 100000 in
theorem m_X2_badObject {l : Launch} {D : va_G} {d z : ClassId} {h : Nat → Nat} {n m : Nat} {R : Nat → Nat} {cb pb : Nat → Bool} {cl ch : Nat → Nat} (hn : n ≤ 8) {x : Int32} : xRO l yX2_badObject cX2_badObject 2 (some .boolean) 0 0 D (tyX d z) (yw h d z n m R cb pb cl ch) [.ref (h 0), .int x] (fun r => r = nI (!inB x n).toNat) := by
  refine xRO.of (by decide) (Nat.le_of_ble_eq_true rfl) ?_
  intro p e S M below meth c hB hK hP ls hl
  obtain ⟨hx, hb, hr, hml, hown, hlocks, hts⟩ := hB
  have hown : S.vm.findClass RX2 = some M.cls := hown
  have hS : va_S (frX S) S.heap S.heap [] := va_S.rf
  have hA : ∀ q : Nat, S.heap.size ≤ q → (frX S) q := fun _ h => h
  have hl : lv_has ls 2 [(0, .ref (h 0)), (1, .int x)] := hl
  refine lv_iload_n hx hb dX2_badObject_0 rfl (lv_at hl 1 rfl) ?_
  refine lv_if_lt (tgt := 18) hx hb dX2_badObject_1 (by decide) (fun c_1 => ?_) (fun c_1 => ?_)
  · refine lv_iconst (v := nI 1) hx hb dX2_badObject_18 (by decide) ?_
    refine lv_goto (tgt := 23) hx hb dX2_badObject_19 (by decide) ?_
    exact xRO.ret hx hb hr (by decide) hlocks hS dX2_badObject_23 (by rw [nB_lt c_1]; rfl)
  · refine lv_iload_n hx hb dX2_badObject_4 rfl (lv_at hl 1 rfl) ?_
    refine lv_aload_n hx hb dX2_badObject_5 rfl (lv_at hl 0 rfl) ?_
    refine yg_n hx hb hts hown hK hP dX2_badObject_6 ?_
    refine lv_icmp_ge (tgt := 18) hx hb dX2_badObject_9 (by decide) (fun c_9 => ?_) (fun c_9 => ?_)
    · refine lv_iconst (v := nI 1) hx hb dX2_badObject_18 (by decide) ?_
      refine lv_goto (tgt := 23) hx hb dX2_badObject_19 (by decide) ?_
      exact xRO.ret hx hb hr (by decide) hlocks hS dX2_badObject_23 (by rw [nB_ge c_9]; rfl)
    · refine lv_iload_n hx hb dX2_badObject_12 rfl (lv_at hl 1 rfl) ?_
      refine lv_bipush (v := nI 7) hx hb dX2_badObject_13 (by decide) ?_
      refine lv_icmp_le (tgt := 22) hx hb dX2_badObject_15 (by decide) (fun c_15 => ?_) (fun c_15 => ?_)
      · refine lv_iconst (v := nI 0) hx hb dX2_badObject_22 (by decide) ?_
        exact xRO.ret hx hb hr (by decide) hlocks hS dX2_badObject_23 (by rw [nB_in c_1 c_9]; rfl)
      · exact absurd (ob_in hn c_1 c_9) c_15

set_option maxHeartbeats 4000000 in
set_option maxRecDepth 100000 in
theorem m_X2_badAttribute {l : Launch} {D : va_G} {d z : ClassId} {h : Nat → Nat} {n m : Nat} {R : Nat → Nat} {cb pb : Nat → Bool} {cl ch : Nat → Nat} {x : Int32} : xRO l yX2_badAttribute cX2_badAttribute 2 (some .boolean) 0 0 D (tyX d z) (yw h d z n m R cb pb cl ch) [.ref (h 0), .int x] (fun r => r = nI (!inB x m).toNat) := by
  refine xRO.of (by decide) (Nat.le_of_ble_eq_true rfl) ?_
  intro p e S M below meth c hB hK hP ls hl
  obtain ⟨hx, hb, hr, hml, hown, hlocks, hts⟩ := hB
  have hown : S.vm.findClass RX2 = some M.cls := hown
  have hS : va_S (frX S) S.heap S.heap [] := va_S.rf
  have hA : ∀ q : Nat, S.heap.size ≤ q → (frX S) q := fun _ h => h
  have hl : lv_has ls 2 [(0, .ref (h 0)), (1, .int x)] := hl
  refine lv_iload_n hx hb dX2_badAttribute_0 rfl (lv_at hl 1 rfl) ?_
  refine lv_if_lt (tgt := 12) hx hb dX2_badAttribute_1 (by decide) (fun c_1 => ?_) (fun c_1 => ?_)
  · refine lv_iconst (v := nI 1) hx hb dX2_badAttribute_12 (by decide) ?_
    refine lv_goto (tgt := 17) hx hb dX2_badAttribute_13 (by decide) ?_
    exact xRO.ret hx hb hr (by decide) hlocks hS dX2_badAttribute_17 (by rw [nB_lt c_1]; rfl)
  · refine lv_iload_n hx hb dX2_badAttribute_4 rfl (lv_at hl 1 rfl) ?_
    refine lv_aload_n hx hb dX2_badAttribute_5 rfl (lv_at hl 0 rfl) ?_
    refine yg_m hx hb hts hown hK hP dX2_badAttribute_6 ?_
    refine lv_icmp_lt (tgt := 16) hx hb dX2_badAttribute_9 (by decide) (fun c_9 => ?_) (fun c_9 => ?_)
    · refine lv_iconst (v := nI 0) hx hb dX2_badAttribute_16 (by decide) ?_
      exact xRO.ret hx hb hr (by decide) hlocks hS dX2_badAttribute_17 (by rw [nB_in c_1 (at_in c_9)]; rfl)
    · refine lv_iconst (v := nI 1) hx hb dX2_badAttribute_12 (by decide) ?_
      refine lv_goto (tgt := 17) hx hb dX2_badAttribute_13 (by decide) ?_
      exact xRO.ret hx hb hr (by decide) hlocks hS dX2_badAttribute_17 (by rw [nB_ge (at_out c_9)]; rfl)

set_option maxHeartbeats 4000000 in
set_option maxRecDepth 100000 in
theorem m_X2_badSet {l : Launch} {D : va_G} {d z : ClassId} {h : Nat → Nat} {n m : Nat} {R : Nat → Nat} {cb pb : Nat → Bool} {cl ch : Nat → Nat} (hm : m ≤ 7) {x : Int32} : xRO l yX2_badSet cX2_badSet 2 (some .boolean) 0 0 D (tyX d z) (yw h d z n m R cb pb cl ch) [.ref (h 0), .int x] (fun r => r = nI (!inB x (2 ^ m)).toNat) := by
  refine xRO.of (by decide) (Nat.le_of_ble_eq_true rfl) ?_
  intro p e S M below meth c hB hK hP ls hl
  obtain ⟨hx, hb, hr, hml, hown, hlocks, hts⟩ := hB
  have hown : S.vm.findClass RX2 = some M.cls := hown
  have hS : va_S (frX S) S.heap S.heap [] := va_S.rf
  have hA : ∀ q : Nat, S.heap.size ≤ q → (frX S) q := fun _ h => h
  have hl : lv_has ls 2 [(0, .ref (h 0)), (1, .int x)] := hl
  refine lv_iload_n hx hb dX2_badSet_0 rfl (lv_at hl 1 rfl) ?_
  refine lv_if_lt (tgt := 12) hx hb dX2_badSet_1 (by decide) (fun c_1 => ?_) (fun c_1 => ?_)
  · refine lv_iconst (v := nI 1) hx hb dX2_badSet_12 (by decide) ?_
    refine lv_goto (tgt := 17) hx hb dX2_badSet_13 (by decide) ?_
    exact xRO.ret hx hb hr (by decide) hlocks hS dX2_badSet_17 (by rw [nB_lt c_1]; rfl)
  · refine lv_iload_n hx hb dX2_badSet_4 rfl (lv_at hl 1 rfl) ?_
    refine lv_aload_n hx hb dX2_badSet_5 rfl (lv_at hl 0 rfl) ?_
    refine yg_all hx hb hts hown hK hP dX2_badSet_6 ?_
    refine lv_icmp_le (tgt := 16) hx hb dX2_badSet_9 (by decide) (fun c_9 => ?_) (fun c_9 => ?_)
    · refine lv_iconst (v := nI 0) hx hb dX2_badSet_16 (by decide) ?_
      exact xRO.ret hx hb hr (by decide) hlocks hS dX2_badSet_17 (by rw [nB_in c_1 (se_in hm c_9)]; rfl)
    · refine lv_iconst (v := nI 1) hx hb dX2_badSet_12 (by decide) ?_
      refine lv_goto (tgt := 17) hx hb dX2_badSet_13 (by decide) ?_
      exact xRO.ret hx hb hr (by decide) hlocks hS dX2_badSet_17 (by rw [nB_ge (se_out hm c_1 c_9)]; rfl)

set_option maxHeartbeats 4000000 in
set_option maxRecDepth 100000 in
theorem m_X2_part {l : Launch} {D : va_G} {d z : ClassId} {h : Nat → Nat} {n m : Nat} {R : Nat → Nat} {cb pb : Nat → Bool} {cl ch : Nat → Nat} {x y : Nat} (hx1 : x < 2 ^ 31) (hy1 : y < 2 ^ 31) : xRO l yX2_part cX2_part 3 (some .boolean) 0 0 D (tyX d z) (yw h d z n m R cb pb cl ch) [.ref (h 0), .int (nI x), .int (nI y)] (fun r => r = nI (x &&& y == x).toNat) := by
  refine xRO.of (by decide) (Nat.le_of_ble_eq_true rfl) ?_
  intro p e S M below meth c hB hK hP ls hl
  obtain ⟨hx, hb, hr, hml, hown, hlocks, hts⟩ := hB
  have hown : S.vm.findClass RX2 = some M.cls := hown
  have hS : va_S (frX S) S.heap S.heap [] := va_S.rf
  have hA : ∀ q : Nat, S.heap.size ≤ q → (frX S) q := fun _ h => h
  have hl : lv_has ls 3 [(0, .ref (h 0)), (1, .int (nI x)), (2, .int (nI y))] := hl
  refine lv_iload_n hx hb dX2_part_0 rfl (lv_at hl 1 rfl) ?_
  refine lv_iload_n hx hb dX2_part_1 rfl (lv_at hl 2 rfl) ?_
  refine nv_iand hx hb dX2_part_2 ?_
  refine lv_iload_n hx hb dX2_part_3 rfl (lv_at hl 1 rfl) ?_
  refine nv_ne hx hb (Nat.lt_of_le_of_lt Nat.and_le_left hx1) hx1 (tgt := 11) dX2_part_4 (by decide) (fun c_4 => ?_) (fun c_4 => ?_)
  · refine lv_iconst (v := nI 0) hx hb dX2_part_11 (by decide) ?_
    exact xRO.ret hx hb hr (by decide) hlocks hS dX2_part_12 (by rw [b_f c_4]; rfl)
  · refine lv_iconst (v := nI 1) hx hb dX2_part_7 (by decide) ?_
    refine lv_goto (tgt := 12) hx hb dX2_part_8 (by decide) ?_
    exact xRO.ret hx hb hr (by decide) hlocks hS dX2_part_12 (by rw [b_t c_4]; rfl)

set_option maxHeartbeats 4000000 in
set_option maxRecDepth 100000 in
theorem m_X2_proper {l : Launch} {D : va_G} {d z : ClassId} {h : Nat → Nat} {n m : Nat} {R : Nat → Nat} {cb pb : Nat → Bool} {cl ch : Nat → Nat} {x y : Nat} (hx1 : x < 2 ^ 31) (hy1 : y < 2 ^ 31) : xRO l yX2_proper cX2_proper 3 (some .boolean) 1 22 D (tyX d z) (yw h d z n m R cb pb cl ch) [.ref (h 0), .int (nI x), .int (nI y)] (fun r => r = nI (x != y && (x &&& y == x)).toNat) := by
  refine xRO.of (by decide) (Nat.le_of_ble_eq_true rfl) ?_
  intro p e S M below meth c hB hK hP ls hl
  obtain ⟨hx, hb, hr, hml, hown, hlocks, hts⟩ := hB
  have hown : S.vm.findClass RX2 = some M.cls := hown
  have hS : va_S (frX S) S.heap S.heap [] := va_S.rf
  have hA : ∀ q : Nat, S.heap.size ≤ q → (frX S) q := fun _ h => h
  have hl : lv_has ls 3 [(0, .ref (h 0)), (1, .int (nI x)), (2, .int (nI y))] := hl
  refine lv_iload_n hx hb dX2_proper_0 rfl (lv_at hl 1 rfl) ?_
  refine lv_iload_n hx hb dX2_proper_1 rfl (lv_at hl 2 rfl) ?_
  refine nv_eq hx hb hx1 hy1 (tgt := 18) dX2_proper_2 (by decide) (fun c_2 => ?_) (fun c_2 => ?_)
  · refine lv_iconst (v := nI 0) hx hb dX2_proper_18 (by decide) ?_
    exact xRO.ret hx hb hr (by decide) hlocks hS dX2_proper_19 (by rw [prp_e c_2]; rfl)
  · refine lv_aload_n hx hb dX2_proper_5 rfl (lv_at hl 0 rfl) ?_
    refine lv_iload_n hx hb dX2_proper_6 rfl (lv_at hl 1 rfl) ?_
    refine lv_iload_n hx hb dX2_proper_7 rfl (lv_at hl 2 rfl) ?_
    refine xRO.call (m_X2_part hx1 hy1) ⟨hx, hb, hml, hown, hts⟩ (cwV 2 hts (lw_V q278 q280 qs17 q28 q281) rfl rfl rfl (by decide +kernel) ⟨Nat.le_of_ble_eq_true rfl, Nat.le_of_ble_eq_true rfl⟩) hK hP (y_rc hK hP) hS hA hl.1 rfl rfl (Nat.le_of_ble_eq_true rfl) ⟨Nat.zero_le _, Nat.zero_le _⟩ dX2_proper_8 (fun r_ H locs hr_ hT hS => ?_)
    have hP := hT _ hP
    subst hr_
    refine nv_eqB hx hb (tgt := 18) dX2_proper_11 (by decide) (fun c_11 => ?_) (fun c_11 => ?_)
    · refine lv_iconst (v := nI 0) hx hb dX2_proper_18 (by decide) ?_
      exact xRO.ret hx hb hr (by decide) hlocks hS dX2_proper_19 (by rw [prp_n c_11]; rfl)
    · refine lv_iconst (v := nI 1) hx hb dX2_proper_14 (by decide) ?_
      refine lv_goto (tgt := 19) hx hb dX2_proper_15 (by decide) ?_
      exact xRO.ret hx hb hr (by decide) hlocks hS dX2_proper_19 (by rw [prp_t c_2 c_11]; rfl)

set_option maxHeartbeats 4000000 in
set_option maxRecDepth 100000 in
theorem m_X2_size {l : Launch} {D : va_G} {d z : ClassId} {h : Nat → Nat} {n m : Nat} {R : Nat → Nat} {cb pb : Nat → Bool} {cl ch : Nat → Nat} {s : Nat} (hs : s < 2 ^ 31) : xRO l yX2_size cX2_size 4 (some .int) 0 0 D (tyX d z) (yw h d z n m R cb pb cl ch) [.ref (h 0), .int (nI s)] (fun r => r = nI (cnt s 7)) := by
  refine xRO.of (by decide) (Nat.le_of_ble_eq_true rfl) ?_
  intro p e S M below meth c hB hK hP ls hl
  obtain ⟨hx, hb, hr, hml, hown, hlocks, hts⟩ := hB
  have hown : S.vm.findClass RX2 = some M.cls := hown
  have hS : va_S (frX S) S.heap S.heap [] := va_S.rf
  have hA : ∀ q : Nat, S.heap.size ≤ q → (frX S) q := fun _ h => h
  have hl : lv_has ls 4 [(0, .ref (h 0)), (1, .int (nI s))] := hl
  refine lv_iconst (v := nI 0) hx hb dX2_size_0 (by decide) ?_
  refine lv_istore_n (lv' := [(2, .int (nI 0)), (0, .ref (h 0)), (1, .int (nI s))]) hx hb dX2_size_1 rfl hl (by decide) rfl (fun ls hl => ?_)
  refine lv_iconst (v := nI 0) hx hb dX2_size_2 (by decide) ?_
  refine lv_istore_n (lv' := [(3, .int (nI 0)), (2, .int (nI 0)), (0, .ref (h 0)), (1, .int (nI s))]) hx hb dX2_size_3 rfl hl (by decide) rfl (fun ls hl => ?_)
  refine nv_loop (fun (i : Nat) (H : Heap) (locs : List Loc) (ls : Array Slot) => ∃ (r : Nat), r = cnt s i ∧ va_P D clX (yw h d z n m R cb pb cl ch) H ∧ va_S (frX S) S.heap H locs ∧ lv_has ls 4 [(3, .int (nI i)), (2, .int (nI r)), (0, .ref (h 0)), (1, .int (nI s))]) (7) (fun i H locs ls hi_i hI ih_i => ?_) (fun H locs ls hI => ?_) 0 (Nat.zero_le _) ⟨0, rfl, hP, hS, lv_sub hl [0, 1, 2, 3] rfl⟩
  · obtain ⟨r, e_r, hP, hS, hl⟩ := hI
    refine lv_iload_n hx hb dX2_size_4 rfl (lv_at hl 0 rfl) ?_
    refine lv_bipush (v := nI 7) hx hb dX2_size_5 (by decide) ?_
    refine nv_ge hx hb (by omega) (by decide) (tgt := 24) dX2_size_7 (by decide) (fun c_7 => ?_) (fun c_7 => ?_)
    · exact absurd hi_i (by omega)
    · refine lv_iload_n hx hb dX2_size_10 rfl (lv_at hl 1 rfl) ?_
      refine lv_iload_n hx hb dX2_size_11 rfl (lv_at hl 3 rfl) ?_
      refine lv_iload_n hx hb dX2_size_12 rfl (lv_at hl 0 rfl) ?_
      refine nv_bit hx hb hs (by omega) dX2_size_13 dX2_size_14 dX2_size_15 ?_
      refine nv_iadd hx hb dX2_size_16 ?_
      refine lv_istore_n (lv' := [(2, .int (nI (r + (bN s i)))), (3, .int (nI i)), (0, .ref (h 0)), (1, .int (nI s))]) hx hb dX2_size_17 rfl hl (by decide) rfl (fun ls hl => ?_)
      refine lv_iinc (v := nI (i + 1)) (lv' := [(3, .int (nI (i + 1))), (2, .int (nI (r + (bN s i)))), (0, .ref (h 0)), (1, .int (nI s))]) hx hb dX2_size_18 hl (k := 1) rfl (nI_1 _) (by decide) rfl (fun ls hl => ?_)
      refine lv_goto (tgt := 4) hx hb dX2_size_21 (by decide) ?_
      exact ih_i _ _ _ ⟨r + bN s i, by rw [e_r]; rfl, hP, hS, lv_sub hl [0, 1, 2, 3] rfl⟩
  · obtain ⟨r, e_r, hP, hS, hl⟩ := hI
    refine lv_iload_n hx hb dX2_size_4 rfl (lv_at hl 0 rfl) ?_
    refine lv_bipush (v := nI 7) hx hb dX2_size_5 (by decide) ?_
    refine nv_ge hx hb (by omega) (by decide) (tgt := 24) dX2_size_7 (by decide) (fun c_7 => ?_) (fun c_7 => ?_)
    · refine lv_iload_n hx hb dX2_size_24 rfl (lv_at hl 1 rfl) ?_
      exact xRO.ret hx hb hr rfl hlocks hS dX2_size_25 (by rw [e_r])
    · exact absurd c_7 (by omega)

set_option maxHeartbeats 4000000 in
set_option maxRecDepth 100000 in
theorem m_X2_havers {l : Launch} {D : va_G} {d z : ClassId} {h : Nat → Nat} {n m : Nat} {R : Nat → Nat} {cb pb : Nat → Bool} {cl ch : Nat → Nat} (hn : n ≤ 8) (hm : m ≤ 7) (hR : ∀ g, R g < 2 ^ m) {s : Nat} (hs : s < 2 ^ 31) : xRO l yX2_havers cX2_havers 4 (some .int) 1 22 D (tyX d z) (yw h d z n m R cb pb cl ch) [.ref (h 0), .int (nI s)] (fun r => r = nI (exR R s n)) := by
  refine xRO.of (by decide) (Nat.le_of_ble_eq_true rfl) ?_
  intro p e S M below meth c hB hK hP ls hl
  obtain ⟨hx, hb, hr, hml, hown, hlocks, hts⟩ := hB
  have hown : S.vm.findClass RX2 = some M.cls := hown
  have hS : va_S (frX S) S.heap S.heap [] := va_S.rf
  have hA : ∀ q : Nat, S.heap.size ≤ q → (frX S) q := fun _ h => h
  have hl : lv_has ls 4 [(0, .ref (h 0)), (1, .int (nI s))] := hl
  refine lv_iconst (v := nI 0) hx hb dX2_havers_0 (by decide) ?_
  refine lv_istore_n (lv' := [(2, .int (nI 0)), (0, .ref (h 0)), (1, .int (nI s))]) hx hb dX2_havers_1 rfl hl (by decide) rfl (fun ls hl => ?_)
  refine lv_iconst (v := nI 0) hx hb dX2_havers_2 (by decide) ?_
  refine lv_istore_n (lv' := [(3, .int (nI 0)), (2, .int (nI 0)), (0, .ref (h 0)), (1, .int (nI s))]) hx hb dX2_havers_3 rfl hl (by decide) rfl (fun ls hl => ?_)
  refine nv_loop (fun (i : Nat) (H : Heap) (locs : List Loc) (ls : Array Slot) => ∃ (r : Nat), r = exR R s i ∧ va_P D clX (yw h d z n m R cb pb cl ch) H ∧ va_S (frX S) S.heap H locs ∧ lv_has ls 4 [(3, .int (nI i)), (2, .int (nI r)), (0, .ref (h 0)), (1, .int (nI s))]) (n) (fun i H locs ls hi_i hI ih_i => ?_) (fun H locs ls hI => ?_) 0 (Nat.zero_le _) ⟨0, rfl, hP, hS, lv_sub hl [0, 1, 2, 3] rfl⟩
  · obtain ⟨r, e_r, hP, hS, hl⟩ := hI
    refine lv_iload_n hx hb dX2_havers_4 rfl (lv_at hl 0 rfl) ?_
    refine lv_aload_n hx hb dX2_havers_5 rfl (lv_at hl 2 rfl) ?_
    refine yg_n hx hb hts hown hK hP dX2_havers_6 ?_
    refine nv_ge hx hb (by omega) (by omega) (tgt := 44) dX2_havers_9 (by decide) (fun c_9 => ?_) (fun c_9 => ?_)
    · exact absurd hi_i (by omega)
    · refine lv_iload_n hx hb dX2_havers_12 rfl (lv_at hl 0 rfl) ?_
      refine lv_bipush (v := nI 8) hx hb dX2_havers_13 (by decide) ?_
      refine nv_ge hx hb (by omega) (by decide) (tgt := 44) dX2_havers_15 (by decide) (fun c_15 => ?_) (fun c_15 => ?_)
      · exact absurd hi_i (by omega)
      · refine lv_aload_n hx hb dX2_havers_18 rfl (lv_at hl 2 rfl) ?_
        refine lv_iload_n hx hb dX2_havers_19 rfl (lv_at hl 3 rfl) ?_
        refine lv_aload_n hx hb dX2_havers_20 rfl (lv_at hl 2 rfl) ?_
        refine yg_rows hx hb hts hown hK hP dX2_havers_21 ?_
        refine lv_iload_n hx hb dX2_havers_24 rfl (lv_at hl 0 rfl) ?_
        refine yl_rows hx hb hK hP (by omega) dX2_havers_25 ?_
        refine xRO.call (m_X2_part hs (set_lt hm (hR i))) ⟨hx, hb, hml, hown, hts⟩ (cwV 2 hts (lw_V q278 q280 qs17 q28 q281) rfl rfl rfl (by decide +kernel) ⟨Nat.le_of_ble_eq_true rfl, Nat.le_of_ble_eq_true rfl⟩) hK hP (y_rc hK hP) hS hA hl.1 rfl rfl (Nat.le_of_ble_eq_true rfl) ⟨Nat.zero_le _, Nat.zero_le _⟩ dX2_havers_26 (fun r_ H locs hr_ hT hS => ?_)
        have hP := hT _ hP
        subst hr_
        refine nv_eqB hx hb (tgt := 38) dX2_havers_29 (by decide) (fun c_29 => ?_) (fun c_29 => ?_)
        · refine lv_iinc (v := nI (i + 1)) (lv' := [(3, .int (nI (i + 1))), (2, .int (nI r)), (0, .ref (h 0)), (1, .int (nI s))]) hx hb dX2_havers_38 hl (k := 0) rfl (nI_1 _) (by decide) rfl (fun ls hl => ?_)
          refine lv_goto (tgt := 4) hx hb dX2_havers_41 (by decide) ?_
          exact ih_i _ _ _ ⟨r, by rw [e_r]; exact exR_0 (beq_f c_29), hP, hS, lv_sub hl [0, 1, 2, 3] rfl⟩
        · refine lv_iload_n hx hb dX2_havers_32 rfl (lv_at hl 1 rfl) ?_
          refine lv_iconst (v := nI 1) hx hb dX2_havers_33 (by decide) ?_
          refine lv_iload_n hx hb dX2_havers_34 rfl (lv_at hl 0 rfl) ?_
          refine nv_ishl hx hb (by omega) dX2_havers_35 ?_
          refine nv_ior hx hb dX2_havers_36 ?_
          refine lv_istore_n (lv' := [(2, .int (nI (r ||| (2 ^ i)))), (3, .int (nI i)), (0, .ref (h 0)), (1, .int (nI s))]) hx hb dX2_havers_37 rfl hl (by decide) rfl (fun ls hl => ?_)
          refine lv_iinc (v := nI (i + 1)) (lv' := [(3, .int (nI (i + 1))), (2, .int (nI (r ||| (2 ^ i)))), (0, .ref (h 0)), (1, .int (nI s))]) hx hb dX2_havers_38 hl (k := 1) rfl (nI_1 _) (by decide) rfl (fun ls hl => ?_)
          refine lv_goto (tgt := 4) hx hb dX2_havers_41 (by decide) ?_
          exact ih_i _ _ _ ⟨r ||| 2 ^ i, by rw [e_r]; exact exR_1 (beq_t c_29), hP, hS, lv_sub hl [0, 1, 2, 3] rfl⟩
  · obtain ⟨r, e_r, hP, hS, hl⟩ := hI
    refine lv_iload_n hx hb dX2_havers_4 rfl (lv_at hl 0 rfl) ?_
    refine lv_aload_n hx hb dX2_havers_5 rfl (lv_at hl 2 rfl) ?_
    refine yg_n hx hb hts hown hK hP dX2_havers_6 ?_
    refine nv_ge hx hb (by omega) (by omega) (tgt := 44) dX2_havers_9 (by decide) (fun c_9 => ?_) (fun c_9 => ?_)
    · refine lv_iload_n hx hb dX2_havers_44 rfl (lv_at hl 1 rfl) ?_
      exact xRO.ret hx hb hr rfl hlocks hS dX2_havers_45 (by rw [e_r])
    · exact absurd c_9 (by omega)

set_option maxHeartbeats 4000000 in
set_option maxRecDepth 100000 in
theorem m_X2_shared {l : Launch} {D : va_G} {d z : ClassId} {h : Nat → Nat} {n m : Nat} {R : Nat → Nat} {cb pb : Nat → Bool} {cl ch : Nat → Nat} (hn : n ≤ 8) (hm : m ≤ 7) {s : Nat} (hs : s < 2 ^ 31) : xRO l yX2_shared cX2_shared 4 (some .int) 0 0 D (tyX d z) (yw h d z n m R cb pb cl ch) [.ref (h 0), .int (nI s)] (fun r => r = nI (inR R m s n)) := by
  refine xRO.of (by decide) (Nat.le_of_ble_eq_true rfl) ?_
  intro p e S M below meth c hB hK hP ls hl
  obtain ⟨hx, hb, hr, hml, hown, hlocks, hts⟩ := hB
  have hown : S.vm.findClass RX2 = some M.cls := hown
  have hS : va_S (frX S) S.heap S.heap [] := va_S.rf
  have hA : ∀ q : Nat, S.heap.size ≤ q → (frX S) q := fun _ h => h
  have hl : lv_has ls 4 [(0, .ref (h 0)), (1, .int (nI s))] := hl
  refine lv_aload_n hx hb dX2_shared_0 rfl (lv_at hl 0 rfl) ?_
  refine yg_all hx hb hts hown hK hP dX2_shared_1 ?_
  refine lv_istore_n (lv' := [(2, .int (nI (2 ^ m - 1))), (0, .ref (h 0)), (1, .int (nI s))]) hx hb dX2_shared_4 rfl hl (by decide) rfl (fun ls hl => ?_)
  refine lv_iconst (v := nI 0) hx hb dX2_shared_5 (by decide) ?_
  refine lv_istore_n (lv' := [(3, .int (nI 0)), (2, .int (nI (2 ^ m - 1))), (0, .ref (h 0)), (1, .int (nI s))]) hx hb dX2_shared_6 rfl hl (by decide) rfl (fun ls hl => ?_)
  refine nv_loop (fun (i : Nat) (H : Heap) (locs : List Loc) (ls : Array Slot) => ∃ (r : Nat), r = inR R m s i ∧ va_P D clX (yw h d z n m R cb pb cl ch) H ∧ va_S (frX S) S.heap H locs ∧ lv_has ls 4 [(3, .int (nI i)), (2, .int (nI r)), (0, .ref (h 0)), (1, .int (nI s))]) (n) (fun i H locs ls hi_i hI ih_i => ?_) (fun H locs ls hI => ?_) 0 (Nat.zero_le _) ⟨2 ^ m - 1, rfl, hP, hS, lv_sub hl [0, 1, 2, 3] rfl⟩
  · obtain ⟨r, e_r, hP, hS, hl⟩ := hI
    refine lv_iload_n hx hb dX2_shared_7 rfl (lv_at hl 0 rfl) ?_
    refine lv_aload_n hx hb dX2_shared_8 rfl (lv_at hl 2 rfl) ?_
    refine yg_n hx hb hts hown hK hP dX2_shared_9 ?_
    refine nv_ge hx hb (by omega) (by omega) (tgt := 45) dX2_shared_12 (by decide) (fun c_12 => ?_) (fun c_12 => ?_)
    · exact absurd hi_i (by omega)
    · refine lv_iload_n hx hb dX2_shared_15 rfl (lv_at hl 0 rfl) ?_
      refine lv_bipush (v := nI 8) hx hb dX2_shared_16 (by decide) ?_
      refine nv_ge hx hb (by omega) (by decide) (tgt := 45) dX2_shared_18 (by decide) (fun c_18 => ?_) (fun c_18 => ?_)
      · exact absurd hi_i (by omega)
      · refine lv_iload_n hx hb dX2_shared_21 rfl (lv_at hl 3 rfl) ?_
        refine lv_iload_n hx hb dX2_shared_22 rfl (lv_at hl 0 rfl) ?_
        refine nv_bit hx hb hs (by omega) dX2_shared_23 dX2_shared_24 dX2_shared_25 ?_
        refine lv_iconst (v := nI 1) hx hb dX2_shared_26 (by decide) ?_
        refine nv_ne hx hb (bN_lt _ _) (by decide) (tgt := 39) dX2_shared_27 (by decide) (fun c_27 => ?_) (fun c_27 => ?_)
        · refine lv_iinc (v := nI (i + 1)) (lv' := [(3, .int (nI (i + 1))), (2, .int (nI r)), (0, .ref (h 0)), (1, .int (nI s))]) hx hb dX2_shared_39 hl (k := 0) rfl (nI_1 _) (by decide) rfl (fun ls hl => ?_)
          refine lv_goto (tgt := 7) hx hb dX2_shared_42 (by decide) ?_
          exact ih_i _ _ _ ⟨r, by rw [e_r]; exact inR_0 c_27, hP, hS, lv_sub hl [0, 1, 2, 3] rfl⟩
        · refine lv_iload_n hx hb dX2_shared_30 rfl (lv_at hl 1 rfl) ?_
          refine lv_aload_n hx hb dX2_shared_31 rfl (lv_at hl 2 rfl) ?_
          refine yg_rows hx hb hts hown hK hP dX2_shared_32 ?_
          refine lv_iload_n hx hb dX2_shared_35 rfl (lv_at hl 0 rfl) ?_
          refine yl_rows hx hb hK hP (by omega) dX2_shared_36 ?_
          refine nv_iand hx hb dX2_shared_37 ?_
          refine lv_istore_n (lv' := [(2, .int (nI (r &&& (R i)))), (3, .int (nI i)), (0, .ref (h 0)), (1, .int (nI s))]) hx hb dX2_shared_38 rfl hl (by decide) rfl (fun ls hl => ?_)
          refine lv_iinc (v := nI (i + 1)) (lv' := [(3, .int (nI (i + 1))), (2, .int (nI (r &&& (R i)))), (0, .ref (h 0)), (1, .int (nI s))]) hx hb dX2_shared_39 hl (k := 1) rfl (nI_1 _) (by decide) rfl (fun ls hl => ?_)
          refine lv_goto (tgt := 7) hx hb dX2_shared_42 (by decide) ?_
          exact ih_i _ _ _ ⟨r &&& R i, by rw [e_r]; exact inR_1 c_27, hP, hS, lv_sub hl [0, 1, 2, 3] rfl⟩
  · obtain ⟨r, e_r, hP, hS, hl⟩ := hI
    refine lv_iload_n hx hb dX2_shared_7 rfl (lv_at hl 0 rfl) ?_
    refine lv_aload_n hx hb dX2_shared_8 rfl (lv_at hl 2 rfl) ?_
    refine yg_n hx hb hts hown hK hP dX2_shared_9 ?_
    refine nv_ge hx hb (by omega) (by omega) (tgt := 45) dX2_shared_12 (by decide) (fun c_12 => ?_) (fun c_12 => ?_)
    · refine lv_iload_n hx hb dX2_shared_45 rfl (lv_at hl 1 rfl) ?_
      exact xRO.ret hx hb hr rfl hlocks hS dX2_shared_46 (by rw [e_r])
    · exact absurd c_12 (by omega)

set_option maxHeartbeats 4000000 in
set_option maxRecDepth 100000 in
theorem m_X2_closureOf {l : Launch} {D : va_G} {d z : ClassId} {h : Nat → Nat} {n m : Nat} {R : Nat → Nat} {cb pb : Nat → Bool} {cl ch : Nat → Nat} (hn : n ≤ 8) (hm : m ≤ 7) (hR : ∀ g, R g < 2 ^ m) {s : Nat} (hs : s < 2 ^ m) : xRO l yX2_closureOf cX2_closureOf 3 (some .int) 2 45 D (tyX d z) (yw h d z n m R cb pb cl ch) [.ref (h 0), .int (nI s)] (fun r => r = nI (clo n m R s)) := by
  refine xRO.of (by decide) (Nat.le_of_ble_eq_true rfl) ?_
  intro p e S M below meth c hB hK hP ls hl
  obtain ⟨hx, hb, hr, hml, hown, hlocks, hts⟩ := hB
  have hown : S.vm.findClass RX2 = some M.cls := hown
  have hS : va_S (frX S) S.heap S.heap [] := va_S.rf
  have hA : ∀ q : Nat, S.heap.size ≤ q → (frX S) q := fun _ h => h
  have hl : lv_has ls 3 [(0, .ref (h 0)), (1, .int (nI s))] := hl
  refine lv_aload_n hx hb dX2_closureOf_0 rfl (lv_at hl 0 rfl) ?_
  refine lv_iload_n hx hb dX2_closureOf_1 rfl (lv_at hl 1 rfl) ?_
  refine xRO.call (m_X2_havers hn hm hR (set_lt hm hs)) ⟨hx, hb, hml, hown, hts⟩ (cwV 1 hts (lw_V q274 q276 qs16 q28 q277) rfl rfl rfl (by decide +kernel) ⟨Nat.le_of_ble_eq_true rfl, Nat.le_of_ble_eq_true rfl⟩) hK hP (y_rc hK hP) hS hA hl.1 rfl rfl (Nat.le_of_ble_eq_true rfl) ⟨Nat.zero_le _, Nat.zero_le _⟩ dX2_closureOf_2 (fun r_ H locs hr_ hT hS => ?_)
  have hP := hT _ hP
  subst hr_
  refine lv_istore_n (lv' := [(2, .int (nI (exR R s n))), (0, .ref (h 0)), (1, .int (nI s))]) hx hb dX2_closureOf_5 rfl hl (by decide) rfl (fun ls hl => ?_)
  refine lv_aload_n hx hb dX2_closureOf_6 rfl (lv_at hl 1 rfl) ?_
  refine lv_iload_n hx hb dX2_closureOf_7 rfl (lv_at hl 0 rfl) ?_
  refine xRO.call (m_X2_shared hn hm (ext_lt hn (exR_lt R s n))) ⟨hx, hb, hml, hown, hts⟩ (cwV 1 hts (lw_V q286 q288 qs18 q28 q289) rfl rfl rfl (by decide +kernel) ⟨Nat.le_of_ble_eq_true rfl, Nat.le_of_ble_eq_true rfl⟩) hK hP (y_rc hK hP) hS hA hl.1 rfl rfl (Nat.le_of_ble_eq_true rfl) ⟨Nat.zero_le _, Nat.zero_le _⟩ dX2_closureOf_8 (fun r_ H locs hr_ hT hS => ?_)
  have hP := hT _ hP
  subst hr_
  exact xRO.ret hx hb hr rfl hlocks hS dX2_closureOf_11 rfl

set_option maxHeartbeats 4000000 in
set_option maxRecDepth 100000 in
theorem m_X2_isPseudo {l : Launch} {D : va_G} {d z : ClassId} {h : Nat → Nat} {n m : Nat} {R : Nat → Nat} {cb pb : Nat → Bool} {cl ch : Nat → Nat} (hm : m ≤ 7) {s : Nat} (hs : s < 2 ^ m) (hcb : cb s = isC (clo n m R) s) (hpb : ∀ q, q < s → pb q = isP (clo n m R) q) (hcl : ∀ q, q < s → cl q = clo n m R q) : xRO l yX2_isPseudo cX2_isPseudo 3 (some .boolean) 2 44 D (tyX d z) (yw h d z n m R cb pb cl ch) [.ref (h 0), .int (nI s)] (fun r => r = nI (isP (clo n m R) s).toNat) := by
  refine xRO.of (by decide) (Nat.le_of_ble_eq_true rfl) ?_
  intro p e S M below meth c hB hK hP ls hl
  obtain ⟨hx, hb, hr, hml, hown, hlocks, hts⟩ := hB
  have hown : S.vm.findClass RX2 = some M.cls := hown
  have hS : va_S (frX S) S.heap S.heap [] := va_S.rf
  have hA : ∀ q : Nat, S.heap.size ≤ q → (frX S) q := fun _ h => h
  have hl : lv_has ls 3 [(0, .ref (h 0)), (1, .int (nI s))] := hl
  refine lv_aload_n hx hb dX2_isPseudo_0 rfl (lv_at hl 0 rfl) ?_
  refine yg_closed hx hb hts hown hK hP dX2_isPseudo_1 ?_
  refine lv_iload_n hx hb dX2_isPseudo_4 rfl (lv_at hl 1 rfl) ?_
  refine yl_closed hx hb hK hP (by have := p7 hm; omega) dX2_isPseudo_5 ?_
  rw [hcb]
  refine nv_eqB hx hb (tgt := 11) dX2_isPseudo_6 (by decide) (fun c_6 => ?_) (fun c_6 => ?_)
  · refine lv_iconst (v := nI 0) hx hb dX2_isPseudo_11 (by decide) ?_
    refine lv_istore_n (lv' := [(2, .int (nI 0)), (0, .ref (h 0)), (1, .int (nI s))]) hx hb dX2_isPseudo_12 rfl hl (by decide) rfl (fun ls hl => ?_)
    refine nv_loop (fun (i : Nat) (H : Heap) (locs : List Loc) (ls : Array Slot) => (∀ q, q < i → isP (clo n m R) q = true → ssb q s → ssb (clo n m R q) s) ∧ va_P D clX (yw h d z n m R cb pb cl ch) H ∧ va_S (frX S) S.heap H locs ∧ lv_has ls 3 [(2, .int (nI i)), (0, .ref (h 0)), (1, .int (nI s))]) (s) (fun i H locs ls hi_i hI ih_i => ?_) (fun H locs ls hI => ?_) 0 (Nat.zero_le _) ⟨fun q hq => absurd hq (by omega), hP, hS, lv_sub hl [0, 1, 2] rfl⟩
    · obtain ⟨h_q, hP, hS, hl⟩ := hI
      refine lv_iload_n hx hb dX2_isPseudo_13 rfl (lv_at hl 0 rfl) ?_
      refine lv_iload_n hx hb dX2_isPseudo_14 rfl (lv_at hl 2 rfl) ?_
      refine nv_ge hx hb (by have := p7 hm; omega) (set_lt hm hs) (tgt := 58) dX2_isPseudo_15 (by decide) (fun c_15 => ?_) (fun c_15 => ?_)
      · exact absurd hi_i (by omega)
      · refine lv_aload_n hx hb dX2_isPseudo_18 rfl (lv_at hl 1 rfl) ?_
        refine yg_pseudo hx hb hts hown hK hP dX2_isPseudo_19 ?_
        refine lv_iload_n hx hb dX2_isPseudo_22 rfl (lv_at hl 0 rfl) ?_
        refine yl_pseudo hx hb hK hP (by have := p7 hm; omega) dX2_isPseudo_23 ?_
        rw [hpb i hi_i]
        refine nv_eqB hx hb (tgt := 52) dX2_isPseudo_24 (by decide) (fun c_24 => ?_) (fun c_24 => ?_)
        · refine lv_iinc (v := nI (i + 1)) (lv' := [(2, .int (nI (i + 1))), (0, .ref (h 0)), (1, .int (nI s))]) hx hb dX2_isPseudo_52 hl (k := 0) rfl (nI_1 _) (by decide) rfl (fun ls hl => ?_)
          refine lv_goto (tgt := 13) hx hb dX2_isPseudo_55 (by decide) ?_
          exact ih_i _ _ _ ⟨lt_s h_q (fun z => absurd (c_24.symm.trans z) (by decide)), hP, hS, lv_sub hl [0, 1, 2] rfl⟩
        · refine lv_aload_n hx hb dX2_isPseudo_27 rfl (lv_at hl 1 rfl) ?_
          refine lv_iload_n hx hb dX2_isPseudo_28 rfl (lv_at hl 0 rfl) ?_
          refine lv_iload_n hx hb dX2_isPseudo_29 rfl (lv_at hl 2 rfl) ?_
          refine xRO.call (m_X2_proper (show i < 2 ^ 31 by have := p7 hm; omega) (set_lt hm hs)) ⟨hx, hb, hml, hown, hts⟩ (cwV 2 hts (lw_V q310 q312 qs22 q28 q313) rfl rfl rfl (by decide +kernel) ⟨Nat.le_of_ble_eq_true rfl, Nat.le_of_ble_eq_true rfl⟩) hK hP (y_rc hK hP) hS hA hl.1 rfl rfl (Nat.le_of_ble_eq_true rfl) ⟨Nat.zero_le _, Nat.zero_le _⟩ dX2_isPseudo_30 (fun r_ H locs hr_ hT hS => ?_)
          have hP := hT _ hP
          subst hr_
          refine nv_eqB hx hb (tgt := 52) dX2_isPseudo_33 (by decide) (fun c_33 => ?_) (fun c_33 => ?_)
          · refine lv_iinc (v := nI (i + 1)) (lv' := [(2, .int (nI (i + 1))), (0, .ref (h 0)), (1, .int (nI s))]) hx hb dX2_isPseudo_52 hl (k := 0) rfl (nI_1 _) (by decide) rfl (fun ls hl => ?_)
            refine lv_goto (tgt := 13) hx hb dX2_isPseudo_55 (by decide) ?_
            exact ih_i _ _ _ ⟨lt_s h_q (fun _ z => absurd ⟨by omega, z⟩ (prp_nf c_33)), hP, hS, lv_sub hl [0, 1, 2] rfl⟩
          · refine lv_aload_n hx hb dX2_isPseudo_36 rfl (lv_at hl 1 rfl) ?_
            refine lv_aload_n hx hb dX2_isPseudo_37 rfl (lv_at hl 1 rfl) ?_
            refine yg_closures hx hb hts hown hK hP dX2_isPseudo_38 ?_
            refine lv_iload_n hx hb dX2_isPseudo_41 rfl (lv_at hl 0 rfl) ?_
            refine yl_closures hx hb hK hP (by have := p7 hm; omega) dX2_isPseudo_42 ?_
            rw [hcl i hi_i]
            refine lv_iload_n hx hb dX2_isPseudo_43 rfl (lv_at hl 2 rfl) ?_
            refine xRO.call (m_X2_part (set_lt hm ((clo_op n m R).1 i (by omega))) (set_lt hm hs)) ⟨hx, hb, hml, hown, hts⟩ (cwV 2 hts (lw_V q278 q280 qs17 q28 q281) rfl rfl rfl (by decide +kernel) ⟨Nat.le_of_ble_eq_true rfl, Nat.le_of_ble_eq_true rfl⟩) hK hP (y_rc hK hP) hS hA hl.1 rfl rfl (Nat.le_of_ble_eq_true rfl) ⟨Nat.zero_le _, Nat.zero_le _⟩ dX2_isPseudo_44 (fun r_ H locs hr_ hT hS => ?_)
            have hP := hT _ hP
            subst hr_
            refine nv_neB hx hb (tgt := 52) dX2_isPseudo_47 (by decide) (fun c_47 => ?_) (fun c_47 => ?_)
            · refine lv_iinc (v := nI (i + 1)) (lv' := [(2, .int (nI (i + 1))), (0, .ref (h 0)), (1, .int (nI s))]) hx hb dX2_isPseudo_52 hl (k := 0) rfl (nI_1 _) (by decide) rfl (fun ls hl => ?_)
              refine lv_goto (tgt := 13) hx hb dX2_isPseudo_55 (by decide) ?_
              exact ih_i _ _ _ ⟨lt_s h_q (fun _ _ => beq_t c_47), hP, hS, lv_sub hl [0, 1, 2] rfl⟩
            · refine lv_iconst (v := nI 0) hx hb dX2_isPseudo_50 (by decide) ?_
              exact xRO.ret hx hb hr (by decide) hlocks hS dX2_isPseudo_51 (by rw [isP_n hi_i c_24 (prp_of c_33) c_47]; rfl)
    · obtain ⟨h_q, hP, hS, hl⟩ := hI
      refine lv_iload_n hx hb dX2_isPseudo_13 rfl (lv_at hl 0 rfl) ?_
      refine lv_iload_n hx hb dX2_isPseudo_14 rfl (lv_at hl 2 rfl) ?_
      refine nv_ge hx hb (by have := p7 hm; omega) (set_lt hm hs) (tgt := 58) dX2_isPseudo_15 (by decide) (fun c_15 => ?_) (fun c_15 => ?_)
      · refine lv_iconst (v := nI 1) hx hb dX2_isPseudo_58 (by decide) ?_
        exact xRO.ret hx hb hr (by decide) hlocks hS dX2_isPseudo_59 (by rw [isP_y c_6 h_q]; rfl)
      · exact absurd c_15 (by omega)
  · refine lv_iconst (v := nI 0) hx hb dX2_isPseudo_9 (by decide) ?_
    exact xRO.ret hx hb hr (by decide) hlocks hS dX2_isPseudo_10 (by rw [isP_no (isC_t.mp c_6)]; rfl)

set_option maxHeartbeats 4000000 in
set_option maxRecDepth 100000 in
theorem m_X2_tabulate {l : Launch} {D : va_G} {d z : ClassId} {h : Nat → Nat} {n m : Nat} {R : Nat → Nat} {cb pb : Nat → Bool} {cl ch : Nat → Nat} (hn : n ≤ 8) (hm : m ≤ 7) (hR : ∀ g, R g < 2 ^ m) : xRV ((Nat → Bool) × (Nat → Bool) × (Nat → Nat)) l yX2_tabulate cX2_tabulate 2 3 67 D (tyX d z) (yw h d z n m R cb pb cl ch) [.ref (h 0)] (fun u => Tab n m R (2 ^ m) u.1 u.2.1 u.2.2) (fun u => yw h d z n m R u.1 u.2.1 u.2.2 ch) := by
  refine xRV.of (by decide) (Nat.le_of_ble_eq_true rfl) ?_
  intro p e S M below meth c hB hK hP hD ls hl
  obtain ⟨hx, hb, hr, hml, hown, hlocks, hts⟩ := hB
  have hown : S.vm.findClass RX2 = some M.cls := hown
  have hS : va_S (va_A (yw h d z n m R cb pb cl ch) S.heap.size) S.heap S.heap [] := va_S.rf
  have hA : ∀ q : Nat, S.heap.size ≤ q → (va_A (yw h d z n m R cb pb cl ch) S.heap.size) q := fun _ h => Or.inr h
  have hl : lv_has ls 2 [(0, .ref (h 0))] := hl
  refine lv_iconst (v := nI 0) hx hb dX2_tabulate_0 (by decide) ?_
  refine lv_istore_n (lv' := [(1, .int (nI 0)), (0, .ref (h 0))]) hx hb dX2_tabulate_1 rfl hl (by decide) rfl (fun ls hl => ?_)
  refine nv_loop (fun (i : Nat) (H : Heap) (locs : List Loc) (ls : Array Slot) => ∃ (cb1 : Nat → Bool), ∃ (pb1 : Nat → Bool), ∃ (cl1 : Nat → Nat), Tab n m R i cb1 pb1 cl1 ∧ va_P D clX (yw h d z n m R cb1 pb1 cl1 ch) H ∧ va_D (va_A (yw h d z n m R cb pb cl ch) S.heap.size) (yw h d z n m R cb1 pb1 cl1 ch) ∧ va_S (va_A (yw h d z n m R cb pb cl ch) S.heap.size) S.heap H locs ∧ lv_has ls 2 [(1, .int (nI i)), (0, .ref (h 0))]) (2 ^ m) (fun i H locs ls hi_i hI ih_i => ?_) (fun H locs ls hI => ?_) 0 (Nat.zero_le _) ⟨cb, pb, cl, fun s hs => absurd hs (by omega), hP, hD, hS, lv_sub hl [0, 1] rfl⟩
  · obtain ⟨cb1, pb1, cl1, h_T, hP, hD, hS, hl⟩ := hI
    refine lv_iload_n hx hb dX2_tabulate_2 rfl (lv_at hl 0 rfl) ?_
    refine lv_aload_n hx hb dX2_tabulate_3 rfl (lv_at hl 1 rfl) ?_
    refine yg_all hx hb hts hown hK hP dX2_tabulate_4 ?_
    refine nv_gt hx hb (set_lt hm hi_i) (all_lt hm) (tgt := 66) dX2_tabulate_7 (by decide) (fun c_7 => ?_) (fun c_7 => ?_)
    · exact absurd hi_i (by have := pw_1 m; omega)
    · refine lv_iload_n hx hb dX2_tabulate_10 rfl (lv_at hl 0 rfl) ?_
      refine lv_sipush (v := nI 128) hx hb dX2_tabulate_11 (by decide) ?_
      refine nv_ge hx hb (set_lt hm hi_i) (by decide) (tgt := 66) dX2_tabulate_14 (by decide) (fun c_14 => ?_) (fun c_14 => ?_)
      · exact absurd hi_i (by have := p7 hm; omega)
      · refine lv_aload_n hx hb dX2_tabulate_17 rfl (lv_at hl 1 rfl) ?_
        refine yg_closures hx hb hts hown hK hP dX2_tabulate_18 ?_
        refine lv_iload_n hx hb dX2_tabulate_21 rfl (lv_at hl 0 rfl) ?_
        refine lv_aload_n hx hb dX2_tabulate_22 rfl (lv_at hl 1 rfl) ?_
        refine lv_iload_n hx hb dX2_tabulate_23 rfl (lv_at hl 0 rfl) ?_
        refine xRO.call (m_X2_closureOf hn hm hR hi_i) ⟨hx, hb, hml, hown, hts⟩ (cwV 1 hts (lw_V q294 q296 qs19 q28 q297) rfl rfl rfl (by decide +kernel) ⟨Nat.le_of_ble_eq_true rfl, Nat.le_of_ble_eq_true rfl⟩) hK hP (y_rc hK hP) hS hA hl.1 rfl rfl (Nat.le_of_ble_eq_true rfl) ⟨Nat.zero_le _, Nat.zero_le _⟩ dX2_tabulate_24 (fun r_ H locs hr_ hT hS => ?_)
        have hP := hT _ hP
        subst hr_
        refine ys_closures hx hb hK hP hD hS (by have := p7 hm; omega) dX2_tabulate_27 (fun H locs hP hD hS => ?_)
        refine lv_aload_n hx hb dX2_tabulate_28 rfl (lv_at hl 1 rfl) ?_
        refine yg_closed hx hb hts hown hK hP dX2_tabulate_29 ?_
        refine lv_iload_n hx hb dX2_tabulate_32 rfl (lv_at hl 0 rfl) ?_
        refine lv_aload_n hx hb dX2_tabulate_33 rfl (lv_at hl 1 rfl) ?_
        refine yg_closures hx hb hts hown hK hP dX2_tabulate_34 ?_
        refine lv_iload_n hx hb dX2_tabulate_37 rfl (lv_at hl 0 rfl) ?_
        refine yl_closures hx hb hK hP (by have := p7 hm; omega) dX2_tabulate_38 ?_
        rw [un_s]
        refine lv_iload_n hx hb dX2_tabulate_39 rfl (lv_at hl 0 rfl) ?_
        refine nv_ne hx hb (set_lt hm ((clo_op n m R).1 i hi_i)) (set_lt hm hi_i) (tgt := 47) dX2_tabulate_40 (by decide) (fun c_40 => ?_) (fun c_40 => ?_)
        · refine lv_iconst (v := nI 0) hx hb dX2_tabulate_47 (by decide) ?_
          refine ys_closed (v := false) hx hb hK hP hD hS (by have := p7 hm; omega) dX2_tabulate_48 (fun H locs hP hD hS => ?_)
          have h_B : isC (clo n m R) i = false := isC_f.mpr c_40
          refine lv_aload_n hx hb dX2_tabulate_49 rfl (lv_at hl 1 rfl) ?_
          refine yg_pseudo hx hb hts hown hK hP dX2_tabulate_50 ?_
          refine lv_iload_n hx hb dX2_tabulate_53 rfl (lv_at hl 0 rfl) ?_
          refine lv_aload_n hx hb dX2_tabulate_54 rfl (lv_at hl 1 rfl) ?_
          refine lv_iload_n hx hb dX2_tabulate_55 rfl (lv_at hl 0 rfl) ?_
          refine xRO.call (m_X2_isPseudo hm hi_i (by rw [un_s, h_B]) (fun q hq => h_T.p hq) (fun q hq => by rw [un_n (by omega)]; exact h_T.l hq)) ⟨hx, hb, hml, hown, hts⟩ (cwV 1 hts (lw_V q306 q308 qs21 q28 q309) rfl rfl rfl (by decide +kernel) ⟨Nat.le_of_ble_eq_true rfl, Nat.le_of_ble_eq_true rfl⟩) hK hP (y_rc hK hP) hS hA hl.1 rfl rfl (Nat.le_of_ble_eq_true rfl) ⟨Nat.zero_le _, Nat.zero_le _⟩ dX2_tabulate_56 (fun r_ H locs hr_ hT hS => ?_)
          have hP := hT _ hP
          subst hr_
          refine ys_pseudo hx hb hK hP hD hS (by have := p7 hm; omega) dX2_tabulate_59 (fun H locs hP hD hS => ?_)
          refine lv_iinc (v := nI (i + 1)) (lv' := [(1, .int (nI (i + 1))), (0, .ref (h 0))]) hx hb dX2_tabulate_60 hl (k := 0) rfl (nI_1 _) (by decide) rfl (fun ls hl => ?_)
          refine lv_goto (tgt := 2) hx hb dX2_tabulate_63 (by decide) ?_
          exact ih_i _ _ _ ⟨(un cb1 i false), (un pb1 i (isP (clo n m R) i)), (un cl1 i (clo n m R i)), h_T.push h_B, hP, hD, hS, lv_sub hl [0, 1] rfl⟩
        · refine lv_iconst (v := nI 1) hx hb dX2_tabulate_43 (by decide) ?_
          refine lv_goto (tgt := 48) hx hb dX2_tabulate_44 (by decide) ?_
          refine ys_closed (v := true) hx hb hK hP hD hS (by have := p7 hm; omega) dX2_tabulate_48 (fun H locs hP hD hS => ?_)
          have h_B : isC (clo n m R) i = true := isC_t.mpr c_40
          refine lv_aload_n hx hb dX2_tabulate_49 rfl (lv_at hl 1 rfl) ?_
          refine yg_pseudo hx hb hts hown hK hP dX2_tabulate_50 ?_
          refine lv_iload_n hx hb dX2_tabulate_53 rfl (lv_at hl 0 rfl) ?_
          refine lv_aload_n hx hb dX2_tabulate_54 rfl (lv_at hl 1 rfl) ?_
          refine lv_iload_n hx hb dX2_tabulate_55 rfl (lv_at hl 0 rfl) ?_
          refine xRO.call (m_X2_isPseudo hm hi_i (by rw [un_s, h_B]) (fun q hq => h_T.p hq) (fun q hq => by rw [un_n (by omega)]; exact h_T.l hq)) ⟨hx, hb, hml, hown, hts⟩ (cwV 1 hts (lw_V q306 q308 qs21 q28 q309) rfl rfl rfl (by decide +kernel) ⟨Nat.le_of_ble_eq_true rfl, Nat.le_of_ble_eq_true rfl⟩) hK hP (y_rc hK hP) hS hA hl.1 rfl rfl (Nat.le_of_ble_eq_true rfl) ⟨Nat.zero_le _, Nat.zero_le _⟩ dX2_tabulate_56 (fun r_ H locs hr_ hT hS => ?_)
          have hP := hT _ hP
          subst hr_
          refine ys_pseudo hx hb hK hP hD hS (by have := p7 hm; omega) dX2_tabulate_59 (fun H locs hP hD hS => ?_)
          refine lv_iinc (v := nI (i + 1)) (lv' := [(1, .int (nI (i + 1))), (0, .ref (h 0))]) hx hb dX2_tabulate_60 hl (k := 0) rfl (nI_1 _) (by decide) rfl (fun ls hl => ?_)
          refine lv_goto (tgt := 2) hx hb dX2_tabulate_63 (by decide) ?_
          exact ih_i _ _ _ ⟨(un cb1 i true), (un pb1 i (isP (clo n m R) i)), (un cl1 i (clo n m R i)), h_T.push h_B, hP, hD, hS, lv_sub hl [0, 1] rfl⟩
  · obtain ⟨cb1, pb1, cl1, h_T, hP, hD, hS, hl⟩ := hI
    refine lv_iload_n hx hb dX2_tabulate_2 rfl (lv_at hl 0 rfl) ?_
    refine lv_aload_n hx hb dX2_tabulate_3 rfl (lv_at hl 1 rfl) ?_
    refine yg_all hx hb hts hown hK hP dX2_tabulate_4 ?_
    refine nv_gt hx hb (pow_lt hm) (all_lt hm) (tgt := 66) dX2_tabulate_7 (by decide) (fun c_7 => ?_) (fun c_7 => ?_)
    · exact xRV.ret hx hb hr hlocks hS dX2_tabulate_66 (cb1, pb1, cl1) h_T hP hD
    · exact absurd c_7 (by have := pw_1 m; omega)
end
section
/-! ConceptLatticeModel: the methods that change nothing -/

set_option maxHeartbeats 4000000 in
set_option maxRecDepth 100000 in
theorem m_X2_objects {l : Launch} {D : va_G} {d z : ClassId} {h : Nat → Nat} {n m : Nat} {R : Nat → Nat} {cb pb : Nat → Bool} {cl ch : Nat → Nat}  : xRO l yX2_objects cX2_objects 1 (some .int) 0 0 D (tyX d z) (yw h d z n m R cb pb cl ch) [.ref (h 0)] (fun r => r = nI n) := by
  refine xRO.of (by decide) (Nat.le_of_ble_eq_true rfl) ?_
  intro p e S M below meth c hB hK hP ls hl
  obtain ⟨hx, hb, hr, hml, hown, hlocks, hts⟩ := hB
  have hown : S.vm.findClass RX2 = some M.cls := hown
  have hS : va_S (frX S) S.heap S.heap [] := va_S.rf
  have hA : ∀ q : Nat, S.heap.size ≤ q → (frX S) q := fun _ h => h
  have hl : lv_has ls 1 [(0, .ref (h 0))] := hl
  refine lv_aload_n hx hb dX2_objects_0 rfl (lv_at hl 0 rfl) ?_
  refine yg_n hx hb hts hown hK hP dX2_objects_1 ?_
  exact xRO.ret hx hb hr rfl hlocks hS dX2_objects_4 rfl

set_option maxHeartbeats 4000000 in
set_option maxRecDepth 100000 in
theorem m_X2_attributes {l : Launch} {D : va_G} {d z : ClassId} {h : Nat → Nat} {n m : Nat} {R : Nat → Nat} {cb pb : Nat → Bool} {cl ch : Nat → Nat}  : xRO l yX2_attributes cX2_attributes 1 (some .int) 0 0 D (tyX d z) (yw h d z n m R cb pb cl ch) [.ref (h 0)] (fun r => r = nI m) := by
  refine xRO.of (by decide) (Nat.le_of_ble_eq_true rfl) ?_
  intro p e S M below meth c hB hK hP ls hl
  obtain ⟨hx, hb, hr, hml, hown, hlocks, hts⟩ := hB
  have hown : S.vm.findClass RX2 = some M.cls := hown
  have hS : va_S (frX S) S.heap S.heap [] := va_S.rf
  have hA : ∀ q : Nat, S.heap.size ≤ q → (frX S) q := fun _ h => h
  have hl : lv_has ls 1 [(0, .ref (h 0))] := hl
  refine lv_aload_n hx hb dX2_attributes_0 rfl (lv_at hl 0 rfl) ?_
  refine yg_m hx hb hts hown hK hP dX2_attributes_1 ?_
  exact xRO.ret hx hb hr rfl hlocks hS dX2_attributes_4 rfl

set_option maxHeartbeats 4000000 in
set_option maxRecDepth 100000 in
theorem m_X2_rowOf {l : Launch} {D : va_G} {d z : ClassId} {h : Nat → Nat} {n m : Nat} {R : Nat → Nat} {cb pb : Nat → Bool} {cl ch : Nat → Nat} (hn : n ≤ 8) {x : Int32} : xRO l yX2_rowOf cX2_rowOf 2 (some .int) 1 21 D (tyX d z) (yw h d z n m R cb pb cl ch) [.ref (h 0), .int x] (fun r => r = onS n (fun g => nI (R g)) x) := by
  refine xRO.of (by decide) (Nat.le_of_ble_eq_true rfl) ?_
  intro p e S M below meth c hB hK hP ls hl
  obtain ⟨hx, hb, hr, hml, hown, hlocks, hts⟩ := hB
  have hown : S.vm.findClass RX2 = some M.cls := hown
  have hS : va_S (frX S) S.heap S.heap [] := va_S.rf
  have hA : ∀ q : Nat, S.heap.size ≤ q → (frX S) q := fun _ h => h
  have hl : lv_has ls 2 [(0, .ref (h 0)), (1, .int x)] := hl
  refine lv_aload_n hx hb dX2_rowOf_0 rfl (lv_at hl 0 rfl) ?_
  refine lv_iload_n hx hb dX2_rowOf_1 rfl (lv_at hl 1 rfl) ?_
  refine xRO.call (m_X2_badObject hn) ⟨hx, hb, hml, hown, hts⟩ (cwV 1 hts (lw_V q250 q252 qs13 q28 q253) rfl rfl rfl (by decide +kernel) ⟨Nat.le_of_ble_eq_true rfl, Nat.le_of_ble_eq_true rfl⟩) hK hP (y_rc hK hP) hS hA hl.1 rfl rfl (Nat.le_of_ble_eq_true rfl) ⟨Nat.zero_le _, Nat.zero_le _⟩ dX2_rowOf_2 (fun r_ H locs hr_ hT hS => ?_)
  have hP := hT _ hP
  subst hr_
  refine nv_eqB hx hb (tgt := 12) dX2_rowOf_5 (by decide) (fun c_5 => ?_) (fun c_5 => ?_)
  · obtain ⟨j, hj, rfl⟩ := inB_t (by omega) (nB_f c_5)
    refine lv_aload_n hx hb dX2_rowOf_12 rfl (lv_at hl 0 rfl) ?_
    refine yg_rows hx hb hts hown hK hP dX2_rowOf_13 ?_
    refine lv_iload_n hx hb dX2_rowOf_16 rfl (lv_at hl 1 rfl) ?_
    refine yl_rows hx hb hK hP (by omega) dX2_rowOf_17 ?_
    exact xRO.ret hx hb hr rfl hlocks hS dX2_rowOf_18 (by rw [onS_t (by omega) hj])
  · refine lv_iconst (v := (-1)) hx hb dX2_rowOf_8 (by decide) ?_
    refine lv_goto (tgt := 18) hx hb dX2_rowOf_9 (by decide) ?_
    exact xRO.ret hx hb hr rfl hlocks hS dX2_rowOf_18 (by rw [onS_f (nB_t c_5)])

set_option maxHeartbeats 4000000 in
set_option maxRecDepth 100000 in
theorem m_X2_extent {l : Launch} {D : va_G} {d z : ClassId} {h : Nat → Nat} {n m : Nat} {R : Nat → Nat} {cb pb : Nat → Bool} {cl ch : Nat → Nat} (hn : n ≤ 8) (hm : m ≤ 7) (hR : ∀ g, R g < 2 ^ m) {x : Int32} : xRO l yX2_extent cX2_extent 2 (some .int) 2 45 D (tyX d z) (yw h d z n m R cb pb cl ch) [.ref (h 0), .int x] (fun r => r = onS (2 ^ m) (fun s => nI (exR R s n)) x) := by
  refine xRO.of (by decide) (Nat.le_of_ble_eq_true rfl) ?_
  intro p e S M below meth c hB hK hP ls hl
  obtain ⟨hx, hb, hr, hml, hown, hlocks, hts⟩ := hB
  have hown : S.vm.findClass RX2 = some M.cls := hown
  have hS : va_S (frX S) S.heap S.heap [] := va_S.rf
  have hA : ∀ q : Nat, S.heap.size ≤ q → (frX S) q := fun _ h => h
  have hl : lv_has ls 2 [(0, .ref (h 0)), (1, .int x)] := hl
  refine lv_aload_n hx hb dX2_extent_0 rfl (lv_at hl 0 rfl) ?_
  refine lv_iload_n hx hb dX2_extent_1 rfl (lv_at hl 1 rfl) ?_
  refine xRO.call (m_X2_badSet hm) ⟨hx, hb, hml, hown, hts⟩ (cwV 1 hts (lw_V q262 q264 qs15 q28 q265) rfl rfl rfl (by decide +kernel) ⟨Nat.le_of_ble_eq_true rfl, Nat.le_of_ble_eq_true rfl⟩) hK hP (y_rc hK hP) hS hA hl.1 rfl rfl (Nat.le_of_ble_eq_true rfl) ⟨Nat.zero_le _, Nat.zero_le _⟩ dX2_extent_2 (fun r_ H locs hr_ hT hS => ?_)
  have hP := hT _ hP
  subst hr_
  refine nv_eqB hx hb (tgt := 12) dX2_extent_5 (by decide) (fun c_5 => ?_) (fun c_5 => ?_)
  · obtain ⟨j, hj, rfl⟩ := inB_t (pow_lt hm) (nB_f c_5)
    refine lv_aload_n hx hb dX2_extent_12 rfl (lv_at hl 0 rfl) ?_
    refine lv_iload_n hx hb dX2_extent_13 rfl (lv_at hl 1 rfl) ?_
    refine xRO.call (m_X2_havers hn hm hR (set_lt hm hj)) ⟨hx, hb, hml, hown, hts⟩ (cwV 1 hts (lw_V q274 q276 qs16 q28 q277) rfl rfl rfl (by decide +kernel) ⟨Nat.le_of_ble_eq_true rfl, Nat.le_of_ble_eq_true rfl⟩) hK hP (y_rc hK hP) hS hA hl.1 rfl rfl (Nat.le_of_ble_eq_true rfl) ⟨Nat.zero_le _, Nat.zero_le _⟩ dX2_extent_14 (fun r_ H locs hr_ hT hS => ?_)
    have hP := hT _ hP
    subst hr_
    exact xRO.ret hx hb hr rfl hlocks hS dX2_extent_17 (by rw [onS_t (pow_lt hm) hj])
  · refine lv_iconst (v := (-1)) hx hb dX2_extent_8 (by decide) ?_
    refine lv_goto (tgt := 17) hx hb dX2_extent_9 (by decide) ?_
    exact xRO.ret hx hb hr rfl hlocks hS dX2_extent_17 (by rw [onS_f (nB_t c_5)])

set_option maxHeartbeats 4000000 in
set_option maxRecDepth 100000 in
theorem m_X2_intent {l : Launch} {D : va_G} {d z : ClassId} {h : Nat → Nat} {n m : Nat} {R : Nat → Nat} {cb pb : Nat → Bool} {cl ch : Nat → Nat} (hn : n ≤ 8) (hm : m ≤ 7) {x : Int32} : xRO l yX2_intent cX2_intent 2 (some .int) 1 23 D (tyX d z) (yw h d z n m R cb pb cl ch) [.ref (h 0), .int x] (fun r => r = onS (2 ^ n) (fun s => nI (inR R m s n)) x) := by
  refine xRO.of (by decide) (Nat.le_of_ble_eq_true rfl) ?_
  intro p e S M below meth c hB hK hP ls hl
  obtain ⟨hx, hb, hr, hml, hown, hlocks, hts⟩ := hB
  have hown : S.vm.findClass RX2 = some M.cls := hown
  have hS : va_S (frX S) S.heap S.heap [] := va_S.rf
  have hA : ∀ q : Nat, S.heap.size ≤ q → (frX S) q := fun _ h => h
  have hl : lv_has ls 2 [(0, .ref (h 0)), (1, .int x)] := hl
  refine lv_iload_n hx hb dX2_intent_0 rfl (lv_at hl 1 rfl) ?_
  refine lv_if_lt (tgt := 14) hx hb dX2_intent_1 (by decide) (fun c_1 => ?_) (fun c_1 => ?_)
  · refine lv_iconst (v := (-1)) hx hb dX2_intent_14 (by decide) ?_
    refine lv_goto (tgt := 23) hx hb dX2_intent_15 (by decide) ?_
    exact xRO.ret hx hb hr rfl hlocks hS dX2_intent_23 (by rw [onS_f (inB_lt c_1)])
  · refine lv_iload_n hx hb dX2_intent_4 rfl (lv_at hl 1 rfl) ?_
    refine lv_iconst (v := nI 1) hx hb dX2_intent_5 (by decide) ?_
    refine lv_aload_n hx hb dX2_intent_6 rfl (lv_at hl 0 rfl) ?_
    refine yg_n hx hb hts hown hK hP dX2_intent_7 ?_
    refine nv_ishl hx hb (by omega) dX2_intent_10 ?_
    refine lv_icmp_lt (tgt := 18) hx hb dX2_intent_11 (by decide) (fun c_11 => ?_) (fun c_11 => ?_)
    · obtain ⟨j, hj, rfl⟩ := inB_t (pow8_lt hn) (inB_in c_1 (at_in c_11))
      refine lv_aload_n hx hb dX2_intent_18 rfl (lv_at hl 0 rfl) ?_
      refine lv_iload_n hx hb dX2_intent_19 rfl (lv_at hl 1 rfl) ?_
      refine xRO.call (m_X2_shared hn hm (ext_lt hn hj)) ⟨hx, hb, hml, hown, hts⟩ (cwV 1 hts (lw_V q286 q288 qs18 q28 q289) rfl rfl rfl (by decide +kernel) ⟨Nat.le_of_ble_eq_true rfl, Nat.le_of_ble_eq_true rfl⟩) hK hP (y_rc hK hP) hS hA hl.1 rfl rfl (Nat.le_of_ble_eq_true rfl) ⟨Nat.zero_le _, Nat.zero_le _⟩ dX2_intent_20 (fun r_ H locs hr_ hT hS => ?_)
      have hP := hT _ hP
      subst hr_
      exact xRO.ret hx hb hr rfl hlocks hS dX2_intent_23 (by rw [onS_t (pow8_lt hn) hj])
    · refine lv_iconst (v := (-1)) hx hb dX2_intent_14 (by decide) ?_
      refine lv_goto (tgt := 23) hx hb dX2_intent_15 (by decide) ?_
      exact xRO.ret hx hb hr rfl hlocks hS dX2_intent_23 (by rw [onS_f (inB_ge (at_out c_11))])

set_option maxHeartbeats 4000000 in
set_option maxRecDepth 100000 in
theorem m_X2_closure {l : Launch} {D : va_G} {d z : ClassId} {h : Nat → Nat} {n m : Nat} {R : Nat → Nat} {cb pb : Nat → Bool} {cl ch : Nat → Nat} (hn : n ≤ 8) (hm : m ≤ 7) (hR : ∀ g, R g < 2 ^ m) {x : Int32} : xRO l yX2_closure cX2_closure 2 (some .int) 3 67 D (tyX d z) (yw h d z n m R cb pb cl ch) [.ref (h 0), .int x] (fun r => r = onS (2 ^ m) (fun s => nI (clo n m R s)) x) := by
  refine xRO.of (by decide) (Nat.le_of_ble_eq_true rfl) ?_
  intro p e S M below meth c hB hK hP ls hl
  obtain ⟨hx, hb, hr, hml, hown, hlocks, hts⟩ := hB
  have hown : S.vm.findClass RX2 = some M.cls := hown
  have hS : va_S (frX S) S.heap S.heap [] := va_S.rf
  have hA : ∀ q : Nat, S.heap.size ≤ q → (frX S) q := fun _ h => h
  have hl : lv_has ls 2 [(0, .ref (h 0)), (1, .int x)] := hl
  refine lv_aload_n hx hb dX2_closure_0 rfl (lv_at hl 0 rfl) ?_
  refine lv_iload_n hx hb dX2_closure_1 rfl (lv_at hl 1 rfl) ?_
  refine xRO.call (m_X2_badSet hm) ⟨hx, hb, hml, hown, hts⟩ (cwV 1 hts (lw_V q262 q264 qs15 q28 q265) rfl rfl rfl (by decide +kernel) ⟨Nat.le_of_ble_eq_true rfl, Nat.le_of_ble_eq_true rfl⟩) hK hP (y_rc hK hP) hS hA hl.1 rfl rfl (Nat.le_of_ble_eq_true rfl) ⟨Nat.zero_le _, Nat.zero_le _⟩ dX2_closure_2 (fun r_ H locs hr_ hT hS => ?_)
  have hP := hT _ hP
  subst hr_
  refine nv_eqB hx hb (tgt := 12) dX2_closure_5 (by decide) (fun c_5 => ?_) (fun c_5 => ?_)
  · obtain ⟨j, hj, rfl⟩ := inB_t (pow_lt hm) (nB_f c_5)
    refine lv_aload_n hx hb dX2_closure_12 rfl (lv_at hl 0 rfl) ?_
    refine lv_iload_n hx hb dX2_closure_13 rfl (lv_at hl 1 rfl) ?_
    refine xRO.call (m_X2_closureOf hn hm hR hj) ⟨hx, hb, hml, hown, hts⟩ (cwV 1 hts (lw_V q294 q296 qs19 q28 q297) rfl rfl rfl (by decide +kernel) ⟨Nat.le_of_ble_eq_true rfl, Nat.le_of_ble_eq_true rfl⟩) hK hP (y_rc hK hP) hS hA hl.1 rfl rfl (Nat.le_of_ble_eq_true rfl) ⟨Nat.zero_le _, Nat.zero_le _⟩ dX2_closure_14 (fun r_ H locs hr_ hT hS => ?_)
    have hP := hT _ hP
    subst hr_
    exact xRO.ret hx hb hr rfl hlocks hS dX2_closure_17 (by rw [onS_t (pow_lt hm) hj])
  · refine lv_iconst (v := (-1)) hx hb dX2_closure_8 (by decide) ?_
    refine lv_goto (tgt := 17) hx hb dX2_closure_9 (by decide) ?_
    exact xRO.ret hx hb hr rfl hlocks hS dX2_closure_17 (by rw [onS_f (nB_t c_5)])

set_option maxHeartbeats 4000000 in
set_option maxRecDepth 100000 in
theorem m_X2_follows {l : Launch} {D : va_G} {d z : ClassId} {h : Nat → Nat} {n m : Nat} {R : Nat → Nat} {cb pb : Nat → Bool} {cl ch : Nat → Nat} (hn : n ≤ 8) (hm : m ≤ 7) (hR : ∀ g, R g < 2 ^ m) {x y : Int32} : xRO l yX2_follows cX2_follows 4 (some .int) 1 22 D (tyX d z) (yw h d z n m R cb pb cl ch) [.ref (h 0), .int x, .int y] (fun r => r = fol2 n m R x y) := by
  refine xRO.of (by decide) (Nat.le_of_ble_eq_true rfl) ?_
  intro p e S M below meth c hB hK hP ls hl
  obtain ⟨hx, hb, hr, hml, hown, hlocks, hts⟩ := hB
  have hown : S.vm.findClass RX2 = some M.cls := hown
  have hS : va_S (frX S) S.heap S.heap [] := va_S.rf
  have hA : ∀ q : Nat, S.heap.size ≤ q → (frX S) q := fun _ h => h
  have hl : lv_has ls 4 [(0, .ref (h 0)), (1, .int x), (2, .int y)] := hl
  refine lv_aload_n hx hb dX2_follows_0 rfl (lv_at hl 0 rfl) ?_
  refine lv_iload_n hx hb dX2_follows_1 rfl (lv_at hl 1 rfl) ?_
  refine xRO.call (m_X2_badSet hm) ⟨hx, hb, hml, hown, hts⟩ (cwV 1 hts (lw_V q262 q264 qs15 q28 q265) rfl rfl rfl (by decide +kernel) ⟨Nat.le_of_ble_eq_true rfl, Nat.le_of_ble_eq_true rfl⟩) hK hP (y_rc hK hP) hS hA hl.1 rfl rfl (Nat.le_of_ble_eq_true rfl) ⟨Nat.zero_le _, Nat.zero_le _⟩ dX2_follows_2 (fun r_ H locs hr_ hT hS => ?_)
  have hP := hT _ hP
  subst hr_
  refine nv_neB hx hb (tgt := 16) dX2_follows_5 (by decide) (fun c_5 => ?_) (fun c_5 => ?_)
  · refine lv_iconst (v := (-1)) hx hb dX2_follows_16 (by decide) ?_
    exact xRO.ret hx hb hr rfl hlocks hS dX2_follows_17 (by rw [fol2_1 (nB_t c_5)])
  · refine lv_aload_n hx hb dX2_follows_8 rfl (lv_at hl 0 rfl) ?_
    refine lv_iload_n hx hb dX2_follows_9 rfl (lv_at hl 2 rfl) ?_
    refine xRO.call (m_X2_badSet hm) ⟨hx, hb, hml, hown, hts⟩ (cwV 1 hts (lw_V q262 q264 qs15 q28 q265) rfl rfl rfl (by decide +kernel) ⟨Nat.le_of_ble_eq_true rfl, Nat.le_of_ble_eq_true rfl⟩) hK hP (y_rc hK hP) hS hA hl.1 rfl rfl (Nat.le_of_ble_eq_true rfl) ⟨Nat.zero_le _, Nat.zero_le _⟩ dX2_follows_10 (fun r_ H locs hr_ hT hS => ?_)
    have hP := hT _ hP
    subst hr_
    refine nv_eqB hx hb (tgt := 18) dX2_follows_13 (by decide) (fun c_13 => ?_) (fun c_13 => ?_)
    · obtain ⟨p0, hp, rfl⟩ := inB_t (pow_lt hm) (nB_f c_5)
      obtain ⟨q0, hq, rfl⟩ := inB_t (pow_lt hm) (nB_f c_13)
      refine lv_iconst (v := nI 0) hx hb dX2_follows_18 (by decide) ?_
      refine lv_istore_n (lv' := [(3, .int (nI 0)), (0, .ref (h 0)), (1, .int (nI p0)), (2, .int (nI q0))]) hx hb dX2_follows_19 rfl hl (by decide) rfl (fun ls hl => ?_)
      refine nv_loop (fun (i : Nat) (H : Heap) (locs : List Loc) (ls : Array Slot) => (∀ g, g < i → ssb p0 (R g) → ssb q0 (R g)) ∧ va_P D clX (yw h d z n m R cb pb cl ch) H ∧ va_S (frX S) S.heap H locs ∧ lv_has ls 4 [(3, .int (nI i)), (0, .ref (h 0)), (1, .int (nI p0)), (2, .int (nI q0))]) (n) (fun i H locs ls hi_i hI ih_i => ?_) (fun H locs ls hI => ?_) 0 (Nat.zero_le _) ⟨fun g hg => absurd hg (by omega), hP, hS, lv_sub hl [0, 1, 2, 3] rfl⟩
      · obtain ⟨h_f, hP, hS, hl⟩ := hI
        refine lv_iload_n hx hb dX2_follows_20 rfl (lv_at hl 0 rfl) ?_
        refine lv_aload_n hx hb dX2_follows_21 rfl (lv_at hl 1 rfl) ?_
        refine yg_n hx hb hts hown hK hP dX2_follows_22 ?_
        refine nv_ge hx hb (by omega) (by omega) (tgt := 70) dX2_follows_25 (by decide) (fun c_25 => ?_) (fun c_25 => ?_)
        · exact absurd hi_i (by omega)
        · refine lv_iload_n hx hb dX2_follows_28 rfl (lv_at hl 0 rfl) ?_
          refine lv_bipush (v := nI 8) hx hb dX2_follows_29 (by decide) ?_
          refine nv_ge hx hb (by omega) (by decide) (tgt := 70) dX2_follows_31 (by decide) (fun c_31 => ?_) (fun c_31 => ?_)
          · exact absurd hi_i (by omega)
          · refine lv_aload_n hx hb dX2_follows_34 rfl (lv_at hl 1 rfl) ?_
            refine lv_iload_n hx hb dX2_follows_35 rfl (lv_at hl 2 rfl) ?_
            refine lv_aload_n hx hb dX2_follows_36 rfl (lv_at hl 1 rfl) ?_
            refine yg_rows hx hb hts hown hK hP dX2_follows_37 ?_
            refine lv_iload_n hx hb dX2_follows_40 rfl (lv_at hl 0 rfl) ?_
            refine yl_rows hx hb hK hP (by omega) dX2_follows_41 ?_
            refine xRO.call (m_X2_part (set_lt hm hp) (set_lt hm (hR i))) ⟨hx, hb, hml, hown, hts⟩ (cwV 2 hts (lw_V q278 q280 qs17 q28 q281) rfl rfl rfl (by decide +kernel) ⟨Nat.le_of_ble_eq_true rfl, Nat.le_of_ble_eq_true rfl⟩) hK hP (y_rc hK hP) hS hA hl.1 rfl rfl (Nat.le_of_ble_eq_true rfl) ⟨Nat.zero_le _, Nat.zero_le _⟩ dX2_follows_42 (fun r_ H locs hr_ hT hS => ?_)
            have hP := hT _ hP
            subst hr_
            refine nv_eqB hx hb (tgt := 64) dX2_follows_45 (by decide) (fun c_45 => ?_) (fun c_45 => ?_)
            · refine lv_iinc (v := nI (i + 1)) (lv' := [(3, .int (nI (i + 1))), (0, .ref (h 0)), (1, .int (nI p0)), (2, .int (nI q0))]) hx hb dX2_follows_64 hl (k := 0) rfl (nI_1 _) (by decide) rfl (fun ls hl => ?_)
              refine lv_goto (tgt := 20) hx hb dX2_follows_67 (by decide) ?_
              exact ih_i _ _ _ ⟨lt_s h_f (fun z => absurd z (beq_f c_45)), hP, hS, lv_sub hl [0, 1, 2, 3] rfl⟩
            · refine lv_aload_n hx hb dX2_follows_48 rfl (lv_at hl 1 rfl) ?_
              refine lv_iload_n hx hb dX2_follows_49 rfl (lv_at hl 3 rfl) ?_
              refine lv_aload_n hx hb dX2_follows_50 rfl (lv_at hl 1 rfl) ?_
              refine yg_rows hx hb hts hown hK hP dX2_follows_51 ?_
              refine lv_iload_n hx hb dX2_follows_54 rfl (lv_at hl 0 rfl) ?_
              refine yl_rows hx hb hK hP (by omega) dX2_follows_55 ?_
              refine xRO.call (m_X2_part (set_lt hm hq) (set_lt hm (hR i))) ⟨hx, hb, hml, hown, hts⟩ (cwV 2 hts (lw_V q278 q280 qs17 q28 q281) rfl rfl rfl (by decide +kernel) ⟨Nat.le_of_ble_eq_true rfl, Nat.le_of_ble_eq_true rfl⟩) hK hP (y_rc hK hP) hS hA hl.1 rfl rfl (Nat.le_of_ble_eq_true rfl) ⟨Nat.zero_le _, Nat.zero_le _⟩ dX2_follows_56 (fun r_ H locs hr_ hT hS => ?_)
              have hP := hT _ hP
              subst hr_
              refine nv_neB hx hb (tgt := 64) dX2_follows_59 (by decide) (fun c_59 => ?_) (fun c_59 => ?_)
              · refine lv_iinc (v := nI (i + 1)) (lv' := [(3, .int (nI (i + 1))), (0, .ref (h 0)), (1, .int (nI p0)), (2, .int (nI q0))]) hx hb dX2_follows_64 hl (k := 0) rfl (nI_1 _) (by decide) rfl (fun ls hl => ?_)
                refine lv_goto (tgt := 20) hx hb dX2_follows_67 (by decide) ?_
                exact ih_i _ _ _ ⟨lt_s h_f (fun _ => beq_t c_59), hP, hS, lv_sub hl [0, 1, 2, 3] rfl⟩
              · refine lv_iconst (v := nI 0) hx hb dX2_follows_62 (by decide) ?_
                exact xRO.ret hx hb hr rfl hlocks hS dX2_follows_63 (by rw [fol2_3 (pow_lt hm) hp hq, fol_0 hq hi_i c_45 c_59])
      · obtain ⟨h_f, hP, hS, hl⟩ := hI
        refine lv_iload_n hx hb dX2_follows_20 rfl (lv_at hl 0 rfl) ?_
        refine lv_aload_n hx hb dX2_follows_21 rfl (lv_at hl 1 rfl) ?_
        refine yg_n hx hb hts hown hK hP dX2_follows_22 ?_
        refine nv_ge hx hb (by omega) (by omega) (tgt := 70) dX2_follows_25 (by decide) (fun c_25 => ?_) (fun c_25 => ?_)
        · refine lv_iconst (v := nI 1) hx hb dX2_follows_70 (by decide) ?_
          exact xRO.ret hx hb hr rfl hlocks hS dX2_follows_71 (by rw [fol2_3 (pow_lt hm) hp hq, fol_1 hq h_f])
        · exact absurd c_25 (by omega)
    · refine lv_iconst (v := (-1)) hx hb dX2_follows_16 (by decide) ?_
      exact xRO.ret hx hb hr rfl hlocks hS dX2_follows_17 (by rw [fol2_2 (nB_t c_13)])

set_option maxHeartbeats 4000000 in
set_option maxRecDepth 100000 in
theorem m_X2_between {l : Launch} {D : va_G} {d z : ClassId} {h : Nat → Nat} {n m : Nat} {R : Nat → Nat} {cb pb : Nat → Bool} {cl ch : Nat → Nat} (hm : m ≤ 7) (hcb : ∀ s, s < 2 ^ m → cb s = isC (clo n m R) s) {x y : Nat} (hx1 : x < 2 ^ m) (hy1 : y < 2 ^ m) : xRO l yX2_between cX2_between 4 (some .boolean) 2 44 D (tyX d z) (yw h d z n m R cb pb cl ch) [.ref (h 0), .int (nI x), .int (nI y)] (fun r => ∃ b : Bool, r = nI b.toNat ∧ (b = true ↔ betw m (clo n m R) x y)) := by
  refine xRO.of (by decide) (Nat.le_of_ble_eq_true rfl) ?_
  intro p e S M below meth c hB hK hP ls hl
  obtain ⟨hx, hb, hr, hml, hown, hlocks, hts⟩ := hB
  have hown : S.vm.findClass RX2 = some M.cls := hown
  have hS : va_S (frX S) S.heap S.heap [] := va_S.rf
  have hA : ∀ q : Nat, S.heap.size ≤ q → (frX S) q := fun _ h => h
  have hl : lv_has ls 4 [(0, .ref (h 0)), (1, .int (nI x)), (2, .int (nI y))] := hl
  refine lv_iconst (v := nI 0) hx hb dX2_between_0 (by decide) ?_
  refine lv_istore_n (lv' := [(3, .int (nI 0)), (0, .ref (h 0)), (1, .int (nI x)), (2, .int (nI y))]) hx hb dX2_between_1 rfl hl (by decide) rfl (fun ls hl => ?_)
  refine nv_loop (fun (i : Nat) (H : Heap) (locs : List Loc) (ls : Array Slot) => (∀ e, e < i → ¬ (clo n m R e = e ∧ prp x e ∧ prp e y)) ∧ va_P D clX (yw h d z n m R cb pb cl ch) H ∧ va_S (frX S) S.heap H locs ∧ lv_has ls 4 [(3, .int (nI i)), (0, .ref (h 0)), (1, .int (nI x)), (2, .int (nI y))]) (2 ^ m) (fun i H locs ls hi_i hI ih_i => ?_) (fun H locs ls hI => ?_) 0 (Nat.zero_le _) ⟨fun e he => absurd he (by omega), hP, hS, lv_sub hl [0, 1, 2, 3] rfl⟩
  · obtain ⟨h_n, hP, hS, hl⟩ := hI
    refine lv_iload_n hx hb dX2_between_2 rfl (lv_at hl 0 rfl) ?_
    refine lv_aload_n hx hb dX2_between_3 rfl (lv_at hl 1 rfl) ?_
    refine yg_all hx hb hts hown hK hP dX2_between_4 ?_
    refine nv_gt hx hb (set_lt hm hi_i) (all_lt hm) (tgt := 45) dX2_between_7 (by decide) (fun c_7 => ?_) (fun c_7 => ?_)
    · exact absurd hi_i (by have := pw_1 m; omega)
    · refine lv_aload_n hx hb dX2_between_10 rfl (lv_at hl 1 rfl) ?_
      refine yg_closed hx hb hts hown hK hP dX2_between_11 ?_
      refine lv_iload_n hx hb dX2_between_14 rfl (lv_at hl 0 rfl) ?_
      refine yl_closed hx hb hK hP (by have := p7 hm; omega) dX2_between_15 ?_
      rw [hcb i hi_i]
      refine nv_eqB hx hb (tgt := 39) dX2_between_16 (by decide) (fun c_16 => ?_) (fun c_16 => ?_)
      · refine lv_iinc (v := nI (i + 1)) (lv' := [(3, .int (nI (i + 1))), (0, .ref (h 0)), (1, .int (nI x)), (2, .int (nI y))]) hx hb dX2_between_39 hl (k := 0) rfl (nI_1 _) (by decide) rfl (fun ls hl => ?_)
        refine lv_goto (tgt := 2) hx hb dX2_between_42 (by decide) ?_
        exact ih_i _ _ _ ⟨lt_s h_n (fun z => isC_f.mp c_16 z.1), hP, hS, lv_sub hl [0, 1, 2, 3] rfl⟩
      · refine lv_aload_n hx hb dX2_between_19 rfl (lv_at hl 1 rfl) ?_
        refine lv_iload_n hx hb dX2_between_20 rfl (lv_at hl 2 rfl) ?_
        refine lv_iload_n hx hb dX2_between_21 rfl (lv_at hl 0 rfl) ?_
        refine xRO.call (m_X2_proper (set_lt hm hx1) (set_lt hm hi_i)) ⟨hx, hb, hml, hown, hts⟩ (cwV 2 hts (lw_V q310 q312 qs22 q28 q313) rfl rfl rfl (by decide +kernel) ⟨Nat.le_of_ble_eq_true rfl, Nat.le_of_ble_eq_true rfl⟩) hK hP (y_rc hK hP) hS hA hl.1 rfl rfl (Nat.le_of_ble_eq_true rfl) ⟨Nat.zero_le _, Nat.zero_le _⟩ dX2_between_22 (fun r_ H locs hr_ hT hS => ?_)
        have hP := hT _ hP
        subst hr_
        refine nv_eqB hx hb (tgt := 39) dX2_between_25 (by decide) (fun c_25 => ?_) (fun c_25 => ?_)
        · refine lv_iinc (v := nI (i + 1)) (lv' := [(3, .int (nI (i + 1))), (0, .ref (h 0)), (1, .int (nI x)), (2, .int (nI y))]) hx hb dX2_between_39 hl (k := 0) rfl (nI_1 _) (by decide) rfl (fun ls hl => ?_)
          refine lv_goto (tgt := 2) hx hb dX2_between_42 (by decide) ?_
          exact ih_i _ _ _ ⟨lt_s h_n (fun z => prp_nf c_25 z.2.1), hP, hS, lv_sub hl [0, 1, 2, 3] rfl⟩
        · refine lv_aload_n hx hb dX2_between_28 rfl (lv_at hl 1 rfl) ?_
          refine lv_iload_n hx hb dX2_between_29 rfl (lv_at hl 0 rfl) ?_
          refine lv_iload_n hx hb dX2_between_30 rfl (lv_at hl 3 rfl) ?_
          refine xRO.call (m_X2_proper (set_lt hm hi_i) (set_lt hm hy1)) ⟨hx, hb, hml, hown, hts⟩ (cwV 2 hts (lw_V q310 q312 qs22 q28 q313) rfl rfl rfl (by decide +kernel) ⟨Nat.le_of_ble_eq_true rfl, Nat.le_of_ble_eq_true rfl⟩) hK hP (y_rc hK hP) hS hA hl.1 rfl rfl (Nat.le_of_ble_eq_true rfl) ⟨Nat.zero_le _, Nat.zero_le _⟩ dX2_between_31 (fun r_ H locs hr_ hT hS => ?_)
          have hP := hT _ hP
          subst hr_
          refine nv_eqB hx hb (tgt := 39) dX2_between_34 (by decide) (fun c_34 => ?_) (fun c_34 => ?_)
          · refine lv_iinc (v := nI (i + 1)) (lv' := [(3, .int (nI (i + 1))), (0, .ref (h 0)), (1, .int (nI x)), (2, .int (nI y))]) hx hb dX2_between_39 hl (k := 0) rfl (nI_1 _) (by decide) rfl (fun ls hl => ?_)
            refine lv_goto (tgt := 2) hx hb dX2_between_42 (by decide) ?_
            exact ih_i _ _ _ ⟨lt_s h_n (fun z => prp_nf c_34 z.2.2), hP, hS, lv_sub hl [0, 1, 2, 3] rfl⟩
          · refine lv_iconst (v := nI 1) hx hb dX2_between_37 (by decide) ?_
            exact xRO.ret hx hb hr (by decide) hlocks hS dX2_between_38 (⟨true, rfl, fun _ => ⟨i, hi_i, isC_t.mp c_16, prp_of c_25, prp_of c_34⟩, fun _ => rfl⟩)
  · obtain ⟨h_n, hP, hS, hl⟩ := hI
    refine lv_iload_n hx hb dX2_between_2 rfl (lv_at hl 0 rfl) ?_
    refine lv_aload_n hx hb dX2_between_3 rfl (lv_at hl 1 rfl) ?_
    refine yg_all hx hb hts hown hK hP dX2_between_4 ?_
    refine nv_gt hx hb (pow_lt hm) (all_lt hm) (tgt := 45) dX2_between_7 (by decide) (fun c_7 => ?_) (fun c_7 => ?_)
    · refine lv_iconst (v := nI 0) hx hb dX2_between_45 (by decide) ?_
      exact xRO.ret hx hb hr (by decide) hlocks hS dX2_between_46 (⟨false, rfl, fun z => (by cases z), fun ⟨e1, e2, e3, e4, e5⟩ => absurd ⟨e3, e4, e5⟩ (h_n e1 e2)⟩)
    · exact absurd c_7 (by have := pw_1 m; omega)

set_option maxHeartbeats 4000000 in
set_option maxRecDepth 100000 in
theorem m_X2_over {l : Launch} {D : va_G} {d z : ClassId} {h : Nat → Nat} {n m : Nat} {R : Nat → Nat} {cb pb : Nat → Bool} {cl ch : Nat → Nat} (hm : m ≤ 7) (hcb : ∀ s, s < 2 ^ m → cb s = isC (clo n m R) s) {x : Nat} (hx1 : x < 2 ^ m) : xRO l yX2_over cX2_over 4 (some .int) 3 67 D (tyX d z) (yw h d z n m R cb pb cl ch) [.ref (h 0), .int (nI x)] (fun r => r = nI (covN m (clo n m R) x)) := by
  refine xRO.of (by decide) (Nat.le_of_ble_eq_true rfl) ?_
  intro p e S M below meth c hB hK hP ls hl
  obtain ⟨hx, hb, hr, hml, hown, hlocks, hts⟩ := hB
  have hown : S.vm.findClass RX2 = some M.cls := hown
  have hS : va_S (frX S) S.heap S.heap [] := va_S.rf
  have hA : ∀ q : Nat, S.heap.size ≤ q → (frX S) q := fun _ h => h
  have hl : lv_has ls 4 [(0, .ref (h 0)), (1, .int (nI x))] := hl
  refine lv_iconst (v := nI 0) hx hb dX2_over_0 (by decide) ?_
  refine lv_istore_n (lv' := [(2, .int (nI 0)), (0, .ref (h 0)), (1, .int (nI x))]) hx hb dX2_over_1 rfl hl (by decide) rfl (fun ls hl => ?_)
  refine lv_iconst (v := nI 0) hx hb dX2_over_2 (by decide) ?_
  refine lv_istore_n (lv' := [(3, .int (nI 0)), (2, .int (nI 0)), (0, .ref (h 0)), (1, .int (nI x))]) hx hb dX2_over_3 rfl hl (by decide) rfl (fun ls hl => ?_)
  refine nv_loop (fun (i : Nat) (H : Heap) (locs : List Loc) (ls : Array Slot) => ∃ (r : Nat), r = (enm (covB m (clo n m R) x) i).length ∧ va_P D clX (yw h d z n m R cb pb cl ch) H ∧ va_S (frX S) S.heap H locs ∧ lv_has ls 4 [(3, .int (nI i)), (2, .int (nI r)), (0, .ref (h 0)), (1, .int (nI x))]) (2 ^ m) (fun i H locs ls hi_i hI ih_i => ?_) (fun H locs ls hI => ?_) 0 (Nat.zero_le _) ⟨0, rfl, hP, hS, lv_sub hl [0, 1, 2, 3] rfl⟩
  · obtain ⟨r, e_r, hP, hS, hl⟩ := hI
    refine lv_iload_n hx hb dX2_over_4 rfl (lv_at hl 0 rfl) ?_
    refine lv_aload_n hx hb dX2_over_5 rfl (lv_at hl 2 rfl) ?_
    refine yg_all hx hb hts hown hK hP dX2_over_6 ?_
    refine nv_gt hx hb (set_lt hm hi_i) (all_lt hm) (tgt := 48) dX2_over_9 (by decide) (fun c_9 => ?_) (fun c_9 => ?_)
    · exact absurd hi_i (by have := pw_1 m; omega)
    · refine lv_aload_n hx hb dX2_over_12 rfl (lv_at hl 2 rfl) ?_
      refine yg_closed hx hb hts hown hK hP dX2_over_13 ?_
      refine lv_iload_n hx hb dX2_over_16 rfl (lv_at hl 0 rfl) ?_
      refine yl_closed hx hb hK hP (by have := p7 hm; omega) dX2_over_17 ?_
      rw [hcb i hi_i]
      refine nv_eqB hx hb (tgt := 42) dX2_over_18 (by decide) (fun c_18 => ?_) (fun c_18 => ?_)
      · refine lv_iinc (v := nI (i + 1)) (lv' := [(3, .int (nI (i + 1))), (2, .int (nI r)), (0, .ref (h 0)), (1, .int (nI x))]) hx hb dX2_over_42 hl (k := 0) rfl (nI_1 _) (by decide) rfl (fun ls hl => ?_)
        refine lv_goto (tgt := 4) hx hb dX2_over_45 (by decide) ?_
        exact ih_i _ _ _ ⟨r, by rw [enm_no (cov_n1 c_18)]; exact e_r, hP, hS, lv_sub hl [0, 1, 2, 3] rfl⟩
      · refine lv_aload_n hx hb dX2_over_21 rfl (lv_at hl 2 rfl) ?_
        refine lv_iload_n hx hb dX2_over_22 rfl (lv_at hl 3 rfl) ?_
        refine lv_iload_n hx hb dX2_over_23 rfl (lv_at hl 0 rfl) ?_
        refine xRO.call (m_X2_proper (set_lt hm hx1) (set_lt hm hi_i)) ⟨hx, hb, hml, hown, hts⟩ (cwV 2 hts (lw_V q310 q312 qs22 q28 q313) rfl rfl rfl (by decide +kernel) ⟨Nat.le_of_ble_eq_true rfl, Nat.le_of_ble_eq_true rfl⟩) hK hP (y_rc hK hP) hS hA hl.1 rfl rfl (Nat.le_of_ble_eq_true rfl) ⟨Nat.zero_le _, Nat.zero_le _⟩ dX2_over_24 (fun r_ H locs hr_ hT hS => ?_)
        have hP := hT _ hP
        subst hr_
        refine nv_eqB hx hb (tgt := 42) dX2_over_27 (by decide) (fun c_27 => ?_) (fun c_27 => ?_)
        · refine lv_iinc (v := nI (i + 1)) (lv' := [(3, .int (nI (i + 1))), (2, .int (nI r)), (0, .ref (h 0)), (1, .int (nI x))]) hx hb dX2_over_42 hl (k := 0) rfl (nI_1 _) (by decide) rfl (fun ls hl => ?_)
          refine lv_goto (tgt := 4) hx hb dX2_over_45 (by decide) ?_
          exact ih_i _ _ _ ⟨r, by rw [enm_no (cov_n2 (prp_nf c_27))]; exact e_r, hP, hS, lv_sub hl [0, 1, 2, 3] rfl⟩
        · refine lv_aload_n hx hb dX2_over_30 rfl (lv_at hl 2 rfl) ?_
          refine lv_iload_n hx hb dX2_over_31 rfl (lv_at hl 3 rfl) ?_
          refine lv_iload_n hx hb dX2_over_32 rfl (lv_at hl 0 rfl) ?_
          refine xRO.call (m_X2_between hm hcb hx1 hi_i) ⟨hx, hb, hml, hown, hts⟩ (cwV 2 hts (lw_V q342 q344 qs24 q28 q345) rfl rfl rfl (by decide +kernel) ⟨Nat.le_of_ble_eq_true rfl, Nat.le_of_ble_eq_true rfl⟩) hK hP (y_rc hK hP) hS hA hl.1 rfl rfl (Nat.le_of_ble_eq_true rfl) ⟨Nat.zero_le _, Nat.zero_le _⟩ dX2_over_33 (fun r_ H locs hr_ hT hS => ?_)
          have hP := hT _ hP
          obtain ⟨bb, rfl, h_bb⟩ := hr_
          refine nv_neB hx hb (tgt := 42) dX2_over_36 (by decide) (fun c_36 => ?_) (fun c_36 => ?_)
          · refine lv_iinc (v := nI (i + 1)) (lv' := [(3, .int (nI (i + 1))), (2, .int (nI r)), (0, .ref (h 0)), (1, .int (nI x))]) hx hb dX2_over_42 hl (k := 0) rfl (nI_1 _) (by decide) rfl (fun ls hl => ?_)
            refine lv_goto (tgt := 4) hx hb dX2_over_45 (by decide) ?_
            exact ih_i _ _ _ ⟨r, by rw [enm_no (cov_n3 (h_bb.mp c_36))]; exact e_r, hP, hS, lv_sub hl [0, 1, 2, 3] rfl⟩
          · refine lv_iinc (v := nI (r + 1)) (lv' := [(2, .int (nI (r + 1))), (3, .int (nI i)), (0, .ref (h 0)), (1, .int (nI x))]) hx hb dX2_over_39 hl (k := 1) rfl (nI_1 _) (by decide) rfl (fun ls hl => ?_)
            refine lv_iinc (v := nI (i + 1)) (lv' := [(3, .int (nI (i + 1))), (2, .int (nI (r + 1))), (0, .ref (h 0)), (1, .int (nI x))]) hx hb dX2_over_42 hl (k := 1) rfl (nI_1 _) (by decide) rfl (fun ls hl => ?_)
            refine lv_goto (tgt := 4) hx hb dX2_over_45 (by decide) ?_
            exact ih_i _ _ _ ⟨r + 1, by rw [enm_yes (cov_y c_18 (prp_of c_27) (fun z => absurd (c_36.symm.trans (h_bb.mpr z)) (by decide))), e_r], hP, hS, lv_sub hl [0, 1, 2, 3] rfl⟩
  · obtain ⟨r, e_r, hP, hS, hl⟩ := hI
    refine lv_iload_n hx hb dX2_over_4 rfl (lv_at hl 0 rfl) ?_
    refine lv_aload_n hx hb dX2_over_5 rfl (lv_at hl 2 rfl) ?_
    refine yg_all hx hb hts hown hK hP dX2_over_6 ?_
    refine nv_gt hx hb (pow_lt hm) (all_lt hm) (tgt := 48) dX2_over_9 (by decide) (fun c_9 => ?_) (fun c_9 => ?_)
    · refine lv_iload_n hx hb dX2_over_48 rfl (lv_at hl 1 rfl) ?_
      exact xRO.ret hx hb hr rfl hlocks hS dX2_over_49 (by rw [e_r]; rfl)
    · exact absurd c_9 (by have := pw_1 m; omega)
end
section
/-! ConceptLatticeModel: the methods that write -/

set_option maxHeartbeats 4000000 in
set_option maxRecDepth 100000 in
theorem m_X2_cross {l : Launch} {D : va_G} {d z : ClassId} {h : Nat → Nat} {n m : Nat} {R : Nat → Nat} {cb pb : Nat → Bool} {cl ch : Nat → Nat} (hn : n ≤ 8) (hm : m ≤ 7) (hR : ∀ g, R g < 2 ^ m) {o a f : Int32} : xRW (YS) l yX2_cross cX2_cross 5 (some .int) 1 21 D (tyX d z) (yw h d z n m R cb pb cl ch) [.ref (h 0), .int o, .int a, .int f] (fun r u => r = crV n m R o a ∧ u.1 = crR n m R o a f) (fun u => yW h d z n m u) := by
  refine xRW.of (by decide) (Nat.le_of_ble_eq_true rfl) ?_
  intro p e S M below meth c hB hK hP hD ls hl
  obtain ⟨hx, hb, hr, hml, hown, hlocks, hts⟩ := hB
  have hown : S.vm.findClass RX2 = some M.cls := hown
  have hS : va_S (va_A (yw h d z n m R cb pb cl ch) S.heap.size) S.heap S.heap [] := va_S.rf
  have hA : ∀ q : Nat, S.heap.size ≤ q → (va_A (yw h d z n m R cb pb cl ch) S.heap.size) q := fun _ h => Or.inr h
  have hl : lv_has ls 5 [(0, .ref (h 0)), (1, .int o), (2, .int a), (3, .int f)] := hl
  refine lv_aload_n hx hb dX2_cross_0 rfl (lv_at hl 0 rfl) ?_
  refine lv_iload_n hx hb dX2_cross_1 rfl (lv_at hl 1 rfl) ?_
  refine xRO.call (m_X2_badObject hn) ⟨hx, hb, hml, hown, hts⟩ (cwV 1 hts (lw_V q250 q252 qs13 q28 q253) rfl rfl rfl (by decide +kernel) ⟨Nat.le_of_ble_eq_true rfl, Nat.le_of_ble_eq_true rfl⟩) hK hP (y_rc hK hP) hS hA hl.1 rfl rfl (Nat.le_of_ble_eq_true rfl) ⟨Nat.zero_le _, Nat.zero_le _⟩ dX2_cross_2 (fun r_ H locs hr_ hT hS => ?_)
  have hP := hT _ hP
  subst hr_
  refine nv_eqB hx hb (tgt := 10) dX2_cross_5 (by decide) (fun c_5 => ?_) (fun c_5 => ?_)
  · refine lv_aload_n hx hb dX2_cross_10 rfl (lv_at hl 0 rfl) ?_
    refine lv_iload_n hx hb dX2_cross_11 rfl (lv_at hl 2 rfl) ?_
    refine xRO.call (m_X2_badAttribute) ⟨hx, hb, hml, hown, hts⟩ (cwV 1 hts (lw_V q254 q256 qs14 q28 q257) rfl rfl rfl (by decide +kernel) ⟨Nat.le_of_ble_eq_true rfl, Nat.le_of_ble_eq_true rfl⟩) hK hP (y_rc hK hP) hS hA hl.1 rfl rfl (Nat.le_of_ble_eq_true rfl) ⟨Nat.zero_le _, Nat.zero_le _⟩ dX2_cross_12 (fun r_ H locs hr_ hT hS => ?_)
    have hP := hT _ hP
    subst hr_
    refine nv_eqB hx hb (tgt := 21) dX2_cross_15 (by decide) (fun c_15 => ?_) (fun c_15 => ?_)
    · obtain ⟨j, hj, rfl⟩ := inB_t (by omega) (nB_f c_5)
      obtain ⟨i, hi, rfl⟩ := inB_t (by omega) (nB_f c_15)
      refine lv_aload_n hx hb dX2_cross_21 rfl (lv_at hl 0 rfl) ?_
      refine yg_rows hx hb hts hown hK hP dX2_cross_22 ?_
      refine lv_iload_n hx hb dX2_cross_25 rfl (lv_at hl 1 rfl) ?_
      refine yl_rows hx hb hK hP (by omega) dX2_cross_26 ?_
      refine lv_iload_n hx hb dX2_cross_27 rfl (lv_at hl 2 rfl) ?_
      refine nv_bit hx hb (set_lt hm (hR j)) (by omega) dX2_cross_28 dX2_cross_29 dX2_cross_30 ?_
      refine lv_istore (lv' := [(4, .int (nI (bN (R j) i))), (0, .ref (h 0)), (1, .int (nI j)), (2, .int (nI i)), (3, .int f)]) hx hb dX2_cross_31 hl (by decide) rfl (fun ls hl => ?_)
      refine lv_aload_n hx hb dX2_cross_33 rfl (lv_at hl 1 rfl) ?_
      refine yg_rows hx hb hts hown hK hP dX2_cross_34 ?_
      refine lv_iload_n hx hb dX2_cross_37 rfl (lv_at hl 2 rfl) ?_
      refine lv_iload_n hx hb dX2_cross_38 rfl (lv_at hl 4 rfl) ?_
      refine lv_if_eq (tgt := 55) hx hb dX2_cross_39 (by decide) (fun c_39 => ?_) (fun c_39 => ?_)
      · refine lv_aload_n hx hb dX2_cross_55 rfl (lv_at hl 1 rfl) ?_
        refine yg_rows hx hb hts hown hK hP dX2_cross_56 ?_
        refine lv_iload_n hx hb dX2_cross_59 rfl (lv_at hl 2 rfl) ?_
        refine yl_rows hx hb hK hP (by omega) dX2_cross_60 ?_
        refine lv_iconst (v := nI 1) hx hb dX2_cross_61 (by decide) ?_
        refine lv_iload_n hx hb dX2_cross_62 rfl (lv_at hl 3 rfl) ?_
        refine nv_ishl hx hb (by omega) dX2_cross_63 ?_
        refine nv_andn hx hb dX2_cross_64 dX2_cross_65 dX2_cross_66 ?_
        refine ys_rows hx hb hK hP hD hS (by omega) dX2_cross_67 (fun H locs hP hD hS => ?_)
        refine lv_iload hx hb dX2_cross_68 (lv_at hl 0 rfl) ?_
        exact xRW.ret hx hb hr rfl hlocks hS dX2_cross_70 (un R j (nd (R j) (2 ^ i)), cb, pb, cl, ch) ⟨by rw [crV_3 (by omega) (by omega) hj hi], by rw [crR_3 (by omega) (by omega) hj hi, if_pos c_39]⟩ hP hD
      · refine lv_aload_n hx hb dX2_cross_42 rfl (lv_at hl 1 rfl) ?_
        refine yg_rows hx hb hts hown hK hP dX2_cross_43 ?_
        refine lv_iload_n hx hb dX2_cross_46 rfl (lv_at hl 2 rfl) ?_
        refine yl_rows hx hb hK hP (by omega) dX2_cross_47 ?_
        refine lv_iconst (v := nI 1) hx hb dX2_cross_48 (by decide) ?_
        refine lv_iload_n hx hb dX2_cross_49 rfl (lv_at hl 3 rfl) ?_
        refine nv_ishl hx hb (by omega) dX2_cross_50 ?_
        refine nv_ior hx hb dX2_cross_51 ?_
        refine lv_goto (tgt := 67) hx hb dX2_cross_52 (by decide) ?_
        refine ys_rows hx hb hK hP hD hS (by omega) dX2_cross_67 (fun H locs hP hD hS => ?_)
        refine lv_iload hx hb dX2_cross_68 (lv_at hl 0 rfl) ?_
        exact xRW.ret hx hb hr rfl hlocks hS dX2_cross_70 (un R j (R j ||| 2 ^ i), cb, pb, cl, ch) ⟨by rw [crV_3 (by omega) (by omega) hj hi], by rw [crR_3 (by omega) (by omega) hj hi, if_neg c_39]⟩ hP hD
    · refine lv_bipush (v := (-2)) hx hb dX2_cross_18 (by decide) ?_
      exact xRW.ret hx hb hr rfl hlocks hS dX2_cross_20 (R, cb, pb, cl, ch) ⟨by rw [crV_2 (nB_f c_5) (nB_t c_15)], by rw [crR_2 (nB_t c_15)]⟩ hP hD
  · refine lv_iconst (v := (-1)) hx hb dX2_cross_8 (by decide) ?_
    exact xRW.ret hx hb hr rfl hlocks hS dX2_cross_9 (R, cb, pb, cl, ch) ⟨by rw [crV_1 (nB_t c_5)], by rw [crR_1 (nB_t c_5)]⟩ hP hD

set_option maxHeartbeats 4000000 in
set_option maxRecDepth 100000 in
theorem m_X2_row {l : Launch} {D : va_G} {d z : ClassId} {h : Nat → Nat} {n m : Nat} {R : Nat → Nat} {cb pb : Nat → Bool} {cl ch : Nat → Nat} (hn : n ≤ 8) (hm : m ≤ 7) {o x : Int32} : xRW (YS) l yX2_row cX2_row 4 (some .int) 1 21 D (tyX d z) (yw h d z n m R cb pb cl ch) [.ref (h 0), .int o, .int x] (fun r u => r = rwV n m R o x ∧ u.1 = rwR n m R o x) (fun u => yW h d z n m u) := by
  refine xRW.of (by decide) (Nat.le_of_ble_eq_true rfl) ?_
  intro p e S M below meth c hB hK hP hD ls hl
  obtain ⟨hx, hb, hr, hml, hown, hlocks, hts⟩ := hB
  have hown : S.vm.findClass RX2 = some M.cls := hown
  have hS : va_S (va_A (yw h d z n m R cb pb cl ch) S.heap.size) S.heap S.heap [] := va_S.rf
  have hA : ∀ q : Nat, S.heap.size ≤ q → (va_A (yw h d z n m R cb pb cl ch) S.heap.size) q := fun _ h => Or.inr h
  have hl : lv_has ls 4 [(0, .ref (h 0)), (1, .int o), (2, .int x)] := hl
  refine lv_aload_n hx hb dX2_row_0 rfl (lv_at hl 0 rfl) ?_
  refine lv_iload_n hx hb dX2_row_1 rfl (lv_at hl 1 rfl) ?_
  refine xRO.call (m_X2_badObject hn) ⟨hx, hb, hml, hown, hts⟩ (cwV 1 hts (lw_V q250 q252 qs13 q28 q253) rfl rfl rfl (by decide +kernel) ⟨Nat.le_of_ble_eq_true rfl, Nat.le_of_ble_eq_true rfl⟩) hK hP (y_rc hK hP) hS hA hl.1 rfl rfl (Nat.le_of_ble_eq_true rfl) ⟨Nat.zero_le _, Nat.zero_le _⟩ dX2_row_2 (fun r_ H locs hr_ hT hS => ?_)
  have hP := hT _ hP
  subst hr_
  refine nv_eqB hx hb (tgt := 10) dX2_row_5 (by decide) (fun c_5 => ?_) (fun c_5 => ?_)
  · refine lv_aload_n hx hb dX2_row_10 rfl (lv_at hl 0 rfl) ?_
    refine lv_iload_n hx hb dX2_row_11 rfl (lv_at hl 2 rfl) ?_
    refine xRO.call (m_X2_badSet hm) ⟨hx, hb, hml, hown, hts⟩ (cwV 1 hts (lw_V q262 q264 qs15 q28 q265) rfl rfl rfl (by decide +kernel) ⟨Nat.le_of_ble_eq_true rfl, Nat.le_of_ble_eq_true rfl⟩) hK hP (y_rc hK hP) hS hA hl.1 rfl rfl (Nat.le_of_ble_eq_true rfl) ⟨Nat.zero_le _, Nat.zero_le _⟩ dX2_row_12 (fun r_ H locs hr_ hT hS => ?_)
    have hP := hT _ hP
    subst hr_
    refine nv_eqB hx hb (tgt := 21) dX2_row_15 (by decide) (fun c_15 => ?_) (fun c_15 => ?_)
    · obtain ⟨j, hj, rfl⟩ := inB_t (by omega) (nB_f c_5)
      obtain ⟨s, hs, rfl⟩ := inB_t (pow_lt hm) (nB_f c_15)
      refine lv_aload_n hx hb dX2_row_21 rfl (lv_at hl 0 rfl) ?_
      refine yg_rows hx hb hts hown hK hP dX2_row_22 ?_
      refine lv_iload_n hx hb dX2_row_25 rfl (lv_at hl 1 rfl) ?_
      refine yl_rows hx hb hK hP (by omega) dX2_row_26 ?_
      refine lv_istore_n (lv' := [(3, .int (nI (R j))), (0, .ref (h 0)), (1, .int (nI j)), (2, .int (nI s))]) hx hb dX2_row_27 rfl hl (by decide) rfl (fun ls hl => ?_)
      refine lv_aload_n hx hb dX2_row_28 rfl (lv_at hl 1 rfl) ?_
      refine yg_rows hx hb hts hown hK hP dX2_row_29 ?_
      refine lv_iload_n hx hb dX2_row_32 rfl (lv_at hl 2 rfl) ?_
      refine lv_iload_n hx hb dX2_row_33 rfl (lv_at hl 3 rfl) ?_
      refine ys_rows hx hb hK hP hD hS (by omega) dX2_row_34 (fun H locs hP hD hS => ?_)
      refine lv_iload_n hx hb dX2_row_35 rfl (lv_at hl 0 rfl) ?_
      exact xRW.ret hx hb hr rfl hlocks hS dX2_row_36 (un R j s, cb, pb, cl, ch) ⟨by rw [rwV_3 (by omega) (pow_lt hm) hj hs], by rw [rwR_3 (by omega) (pow_lt hm) hj hs]⟩ hP hD
    · refine lv_bipush (v := (-2)) hx hb dX2_row_18 (by decide) ?_
      exact xRW.ret hx hb hr rfl hlocks hS dX2_row_20 (R, cb, pb, cl, ch) ⟨by rw [rwV_2 (nB_f c_5) (nB_t c_15)], by rw [rwR_2 (nB_t c_15)]⟩ hP hD
  · refine lv_iconst (v := (-1)) hx hb dX2_row_8 (by decide) ?_
    exact xRW.ret hx hb hr rfl hlocks hS dX2_row_9 (R, cb, pb, cl, ch) ⟨by rw [rwV_1 (nB_t c_5)], by rw [rwR_1 (nB_t c_5)]⟩ hP hD

set_option maxHeartbeats 4000000 in
set_option maxRecDepth 100000 in
theorem m_X2_closedSets {l : Launch} {D : va_G} {d z : ClassId} {h : Nat → Nat} {n m : Nat} {R : Nat → Nat} {cb pb : Nat → Bool} {cl ch : Nat → Nat} (hn : n ≤ 8) (hm : m ≤ 7) (hR : ∀ g, R g < 2 ^ m) : xRW (YS) l yX2_closedSets cX2_closedSets 3 (some .int) 4 88 D (tyX d z) (yw h d z n m R cb pb cl ch) [.ref (h 0)] (fun r u => r = nI (enm (isC (clo n m R)) (2 ^ m)).length ∧ u.1 = R) (fun u => yW h d z n m u) := by
  refine xRW.of (by decide) (Nat.le_of_ble_eq_true rfl) ?_
  intro p e S M below meth c hB hK hP hD ls hl
  obtain ⟨hx, hb, hr, hml, hown, hlocks, hts⟩ := hB
  have hown : S.vm.findClass RX2 = some M.cls := hown
  have hS : va_S (va_A (yw h d z n m R cb pb cl ch) S.heap.size) S.heap S.heap [] := va_S.rf
  have hA : ∀ q : Nat, S.heap.size ≤ q → (va_A (yw h d z n m R cb pb cl ch) S.heap.size) q := fun _ h => Or.inr h
  have hl : lv_has ls 3 [(0, .ref (h 0))] := hl
  refine lv_aload_n hx hb dX2_closedSets_0 rfl (lv_at hl 0 rfl) ?_
  refine xRV.call0 (m_X2_tabulate hn hm hR) ⟨hx, hb, hml, hown, hts⟩ (cwV 0 hts (lw_V q302 q304 qs20 q28 q305) rfl rfl rfl (by decide +kernel) ⟨Nat.le_of_ble_eq_true rfl, Nat.le_of_ble_eq_true rfl⟩) hK hP hD (y_rc hK hP) hS hA hl.1 rfl rfl (Nat.le_of_ble_eq_true rfl) ⟨Nat.zero_le _, Nat.zero_le _⟩ dX2_closedSets_1 (fun u_ H locs hu_ hP hD hS => ?_)
  obtain ⟨cb1, pb1, cl1⟩ := u_
  have hP : va_P D clX (yw h d z n m R cb1 pb1 cl1 ch) H := hP
  have hD : va_D (va_A (yw h d z n m R cb pb cl ch) S.heap.size) (yw h d z n m R cb1 pb1 cl1 ch) := hD
  have hu_ : Tab n m R (2 ^ m) cb1 pb1 cl1 := hu_
  refine lv_iconst (v := nI 0) hx hb dX2_closedSets_4 (by decide) ?_
  refine lv_istore_n (lv' := [(1, .int (nI 0)), (0, .ref (h 0))]) hx hb dX2_closedSets_5 rfl hl (by decide) rfl (fun ls hl => ?_)
  refine lv_iconst (v := nI 0) hx hb dX2_closedSets_6 (by decide) ?_
  refine lv_istore_n (lv' := [(2, .int (nI 0)), (1, .int (nI 0)), (0, .ref (h 0))]) hx hb dX2_closedSets_7 rfl hl (by decide) rfl (fun ls hl => ?_)
  refine nv_loop (fun (i : Nat) (H : Heap) (locs : List Loc) (ls : Array Slot) => ∃ (r : Nat), r = (enm (isC (clo n m R)) i).length ∧ va_P D clX (yw h d z n m R cb1 pb1 cl1 ch) H ∧ va_D (va_A (yw h d z n m R cb pb cl ch) S.heap.size) (yw h d z n m R cb1 pb1 cl1 ch) ∧ va_S (va_A (yw h d z n m R cb pb cl ch) S.heap.size) S.heap H locs ∧ lv_has ls 3 [(2, .int (nI i)), (1, .int (nI r)), (0, .ref (h 0))]) (2 ^ m) (fun i H locs ls hi_i hI ih_i => ?_) (fun H locs ls hI => ?_) 0 (Nat.zero_le _) ⟨0, rfl, hP, hD, hS, lv_sub hl [0, 1, 2] rfl⟩
  · obtain ⟨r, e_r, hP, hD, hS, hl⟩ := hI
    refine lv_iload_n hx hb dX2_closedSets_8 rfl (lv_at hl 0 rfl) ?_
    refine lv_aload_n hx hb dX2_closedSets_9 rfl (lv_at hl 2 rfl) ?_
    refine yg_all hx hb hts hown hK hP dX2_closedSets_10 ?_
    refine nv_gt hx hb (set_lt hm hi_i) (all_lt hm) (tgt := 34) dX2_closedSets_13 (by decide) (fun c_13 => ?_) (fun c_13 => ?_)
    · exact absurd hi_i (by have := pw_1 m; omega)
    · refine lv_aload_n hx hb dX2_closedSets_16 rfl (lv_at hl 2 rfl) ?_
      refine yg_closed hx hb hts hown hK hP dX2_closedSets_17 ?_
      refine lv_iload_n hx hb dX2_closedSets_20 rfl (lv_at hl 0 rfl) ?_
      refine yl_closed hx hb hK hP (by have := p7 hm; omega) dX2_closedSets_21 ?_
      rw [hu_.c hi_i]
      refine nv_eqB hx hb (tgt := 28) dX2_closedSets_22 (by decide) (fun c_22 => ?_) (fun c_22 => ?_)
      · refine lv_iinc (v := nI (i + 1)) (lv' := [(2, .int (nI (i + 1))), (1, .int (nI r)), (0, .ref (h 0))]) hx hb dX2_closedSets_28 hl (k := 0) rfl (nI_1 _) (by decide) rfl (fun ls hl => ?_)
        refine lv_goto (tgt := 8) hx hb dX2_closedSets_31 (by decide) ?_
        exact ih_i _ _ _ ⟨r, by rw [enm_no c_22]; exact e_r, hP, hD, hS, lv_sub hl [0, 1, 2] rfl⟩
      · refine lv_iinc (v := nI (r + 1)) (lv' := [(1, .int (nI (r + 1))), (2, .int (nI i)), (0, .ref (h 0))]) hx hb dX2_closedSets_25 hl (k := 1) rfl (nI_1 _) (by decide) rfl (fun ls hl => ?_)
        refine lv_iinc (v := nI (i + 1)) (lv' := [(2, .int (nI (i + 1))), (1, .int (nI (r + 1))), (0, .ref (h 0))]) hx hb dX2_closedSets_28 hl (k := 1) rfl (nI_1 _) (by decide) rfl (fun ls hl => ?_)
        refine lv_goto (tgt := 8) hx hb dX2_closedSets_31 (by decide) ?_
        exact ih_i _ _ _ ⟨r + 1, by rw [enm_yes c_22, e_r], hP, hD, hS, lv_sub hl [0, 1, 2] rfl⟩
  · obtain ⟨r, e_r, hP, hD, hS, hl⟩ := hI
    refine lv_iload_n hx hb dX2_closedSets_8 rfl (lv_at hl 0 rfl) ?_
    refine lv_aload_n hx hb dX2_closedSets_9 rfl (lv_at hl 2 rfl) ?_
    refine yg_all hx hb hts hown hK hP dX2_closedSets_10 ?_
    refine nv_gt hx hb (pow_lt hm) (all_lt hm) (tgt := 34) dX2_closedSets_13 (by decide) (fun c_13 => ?_) (fun c_13 => ?_)
    · refine lv_iload_n hx hb dX2_closedSets_34 rfl (lv_at hl 1 rfl) ?_
      exact xRW.ret hx hb hr rfl hlocks hS dX2_closedSets_35 (R, cb1, pb1, cl1, ch) ⟨by rw [e_r], rfl⟩ hP hD
    · exact absurd c_13 (by have := pw_1 m; omega)

set_option maxHeartbeats 4000000 in
set_option maxRecDepth 100000 in
theorem m_X2_rules {l : Launch} {D : va_G} {d z : ClassId} {h : Nat → Nat} {n m : Nat} {R : Nat → Nat} {cb pb : Nat → Bool} {cl ch : Nat → Nat} (hn : n ≤ 8) (hm : m ≤ 7) (hR : ∀ g, R g < 2 ^ m) : xRW (YS) l yX2_rules cX2_rules 3 (some .int) 4 88 D (tyX d z) (yw h d z n m R cb pb cl ch) [.ref (h 0)] (fun r u => r = nI (enm (isP (clo n m R)) (2 ^ m)).length ∧ u.1 = R) (fun u => yW h d z n m u) := by
  refine xRW.of (by decide) (Nat.le_of_ble_eq_true rfl) ?_
  intro p e S M below meth c hB hK hP hD ls hl
  obtain ⟨hx, hb, hr, hml, hown, hlocks, hts⟩ := hB
  have hown : S.vm.findClass RX2 = some M.cls := hown
  have hS : va_S (va_A (yw h d z n m R cb pb cl ch) S.heap.size) S.heap S.heap [] := va_S.rf
  have hA : ∀ q : Nat, S.heap.size ≤ q → (va_A (yw h d z n m R cb pb cl ch) S.heap.size) q := fun _ h => Or.inr h
  have hl : lv_has ls 3 [(0, .ref (h 0))] := hl
  refine lv_aload_n hx hb dX2_rules_0 rfl (lv_at hl 0 rfl) ?_
  refine xRV.call0 (m_X2_tabulate hn hm hR) ⟨hx, hb, hml, hown, hts⟩ (cwV 0 hts (lw_V q302 q304 qs20 q28 q305) rfl rfl rfl (by decide +kernel) ⟨Nat.le_of_ble_eq_true rfl, Nat.le_of_ble_eq_true rfl⟩) hK hP hD (y_rc hK hP) hS hA hl.1 rfl rfl (Nat.le_of_ble_eq_true rfl) ⟨Nat.zero_le _, Nat.zero_le _⟩ dX2_rules_1 (fun u_ H locs hu_ hP hD hS => ?_)
  obtain ⟨cb1, pb1, cl1⟩ := u_
  have hP : va_P D clX (yw h d z n m R cb1 pb1 cl1 ch) H := hP
  have hD : va_D (va_A (yw h d z n m R cb pb cl ch) S.heap.size) (yw h d z n m R cb1 pb1 cl1 ch) := hD
  have hu_ : Tab n m R (2 ^ m) cb1 pb1 cl1 := hu_
  refine lv_iconst (v := nI 0) hx hb dX2_rules_4 (by decide) ?_
  refine lv_istore_n (lv' := [(1, .int (nI 0)), (0, .ref (h 0))]) hx hb dX2_rules_5 rfl hl (by decide) rfl (fun ls hl => ?_)
  refine lv_iconst (v := nI 0) hx hb dX2_rules_6 (by decide) ?_
  refine lv_istore_n (lv' := [(2, .int (nI 0)), (1, .int (nI 0)), (0, .ref (h 0))]) hx hb dX2_rules_7 rfl hl (by decide) rfl (fun ls hl => ?_)
  refine nv_loop (fun (i : Nat) (H : Heap) (locs : List Loc) (ls : Array Slot) => ∃ (r : Nat), r = (enm (isP (clo n m R)) i).length ∧ va_P D clX (yw h d z n m R cb1 pb1 cl1 ch) H ∧ va_D (va_A (yw h d z n m R cb pb cl ch) S.heap.size) (yw h d z n m R cb1 pb1 cl1 ch) ∧ va_S (va_A (yw h d z n m R cb pb cl ch) S.heap.size) S.heap H locs ∧ lv_has ls 3 [(2, .int (nI i)), (1, .int (nI r)), (0, .ref (h 0))]) (2 ^ m) (fun i H locs ls hi_i hI ih_i => ?_) (fun H locs ls hI => ?_) 0 (Nat.zero_le _) ⟨0, rfl, hP, hD, hS, lv_sub hl [0, 1, 2] rfl⟩
  · obtain ⟨r, e_r, hP, hD, hS, hl⟩ := hI
    refine lv_iload_n hx hb dX2_rules_8 rfl (lv_at hl 0 rfl) ?_
    refine lv_aload_n hx hb dX2_rules_9 rfl (lv_at hl 2 rfl) ?_
    refine yg_all hx hb hts hown hK hP dX2_rules_10 ?_
    refine nv_gt hx hb (set_lt hm hi_i) (all_lt hm) (tgt := 34) dX2_rules_13 (by decide) (fun c_13 => ?_) (fun c_13 => ?_)
    · exact absurd hi_i (by have := pw_1 m; omega)
    · refine lv_aload_n hx hb dX2_rules_16 rfl (lv_at hl 2 rfl) ?_
      refine yg_pseudo hx hb hts hown hK hP dX2_rules_17 ?_
      refine lv_iload_n hx hb dX2_rules_20 rfl (lv_at hl 0 rfl) ?_
      refine yl_pseudo hx hb hK hP (by have := p7 hm; omega) dX2_rules_21 ?_
      rw [hu_.p hi_i]
      refine nv_eqB hx hb (tgt := 28) dX2_rules_22 (by decide) (fun c_22 => ?_) (fun c_22 => ?_)
      · refine lv_iinc (v := nI (i + 1)) (lv' := [(2, .int (nI (i + 1))), (1, .int (nI r)), (0, .ref (h 0))]) hx hb dX2_rules_28 hl (k := 0) rfl (nI_1 _) (by decide) rfl (fun ls hl => ?_)
        refine lv_goto (tgt := 8) hx hb dX2_rules_31 (by decide) ?_
        exact ih_i _ _ _ ⟨r, by rw [enm_no c_22]; exact e_r, hP, hD, hS, lv_sub hl [0, 1, 2] rfl⟩
      · refine lv_iinc (v := nI (r + 1)) (lv' := [(1, .int (nI (r + 1))), (2, .int (nI i)), (0, .ref (h 0))]) hx hb dX2_rules_25 hl (k := 1) rfl (nI_1 _) (by decide) rfl (fun ls hl => ?_)
        refine lv_iinc (v := nI (i + 1)) (lv' := [(2, .int (nI (i + 1))), (1, .int (nI (r + 1))), (0, .ref (h 0))]) hx hb dX2_rules_28 hl (k := 1) rfl (nI_1 _) (by decide) rfl (fun ls hl => ?_)
        refine lv_goto (tgt := 8) hx hb dX2_rules_31 (by decide) ?_
        exact ih_i _ _ _ ⟨r + 1, by rw [enm_yes c_22, e_r], hP, hD, hS, lv_sub hl [0, 1, 2] rfl⟩
  · obtain ⟨r, e_r, hP, hD, hS, hl⟩ := hI
    refine lv_iload_n hx hb dX2_rules_8 rfl (lv_at hl 0 rfl) ?_
    refine lv_aload_n hx hb dX2_rules_9 rfl (lv_at hl 2 rfl) ?_
    refine yg_all hx hb hts hown hK hP dX2_rules_10 ?_
    refine nv_gt hx hb (pow_lt hm) (all_lt hm) (tgt := 34) dX2_rules_13 (by decide) (fun c_13 => ?_) (fun c_13 => ?_)
    · refine lv_iload_n hx hb dX2_rules_34 rfl (lv_at hl 1 rfl) ?_
      exact xRW.ret hx hb hr rfl hlocks hS dX2_rules_35 (R, cb1, pb1, cl1, ch) ⟨by rw [e_r], rfl⟩ hP hD
    · exact absurd c_13 (by have := pw_1 m; omega)

set_option maxHeartbeats 4000000 in
set_option maxRecDepth 100000 in
theorem m_X2_closedSet {l : Launch} {D : va_G} {d z : ClassId} {h : Nat → Nat} {n m : Nat} {R : Nat → Nat} {cb pb : Nat → Bool} {cl ch : Nat → Nat} (hn : n ≤ 8) (hm : m ≤ 7) (hR : ∀ g, R g < 2 ^ m) {x : Int32} : xRW (YS) l yX2_closedSet cX2_closedSet 4 (some .int) 4 88 D (tyX d z) (yw h d z n m R cb pb cl ch) [.ref (h 0), .int x] (fun r u => r = atL (enm (isC (clo n m R)) (2 ^ m)) x ∧ u.1 = R) (fun u => yW h d z n m u) := by
  refine xRW.of (by decide) (Nat.le_of_ble_eq_true rfl) ?_
  intro p e S M below meth c hB hK hP hD ls hl
  obtain ⟨hx, hb, hr, hml, hown, hlocks, hts⟩ := hB
  have hown : S.vm.findClass RX2 = some M.cls := hown
  have hS : va_S (va_A (yw h d z n m R cb pb cl ch) S.heap.size) S.heap S.heap [] := va_S.rf
  have hA : ∀ q : Nat, S.heap.size ≤ q → (va_A (yw h d z n m R cb pb cl ch) S.heap.size) q := fun _ h => Or.inr h
  have hl : lv_has ls 4 [(0, .ref (h 0)), (1, .int x)] := hl
  refine lv_aload_n hx hb dX2_closedSet_0 rfl (lv_at hl 0 rfl) ?_
  refine xRV.call0 (m_X2_tabulate hn hm hR) ⟨hx, hb, hml, hown, hts⟩ (cwV 0 hts (lw_V q302 q304 qs20 q28 q305) rfl rfl rfl (by decide +kernel) ⟨Nat.le_of_ble_eq_true rfl, Nat.le_of_ble_eq_true rfl⟩) hK hP hD (y_rc hK hP) hS hA hl.1 rfl rfl (Nat.le_of_ble_eq_true rfl) ⟨Nat.zero_le _, Nat.zero_le _⟩ dX2_closedSet_1 (fun u_ H locs hu_ hP hD hS => ?_)
  obtain ⟨cb1, pb1, cl1⟩ := u_
  have hP : va_P D clX (yw h d z n m R cb1 pb1 cl1 ch) H := hP
  have hD : va_D (va_A (yw h d z n m R cb pb cl ch) S.heap.size) (yw h d z n m R cb1 pb1 cl1 ch) := hD
  have hu_ : Tab n m R (2 ^ m) cb1 pb1 cl1 := hu_
  refine lv_iconst (v := nI 0) hx hb dX2_closedSet_4 (by decide) ?_
  refine lv_istore_n (lv' := [(2, .int (nI 0)), (0, .ref (h 0)), (1, .int x)]) hx hb dX2_closedSet_5 rfl hl (by decide) rfl (fun ls hl => ?_)
  refine lv_iconst (v := nI 0) hx hb dX2_closedSet_6 (by decide) ?_
  refine lv_istore_n (lv' := [(3, .int (nI 0)), (2, .int (nI 0)), (0, .ref (h 0)), (1, .int x)]) hx hb dX2_closedSet_7 rfl hl (by decide) rfl (fun ls hl => ?_)
  refine nv_loop (fun (i : Nat) (H : Heap) (locs : List Loc) (ls : Array Slot) => ∃ (r : Nat), r = (enm (isC (clo n m R)) i).length ∧ (∀ j, j < r → ¬ nI j = x) ∧ va_P D clX (yw h d z n m R cb1 pb1 cl1 ch) H ∧ va_D (va_A (yw h d z n m R cb pb cl ch) S.heap.size) (yw h d z n m R cb1 pb1 cl1 ch) ∧ va_S (va_A (yw h d z n m R cb pb cl ch) S.heap.size) S.heap H locs ∧ lv_has ls 4 [(3, .int (nI i)), (2, .int (nI r)), (0, .ref (h 0)), (1, .int x)]) (2 ^ m) (fun i H locs ls hi_i hI ih_i => ?_) (fun H locs ls hI => ?_) 0 (Nat.zero_le _) ⟨0, rfl, fun j hj => absurd hj (by omega), hP, hD, hS, lv_sub hl [0, 1, 2, 3] rfl⟩
  · obtain ⟨r, e_r, h_n, hP, hD, hS, hl⟩ := hI
    refine lv_iload_n hx hb dX2_closedSet_8 rfl (lv_at hl 0 rfl) ?_
    refine lv_aload_n hx hb dX2_closedSet_9 rfl (lv_at hl 2 rfl) ?_
    refine yg_all hx hb hts hown hK hP dX2_closedSet_10 ?_
    refine nv_gt hx hb (set_lt hm hi_i) (all_lt hm) (tgt := 41) dX2_closedSet_13 (by decide) (fun c_13 => ?_) (fun c_13 => ?_)
    · exact absurd hi_i (by have := pw_1 m; omega)
    · refine lv_aload_n hx hb dX2_closedSet_16 rfl (lv_at hl 2 rfl) ?_
      refine yg_closed hx hb hts hown hK hP dX2_closedSet_17 ?_
      refine lv_iload_n hx hb dX2_closedSet_20 rfl (lv_at hl 0 rfl) ?_
      refine yl_closed hx hb hK hP (by have := p7 hm; omega) dX2_closedSet_21 ?_
      rw [hu_.c hi_i]
      refine nv_eqB hx hb (tgt := 35) dX2_closedSet_22 (by decide) (fun c_22 => ?_) (fun c_22 => ?_)
      · refine lv_iinc (v := nI (i + 1)) (lv' := [(3, .int (nI (i + 1))), (2, .int (nI r)), (0, .ref (h 0)), (1, .int x)]) hx hb dX2_closedSet_35 hl (k := 0) rfl (nI_1 _) (by decide) rfl (fun ls hl => ?_)
        refine lv_goto (tgt := 8) hx hb dX2_closedSet_38 (by decide) ?_
        exact ih_i _ _ _ ⟨r, by rw [enm_no c_22]; exact e_r, h_n, hP, hD, hS, lv_sub hl [0, 1, 2, 3] rfl⟩
      · refine lv_iload_n hx hb dX2_closedSet_25 rfl (lv_at hl 1 rfl) ?_
        refine lv_iload_n hx hb dX2_closedSet_26 rfl (lv_at hl 3 rfl) ?_
        refine lv_icmp_ne (tgt := 32) hx hb dX2_closedSet_27 (by decide) (fun c_27 => ?_) (fun c_27 => ?_)
        · refine lv_iinc (v := nI (r + 1)) (lv' := [(2, .int (nI (r + 1))), (3, .int (nI i)), (0, .ref (h 0)), (1, .int x)]) hx hb dX2_closedSet_32 hl (k := 1) rfl (nI_1 _) (by decide) rfl (fun ls hl => ?_)
          refine lv_iinc (v := nI (i + 1)) (lv' := [(3, .int (nI (i + 1))), (2, .int (nI (r + 1))), (0, .ref (h 0)), (1, .int x)]) hx hb dX2_closedSet_35 hl (k := 1) rfl (nI_1 _) (by decide) rfl (fun ls hl => ?_)
          refine lv_goto (tgt := 8) hx hb dX2_closedSet_38 (by decide) ?_
          exact ih_i _ _ _ ⟨r + 1, by rw [enm_yes c_22, e_r], lt_s h_n c_27, hP, hD, hS, lv_sub hl [0, 1, 2, 3] rfl⟩
        · refine lv_iload_n hx hb dX2_closedSet_30 rfl (lv_at hl 0 rfl) ?_
          exact xRW.ret hx hb hr rfl hlocks hS dX2_closedSet_31 (R, cb1, pb1, cl1, ch) ⟨by rw [← c_27, at_found e_r c_22 hi_i (pow_lt hm)], rfl⟩ hP hD
  · obtain ⟨r, e_r, h_n, hP, hD, hS, hl⟩ := hI
    refine lv_iload_n hx hb dX2_closedSet_8 rfl (lv_at hl 0 rfl) ?_
    refine lv_aload_n hx hb dX2_closedSet_9 rfl (lv_at hl 2 rfl) ?_
    refine yg_all hx hb hts hown hK hP dX2_closedSet_10 ?_
    refine nv_gt hx hb (pow_lt hm) (all_lt hm) (tgt := 41) dX2_closedSet_13 (by decide) (fun c_13 => ?_) (fun c_13 => ?_)
    · refine lv_iconst (v := (-1)) hx hb dX2_closedSet_41 (by decide) ?_
      exact xRW.ret hx hb hr rfl hlocks hS dX2_closedSet_42 (R, cb1, pb1, cl1, ch) ⟨by rw [at_none (pow_lt hm) (by rw [← e_r]; exact h_n)], rfl⟩ hP hD
    · exact absurd c_13 (by have := pw_1 m; omega)

set_option maxHeartbeats 4000000 in
set_option maxRecDepth 100000 in
theorem m_X2_rule {l : Launch} {D : va_G} {d z : ClassId} {h : Nat → Nat} {n m : Nat} {R : Nat → Nat} {cb pb : Nat → Bool} {cl ch : Nat → Nat} (hn : n ≤ 8) (hm : m ≤ 7) (hR : ∀ g, R g < 2 ^ m) {x : Int32} : xRW (YS) l yX2_rule cX2_rule 4 (some .int) 4 88 D (tyX d z) (yw h d z n m R cb pb cl ch) [.ref (h 0), .int x] (fun r u => r = atL (enm (isP (clo n m R)) (2 ^ m)) x ∧ u.1 = R) (fun u => yW h d z n m u) := by
  refine xRW.of (by decide) (Nat.le_of_ble_eq_true rfl) ?_
  intro p e S M below meth c hB hK hP hD ls hl
  obtain ⟨hx, hb, hr, hml, hown, hlocks, hts⟩ := hB
  have hown : S.vm.findClass RX2 = some M.cls := hown
  have hS : va_S (va_A (yw h d z n m R cb pb cl ch) S.heap.size) S.heap S.heap [] := va_S.rf
  have hA : ∀ q : Nat, S.heap.size ≤ q → (va_A (yw h d z n m R cb pb cl ch) S.heap.size) q := fun _ h => Or.inr h
  have hl : lv_has ls 4 [(0, .ref (h 0)), (1, .int x)] := hl
  refine lv_aload_n hx hb dX2_rule_0 rfl (lv_at hl 0 rfl) ?_
  refine xRV.call0 (m_X2_tabulate hn hm hR) ⟨hx, hb, hml, hown, hts⟩ (cwV 0 hts (lw_V q302 q304 qs20 q28 q305) rfl rfl rfl (by decide +kernel) ⟨Nat.le_of_ble_eq_true rfl, Nat.le_of_ble_eq_true rfl⟩) hK hP hD (y_rc hK hP) hS hA hl.1 rfl rfl (Nat.le_of_ble_eq_true rfl) ⟨Nat.zero_le _, Nat.zero_le _⟩ dX2_rule_1 (fun u_ H locs hu_ hP hD hS => ?_)
  obtain ⟨cb1, pb1, cl1⟩ := u_
  have hP : va_P D clX (yw h d z n m R cb1 pb1 cl1 ch) H := hP
  have hD : va_D (va_A (yw h d z n m R cb pb cl ch) S.heap.size) (yw h d z n m R cb1 pb1 cl1 ch) := hD
  have hu_ : Tab n m R (2 ^ m) cb1 pb1 cl1 := hu_
  refine lv_iconst (v := nI 0) hx hb dX2_rule_4 (by decide) ?_
  refine lv_istore_n (lv' := [(2, .int (nI 0)), (0, .ref (h 0)), (1, .int x)]) hx hb dX2_rule_5 rfl hl (by decide) rfl (fun ls hl => ?_)
  refine lv_iconst (v := nI 0) hx hb dX2_rule_6 (by decide) ?_
  refine lv_istore_n (lv' := [(3, .int (nI 0)), (2, .int (nI 0)), (0, .ref (h 0)), (1, .int x)]) hx hb dX2_rule_7 rfl hl (by decide) rfl (fun ls hl => ?_)
  refine nv_loop (fun (i : Nat) (H : Heap) (locs : List Loc) (ls : Array Slot) => ∃ (r : Nat), r = (enm (isP (clo n m R)) i).length ∧ (∀ j, j < r → ¬ nI j = x) ∧ va_P D clX (yw h d z n m R cb1 pb1 cl1 ch) H ∧ va_D (va_A (yw h d z n m R cb pb cl ch) S.heap.size) (yw h d z n m R cb1 pb1 cl1 ch) ∧ va_S (va_A (yw h d z n m R cb pb cl ch) S.heap.size) S.heap H locs ∧ lv_has ls 4 [(3, .int (nI i)), (2, .int (nI r)), (0, .ref (h 0)), (1, .int x)]) (2 ^ m) (fun i H locs ls hi_i hI ih_i => ?_) (fun H locs ls hI => ?_) 0 (Nat.zero_le _) ⟨0, rfl, fun j hj => absurd hj (by omega), hP, hD, hS, lv_sub hl [0, 1, 2, 3] rfl⟩
  · obtain ⟨r, e_r, h_n, hP, hD, hS, hl⟩ := hI
    refine lv_iload_n hx hb dX2_rule_8 rfl (lv_at hl 0 rfl) ?_
    refine lv_aload_n hx hb dX2_rule_9 rfl (lv_at hl 2 rfl) ?_
    refine yg_all hx hb hts hown hK hP dX2_rule_10 ?_
    refine nv_gt hx hb (set_lt hm hi_i) (all_lt hm) (tgt := 41) dX2_rule_13 (by decide) (fun c_13 => ?_) (fun c_13 => ?_)
    · exact absurd hi_i (by have := pw_1 m; omega)
    · refine lv_aload_n hx hb dX2_rule_16 rfl (lv_at hl 2 rfl) ?_
      refine yg_pseudo hx hb hts hown hK hP dX2_rule_17 ?_
      refine lv_iload_n hx hb dX2_rule_20 rfl (lv_at hl 0 rfl) ?_
      refine yl_pseudo hx hb hK hP (by have := p7 hm; omega) dX2_rule_21 ?_
      rw [hu_.p hi_i]
      refine nv_eqB hx hb (tgt := 35) dX2_rule_22 (by decide) (fun c_22 => ?_) (fun c_22 => ?_)
      · refine lv_iinc (v := nI (i + 1)) (lv' := [(3, .int (nI (i + 1))), (2, .int (nI r)), (0, .ref (h 0)), (1, .int x)]) hx hb dX2_rule_35 hl (k := 0) rfl (nI_1 _) (by decide) rfl (fun ls hl => ?_)
        refine lv_goto (tgt := 8) hx hb dX2_rule_38 (by decide) ?_
        exact ih_i _ _ _ ⟨r, by rw [enm_no c_22]; exact e_r, h_n, hP, hD, hS, lv_sub hl [0, 1, 2, 3] rfl⟩
      · refine lv_iload_n hx hb dX2_rule_25 rfl (lv_at hl 1 rfl) ?_
        refine lv_iload_n hx hb dX2_rule_26 rfl (lv_at hl 3 rfl) ?_
        refine lv_icmp_ne (tgt := 32) hx hb dX2_rule_27 (by decide) (fun c_27 => ?_) (fun c_27 => ?_)
        · refine lv_iinc (v := nI (r + 1)) (lv' := [(2, .int (nI (r + 1))), (3, .int (nI i)), (0, .ref (h 0)), (1, .int x)]) hx hb dX2_rule_32 hl (k := 1) rfl (nI_1 _) (by decide) rfl (fun ls hl => ?_)
          refine lv_iinc (v := nI (i + 1)) (lv' := [(3, .int (nI (i + 1))), (2, .int (nI (r + 1))), (0, .ref (h 0)), (1, .int x)]) hx hb dX2_rule_35 hl (k := 1) rfl (nI_1 _) (by decide) rfl (fun ls hl => ?_)
          refine lv_goto (tgt := 8) hx hb dX2_rule_38 (by decide) ?_
          exact ih_i _ _ _ ⟨r + 1, by rw [enm_yes c_22, e_r], lt_s h_n c_27, hP, hD, hS, lv_sub hl [0, 1, 2, 3] rfl⟩
        · refine lv_iload_n hx hb dX2_rule_30 rfl (lv_at hl 0 rfl) ?_
          exact xRW.ret hx hb hr rfl hlocks hS dX2_rule_31 (R, cb1, pb1, cl1, ch) ⟨by rw [← c_27, at_found e_r c_22 hi_i (pow_lt hm)], rfl⟩ hP hD
  · obtain ⟨r, e_r, h_n, hP, hD, hS, hl⟩ := hI
    refine lv_iload_n hx hb dX2_rule_8 rfl (lv_at hl 0 rfl) ?_
    refine lv_aload_n hx hb dX2_rule_9 rfl (lv_at hl 2 rfl) ?_
    refine yg_all hx hb hts hown hK hP dX2_rule_10 ?_
    refine nv_gt hx hb (pow_lt hm) (all_lt hm) (tgt := 41) dX2_rule_13 (by decide) (fun c_13 => ?_) (fun c_13 => ?_)
    · refine lv_iconst (v := (-1)) hx hb dX2_rule_41 (by decide) ?_
      exact xRW.ret hx hb hr rfl hlocks hS dX2_rule_42 (R, cb1, pb1, cl1, ch) ⟨by rw [at_none (pow_lt hm) (by rw [← e_r]; exact h_n)], rfl⟩ hP hD
    · exact absurd c_13 (by have := pw_1 m; omega)

set_option maxHeartbeats 4000000 in
set_option maxRecDepth 100000 in
theorem m_X2_nextClosed {l : Launch} {D : va_G} {d z : ClassId} {h : Nat → Nat} {n m : Nat} {R : Nat → Nat} {cb pb : Nat → Bool} {cl ch : Nat → Nat} (hn : n ≤ 8) (hm : m ≤ 7) (hR : ∀ g, R g < 2 ^ m) {x : Int32} : xRW (YS) l yX2_nextClosed cX2_nextClosed 3 (some .int) 4 88 D (tyX d z) (yw h d z n m R cb pb cl ch) [.ref (h 0), .int x] (fun r u => Nxt m (clo n m R) x r ∧ u.1 = R) (fun u => yW h d z n m u) := by
  refine xRW.of (by decide) (Nat.le_of_ble_eq_true rfl) ?_
  intro p e S M below meth c hB hK hP hD ls hl
  obtain ⟨hx, hb, hr, hml, hown, hlocks, hts⟩ := hB
  have hown : S.vm.findClass RX2 = some M.cls := hown
  have hS : va_S (va_A (yw h d z n m R cb pb cl ch) S.heap.size) S.heap S.heap [] := va_S.rf
  have hA : ∀ q : Nat, S.heap.size ≤ q → (va_A (yw h d z n m R cb pb cl ch) S.heap.size) q := fun _ h => Or.inr h
  have hl : lv_has ls 3 [(0, .ref (h 0)), (1, .int x)] := hl
  refine lv_aload_n hx hb dX2_nextClosed_0 rfl (lv_at hl 0 rfl) ?_
  refine xRV.call0 (m_X2_tabulate hn hm hR) ⟨hx, hb, hml, hown, hts⟩ (cwV 0 hts (lw_V q302 q304 qs20 q28 q305) rfl rfl rfl (by decide +kernel) ⟨Nat.le_of_ble_eq_true rfl, Nat.le_of_ble_eq_true rfl⟩) hK hP hD (y_rc hK hP) hS hA hl.1 rfl rfl (Nat.le_of_ble_eq_true rfl) ⟨Nat.zero_le _, Nat.zero_le _⟩ dX2_nextClosed_1 (fun u_ H locs hu_ hP hD hS => ?_)
  obtain ⟨cb1, pb1, cl1⟩ := u_
  have hP : va_P D clX (yw h d z n m R cb1 pb1 cl1 ch) H := hP
  have hD : va_D (va_A (yw h d z n m R cb pb cl ch) S.heap.size) (yw h d z n m R cb1 pb1 cl1 ch) := hD
  have hu_ : Tab n m R (2 ^ m) cb1 pb1 cl1 := hu_
  refine lv_iconst (v := nI 0) hx hb dX2_nextClosed_4 (by decide) ?_
  refine lv_istore_n (lv' := [(2, .int (nI 0)), (0, .ref (h 0)), (1, .int x)]) hx hb dX2_nextClosed_5 rfl hl (by decide) rfl (fun ls hl => ?_)
  refine nv_loop (fun (i : Nat) (H : Heap) (locs : List Loc) (ls : Array Slot) => (∀ Y, Y < i → clo n m R Y = Y → ¬ x < nI Y) ∧ va_P D clX (yw h d z n m R cb1 pb1 cl1 ch) H ∧ va_D (va_A (yw h d z n m R cb pb cl ch) S.heap.size) (yw h d z n m R cb1 pb1 cl1 ch) ∧ va_S (va_A (yw h d z n m R cb pb cl ch) S.heap.size) S.heap H locs ∧ lv_has ls 3 [(2, .int (nI i)), (0, .ref (h 0)), (1, .int x)]) (2 ^ m) (fun i H locs ls hi_i hI ih_i => ?_) (fun H locs ls hI => ?_) 0 (Nat.zero_le _) ⟨fun j hj => absurd hj (by omega), hP, hD, hS, lv_sub hl [0, 1, 2] rfl⟩
  · obtain ⟨h_n, hP, hD, hS, hl⟩ := hI
    refine lv_iload_n hx hb dX2_nextClosed_6 rfl (lv_at hl 0 rfl) ?_
    refine lv_aload_n hx hb dX2_nextClosed_7 rfl (lv_at hl 1 rfl) ?_
    refine yg_all hx hb hts hown hK hP dX2_nextClosed_8 ?_
    refine nv_gt hx hb (set_lt hm hi_i) (all_lt hm) (tgt := 36) dX2_nextClosed_11 (by decide) (fun c_11 => ?_) (fun c_11 => ?_)
    · exact absurd hi_i (by have := pw_1 m; omega)
    · refine lv_iload_n hx hb dX2_nextClosed_14 rfl (lv_at hl 0 rfl) ?_
      refine lv_iload_n hx hb dX2_nextClosed_15 rfl (lv_at hl 2 rfl) ?_
      refine lv_icmp_le (tgt := 30) hx hb dX2_nextClosed_16 (by decide) (fun c_16 => ?_) (fun c_16 => ?_)
      · refine lv_iinc (v := nI (i + 1)) (lv' := [(2, .int (nI (i + 1))), (0, .ref (h 0)), (1, .int x)]) hx hb dX2_nextClosed_30 hl (k := 0) rfl (nI_1 _) (by decide) rfl (fun ls hl => ?_)
        refine lv_goto (tgt := 6) hx hb dX2_nextClosed_33 (by decide) ?_
        exact ih_i _ _ _ ⟨lt_s h_n (fun _ z => absurd c_16 (Int32.not_le.mpr z)), hP, hD, hS, lv_sub hl [0, 1, 2] rfl⟩
      · refine lv_aload_n hx hb dX2_nextClosed_19 rfl (lv_at hl 1 rfl) ?_
        refine yg_closed hx hb hts hown hK hP dX2_nextClosed_20 ?_
        refine lv_iload_n hx hb dX2_nextClosed_23 rfl (lv_at hl 0 rfl) ?_
        refine yl_closed hx hb hK hP (by have := p7 hm; omega) dX2_nextClosed_24 ?_
        rw [hu_.c hi_i]
        refine nv_eqB hx hb (tgt := 30) dX2_nextClosed_25 (by decide) (fun c_25 => ?_) (fun c_25 => ?_)
        · refine lv_iinc (v := nI (i + 1)) (lv' := [(2, .int (nI (i + 1))), (0, .ref (h 0)), (1, .int x)]) hx hb dX2_nextClosed_30 hl (k := 0) rfl (nI_1 _) (by decide) rfl (fun ls hl => ?_)
          refine lv_goto (tgt := 6) hx hb dX2_nextClosed_33 (by decide) ?_
          exact ih_i _ _ _ ⟨lt_s h_n (fun z => absurd z (isC_f.mp c_25)), hP, hD, hS, lv_sub hl [0, 1, 2] rfl⟩
        · refine lv_iload_n hx hb dX2_nextClosed_28 rfl (lv_at hl 0 rfl) ?_
          exact xRW.ret hx hb hr rfl hlocks hS dX2_nextClosed_29 (R, cb1, pb1, cl1, ch) ⟨nxt_found hi_i (isC_t.mp c_25) c_16 h_n, rfl⟩ hP hD
  · obtain ⟨h_n, hP, hD, hS, hl⟩ := hI
    refine lv_iload_n hx hb dX2_nextClosed_6 rfl (lv_at hl 0 rfl) ?_
    refine lv_aload_n hx hb dX2_nextClosed_7 rfl (lv_at hl 1 rfl) ?_
    refine yg_all hx hb hts hown hK hP dX2_nextClosed_8 ?_
    refine nv_gt hx hb (pow_lt hm) (all_lt hm) (tgt := 36) dX2_nextClosed_11 (by decide) (fun c_11 => ?_) (fun c_11 => ?_)
    · refine lv_iconst (v := (-1)) hx hb dX2_nextClosed_36 (by decide) ?_
      exact xRW.ret hx hb hr rfl hlocks hS dX2_nextClosed_37 (R, cb1, pb1, cl1, ch) ⟨Or.inr ⟨rfl, h_n⟩, rfl⟩ hP hD
    · exact absurd c_11 (by have := pw_1 m; omega)

set_option maxHeartbeats 4000000 in
set_option maxRecDepth 100000 in
theorem m_X2_covers {l : Launch} {D : va_G} {d z : ClassId} {h : Nat → Nat} {n m : Nat} {R : Nat → Nat} {cb pb : Nat → Bool} {cl ch : Nat → Nat} (hn : n ≤ 8) (hm : m ≤ 7) (hR : ∀ g, R g < 2 ^ m) {x : Int32} : xRW (YS) l yX2_covers cX2_covers 2 (some .int) 4 90 D (tyX d z) (yw h d z n m R cb pb cl ch) [.ref (h 0), .int x] (fun r u => r = onS (2 ^ m) (fun s => nI (covN m (clo n m R) (clo n m R s))) x ∧ u.1 = R) (fun u => yW h d z n m u) := by
  refine xRW.of (by decide) (Nat.le_of_ble_eq_true rfl) ?_
  intro p e S M below meth c hB hK hP hD ls hl
  obtain ⟨hx, hb, hr, hml, hown, hlocks, hts⟩ := hB
  have hown : S.vm.findClass RX2 = some M.cls := hown
  have hS : va_S (va_A (yw h d z n m R cb pb cl ch) S.heap.size) S.heap S.heap [] := va_S.rf
  have hA : ∀ q : Nat, S.heap.size ≤ q → (va_A (yw h d z n m R cb pb cl ch) S.heap.size) q := fun _ h => Or.inr h
  have hl : lv_has ls 2 [(0, .ref (h 0)), (1, .int x)] := hl
  refine lv_aload_n hx hb dX2_covers_0 rfl (lv_at hl 0 rfl) ?_
  refine lv_iload_n hx hb dX2_covers_1 rfl (lv_at hl 1 rfl) ?_
  refine xRO.call (m_X2_badSet hm) ⟨hx, hb, hml, hown, hts⟩ (cwV 1 hts (lw_V q262 q264 qs15 q28 q265) rfl rfl rfl (by decide +kernel) ⟨Nat.le_of_ble_eq_true rfl, Nat.le_of_ble_eq_true rfl⟩) hK hP (y_rc hK hP) hS hA hl.1 rfl rfl (Nat.le_of_ble_eq_true rfl) ⟨Nat.zero_le _, Nat.zero_le _⟩ dX2_covers_2 (fun r_ H locs hr_ hT hS => ?_)
  have hP := hT _ hP
  subst hr_
  refine nv_eqB hx hb (tgt := 10) dX2_covers_5 (by decide) (fun c_5 => ?_) (fun c_5 => ?_)
  · obtain ⟨j, hj, rfl⟩ := inB_t (pow_lt hm) (nB_f c_5)
    refine lv_aload_n hx hb dX2_covers_10 rfl (lv_at hl 0 rfl) ?_
    refine xRV.call0 (m_X2_tabulate hn hm hR) ⟨hx, hb, hml, hown, hts⟩ (cwV 0 hts (lw_V q302 q304 qs20 q28 q305) rfl rfl rfl (by decide +kernel) ⟨Nat.le_of_ble_eq_true rfl, Nat.le_of_ble_eq_true rfl⟩) hK hP hD (y_rc hK hP) hS hA hl.1 rfl rfl (Nat.le_of_ble_eq_true rfl) ⟨Nat.zero_le _, Nat.zero_le _⟩ dX2_covers_11 (fun u_ H locs hu_ hP hD hS => ?_)
    obtain ⟨cb1, pb1, cl1⟩ := u_
    have hP : va_P D clX (yw h d z n m R cb1 pb1 cl1 ch) H := hP
    have hD : va_D (va_A (yw h d z n m R cb pb cl ch) S.heap.size) (yw h d z n m R cb1 pb1 cl1 ch) := hD
    have hu_ : Tab n m R (2 ^ m) cb1 pb1 cl1 := hu_
    refine lv_aload_n hx hb dX2_covers_14 rfl (lv_at hl 0 rfl) ?_
    refine lv_aload_n hx hb dX2_covers_15 rfl (lv_at hl 0 rfl) ?_
    refine yg_closures hx hb hts hown hK hP dX2_covers_16 ?_
    refine lv_iload_n hx hb dX2_covers_19 rfl (lv_at hl 1 rfl) ?_
    refine yl_closures hx hb hK hP (by have := p7 hm; omega) dX2_covers_20 ?_
    rw [hu_.l hj]
    refine xRO.call (m_X2_over hm (fun s hs => hu_.c hs) ((clo_op n m R).1 j hj)) ⟨hx, hb, hml, hown, hts⟩ (cwV 1 hts (lw_V q338 q340 qs23 q28 q341) rfl rfl rfl (by decide +kernel) ⟨Nat.le_of_ble_eq_true rfl, Nat.le_of_ble_eq_true rfl⟩) hK hP (y_rc hK hP) hS hA hl.1 rfl rfl (Nat.le_of_ble_eq_true rfl) ⟨Nat.zero_le _, Nat.zero_le _⟩ dX2_covers_21 (fun r_ H locs hr_ hT hS => ?_)
    have hP := hT _ hP
    subst hr_
    exact xRW.ret hx hb hr rfl hlocks hS dX2_covers_24 (R, cb1, pb1, cl1, ch) ⟨by rw [onS_t (pow_lt hm) hj], rfl⟩ hP hD
  · refine lv_iconst (v := (-1)) hx hb dX2_covers_8 (by decide) ?_
    exact xRW.ret hx hb hr rfl hlocks hS dX2_covers_9 (R, cb, pb, cl, ch) ⟨by rw [onS_f (nB_t c_5)], rfl⟩ hP hD

set_option maxHeartbeats 4000000 in
set_option maxRecDepth 100000 in
theorem m_X2_links {l : Launch} {D : va_G} {d z : ClassId} {h : Nat → Nat} {n m : Nat} {R : Nat → Nat} {cb pb : Nat → Bool} {cl ch : Nat → Nat} (hn : n ≤ 8) (hm : m ≤ 7) (hR : ∀ g, R g < 2 ^ m) : xRW (YS) l yX2_links cX2_links 3 (some .int) 4 90 D (tyX d z) (yw h d z n m R cb pb cl ch) [.ref (h 0)] (fun r u => r = nI (lnk m (clo n m R)) ∧ u.1 = R) (fun u => yW h d z n m u) := by
  refine xRW.of (by decide) (Nat.le_of_ble_eq_true rfl) ?_
  intro p e S M below meth c hB hK hP hD ls hl
  obtain ⟨hx, hb, hr, hml, hown, hlocks, hts⟩ := hB
  have hown : S.vm.findClass RX2 = some M.cls := hown
  have hS : va_S (va_A (yw h d z n m R cb pb cl ch) S.heap.size) S.heap S.heap [] := va_S.rf
  have hA : ∀ q : Nat, S.heap.size ≤ q → (va_A (yw h d z n m R cb pb cl ch) S.heap.size) q := fun _ h => Or.inr h
  have hl : lv_has ls 3 [(0, .ref (h 0))] := hl
  refine lv_aload_n hx hb dX2_links_0 rfl (lv_at hl 0 rfl) ?_
  refine xRV.call0 (m_X2_tabulate hn hm hR) ⟨hx, hb, hml, hown, hts⟩ (cwV 0 hts (lw_V q302 q304 qs20 q28 q305) rfl rfl rfl (by decide +kernel) ⟨Nat.le_of_ble_eq_true rfl, Nat.le_of_ble_eq_true rfl⟩) hK hP hD (y_rc hK hP) hS hA hl.1 rfl rfl (Nat.le_of_ble_eq_true rfl) ⟨Nat.zero_le _, Nat.zero_le _⟩ dX2_links_1 (fun u_ H locs hu_ hP hD hS => ?_)
  obtain ⟨cb1, pb1, cl1⟩ := u_
  have hP : va_P D clX (yw h d z n m R cb1 pb1 cl1 ch) H := hP
  have hD : va_D (va_A (yw h d z n m R cb pb cl ch) S.heap.size) (yw h d z n m R cb1 pb1 cl1 ch) := hD
  have hu_ : Tab n m R (2 ^ m) cb1 pb1 cl1 := hu_
  refine lv_iconst (v := nI 0) hx hb dX2_links_4 (by decide) ?_
  refine lv_istore_n (lv' := [(1, .int (nI 0)), (0, .ref (h 0))]) hx hb dX2_links_5 rfl hl (by decide) rfl (fun ls hl => ?_)
  refine lv_iconst (v := nI 0) hx hb dX2_links_6 (by decide) ?_
  refine lv_istore_n (lv' := [(2, .int (nI 0)), (1, .int (nI 0)), (0, .ref (h 0))]) hx hb dX2_links_7 rfl hl (by decide) rfl (fun ls hl => ?_)
  refine nv_loop (fun (i : Nat) (H : Heap) (locs : List Loc) (ls : Array Slot) => ∃ (r : Nat), r = lnkI m (clo n m R) i ∧ va_P D clX (yw h d z n m R cb1 pb1 cl1 ch) H ∧ va_D (va_A (yw h d z n m R cb pb cl ch) S.heap.size) (yw h d z n m R cb1 pb1 cl1 ch) ∧ va_S (va_A (yw h d z n m R cb pb cl ch) S.heap.size) S.heap H locs ∧ lv_has ls 3 [(2, .int (nI i)), (1, .int (nI r)), (0, .ref (h 0))]) (2 ^ m) (fun i H locs ls hi_i hI ih_i => ?_) (fun H locs ls hI => ?_) 0 (Nat.zero_le _) ⟨0, rfl, hP, hD, hS, lv_sub hl [0, 1, 2] rfl⟩
  · obtain ⟨r, e_r, hP, hD, hS, hl⟩ := hI
    refine lv_iload_n hx hb dX2_links_8 rfl (lv_at hl 0 rfl) ?_
    refine lv_aload_n hx hb dX2_links_9 rfl (lv_at hl 2 rfl) ?_
    refine yg_all hx hb hts hown hK hP dX2_links_10 ?_
    refine nv_gt hx hb (set_lt hm hi_i) (all_lt hm) (tgt := 39) dX2_links_13 (by decide) (fun c_13 => ?_) (fun c_13 => ?_)
    · exact absurd hi_i (by have := pw_1 m; omega)
    · refine lv_aload_n hx hb dX2_links_16 rfl (lv_at hl 2 rfl) ?_
      refine yg_closed hx hb hts hown hK hP dX2_links_17 ?_
      refine lv_iload_n hx hb dX2_links_20 rfl (lv_at hl 0 rfl) ?_
      refine yl_closed hx hb hK hP (by have := p7 hm; omega) dX2_links_21 ?_
      rw [hu_.c hi_i]
      refine nv_eqB hx hb (tgt := 33) dX2_links_22 (by decide) (fun c_22 => ?_) (fun c_22 => ?_)
      · refine lv_iinc (v := nI (i + 1)) (lv' := [(2, .int (nI (i + 1))), (1, .int (nI r)), (0, .ref (h 0))]) hx hb dX2_links_33 hl (k := 0) rfl (nI_1 _) (by decide) rfl (fun ls hl => ?_)
        refine lv_goto (tgt := 8) hx hb dX2_links_36 (by decide) ?_
        exact ih_i _ _ _ ⟨r, by rw [lnkI_0 c_22]; exact e_r, hP, hD, hS, lv_sub hl [0, 1, 2] rfl⟩
      · refine lv_iload_n hx hb dX2_links_25 rfl (lv_at hl 1 rfl) ?_
        refine lv_aload_n hx hb dX2_links_26 rfl (lv_at hl 2 rfl) ?_
        refine lv_iload_n hx hb dX2_links_27 rfl (lv_at hl 0 rfl) ?_
        refine xRO.call (m_X2_over hm (fun s hs => hu_.c hs) hi_i) ⟨hx, hb, hml, hown, hts⟩ (cwV 1 hts (lw_V q338 q340 qs23 q28 q341) rfl rfl rfl (by decide +kernel) ⟨Nat.le_of_ble_eq_true rfl, Nat.le_of_ble_eq_true rfl⟩) hK hP (y_rc hK hP) hS hA hl.1 rfl rfl (Nat.le_of_ble_eq_true rfl) ⟨Nat.zero_le _, Nat.zero_le _⟩ dX2_links_28 (fun r_ H locs hr_ hT hS => ?_)
        have hP := hT _ hP
        subst hr_
        refine nv_iadd hx hb dX2_links_31 ?_
        refine lv_istore_n (lv' := [(1, .int (nI (r + (covN m (clo n m R) i)))), (2, .int (nI i)), (0, .ref (h 0))]) hx hb dX2_links_32 rfl hl (by decide) rfl (fun ls hl => ?_)
        refine lv_iinc (v := nI (i + 1)) (lv' := [(2, .int (nI (i + 1))), (1, .int (nI (r + (covN m (clo n m R) i)))), (0, .ref (h 0))]) hx hb dX2_links_33 hl (k := 1) rfl (nI_1 _) (by decide) rfl (fun ls hl => ?_)
        refine lv_goto (tgt := 8) hx hb dX2_links_36 (by decide) ?_
        exact ih_i _ _ _ ⟨r + covN m (clo n m R) i, by rw [lnkI_1 c_22, e_r], hP, hD, hS, lv_sub hl [0, 1, 2] rfl⟩
  · obtain ⟨r, e_r, hP, hD, hS, hl⟩ := hI
    refine lv_iload_n hx hb dX2_links_8 rfl (lv_at hl 0 rfl) ?_
    refine lv_aload_n hx hb dX2_links_9 rfl (lv_at hl 2 rfl) ?_
    refine yg_all hx hb hts hown hK hP dX2_links_10 ?_
    refine nv_gt hx hb (pow_lt hm) (all_lt hm) (tgt := 39) dX2_links_13 (by decide) (fun c_13 => ?_) (fun c_13 => ?_)
    · refine lv_iload_n hx hb dX2_links_39 rfl (lv_at hl 1 rfl) ?_
      exact xRW.ret hx hb hr rfl hlocks hS dX2_links_40 (R, cb1, pb1, cl1, ch) ⟨by rw [e_r]; rfl, rfl⟩ hP hD
    · exact absurd c_13 (by have := pw_1 m; omega)

set_option maxHeartbeats 4000000 in
set_option maxRecDepth 100000 in
theorem m_X2_height {l : Launch} {D : va_G} {d z : ClassId} {h : Nat → Nat} {n m : Nat} {R : Nat → Nat} {cb pb : Nat → Bool} {cl ch : Nat → Nat} (hn : n ≤ 8) (hm : m ≤ 7) (hR : ∀ g, R g < 2 ^ m) : xRW (YS) l yX2_height cX2_height 4 (some .int) 4 88 D (tyX d z) (yw h d z n m R cb pb cl ch) [.ref (h 0)] (fun r u => (∃ t, r = nI t ∧ IsHt m (clo n m R) t) ∧ u.1 = R) (fun u => yW h d z n m u) := by
  refine xRW.of (by decide) (Nat.le_of_ble_eq_true rfl) ?_
  intro p e S M below meth c hB hK hP hD ls hl
  obtain ⟨hx, hb, hr, hml, hown, hlocks, hts⟩ := hB
  have hown : S.vm.findClass RX2 = some M.cls := hown
  have hS : va_S (va_A (yw h d z n m R cb pb cl ch) S.heap.size) S.heap S.heap [] := va_S.rf
  have hA : ∀ q : Nat, S.heap.size ≤ q → (va_A (yw h d z n m R cb pb cl ch) S.heap.size) q := fun _ h => Or.inr h
  have hl : lv_has ls 4 [(0, .ref (h 0))] := hl
  refine lv_aload_n hx hb dX2_height_0 rfl (lv_at hl 0 rfl) ?_
  refine xRV.call0 (m_X2_tabulate hn hm hR) ⟨hx, hb, hml, hown, hts⟩ (cwV 0 hts (lw_V q302 q304 qs20 q28 q305) rfl rfl rfl (by decide +kernel) ⟨Nat.le_of_ble_eq_true rfl, Nat.le_of_ble_eq_true rfl⟩) hK hP hD (y_rc hK hP) hS hA hl.1 rfl rfl (Nat.le_of_ble_eq_true rfl) ⟨Nat.zero_le _, Nat.zero_le _⟩ dX2_height_1 (fun u_ H locs hu_ hP hD hS => ?_)
  obtain ⟨cb1, pb1, cl1⟩ := u_
  have hP : va_P D clX (yw h d z n m R cb1 pb1 cl1 ch) H := hP
  have hD : va_D (va_A (yw h d z n m R cb pb cl ch) S.heap.size) (yw h d z n m R cb1 pb1 cl1 ch) := hD
  have hu_ : Tab n m R (2 ^ m) cb1 pb1 cl1 := hu_
  refine lv_iconst (v := nI 0) hx hb dX2_height_4 (by decide) ?_
  refine lv_istore_n (lv' := [(1, .int (nI 0)), (0, .ref (h 0))]) hx hb dX2_height_5 rfl hl (by decide) rfl (fun ls hl => ?_)
  refine lv_iconst (v := nI 0) hx hb dX2_height_6 (by decide) ?_
  refine lv_istore_n (lv' := [(2, .int (nI 0)), (1, .int (nI 0)), (0, .ref (h 0))]) hx hb dX2_height_7 rfl hl (by decide) rfl (fun ls hl => ?_)
  refine nv_loop (fun (i : Nat) (H : Heap) (locs : List Loc) (ls : Array Slot) => ∃ (ch1 : Nat → Nat), ∃ (r : Nat), ChOK (clo n m R) ch1 i ∧ r = mx ch1 i ∧ (∀ j, j < i → ch1 j ≤ j + 1) ∧ r ≤ 129 ∧ va_P D clX (yw h d z n m R cb1 pb1 cl1 ch1) H ∧ va_D (va_A (yw h d z n m R cb pb cl ch) S.heap.size) (yw h d z n m R cb1 pb1 cl1 ch1) ∧ va_S (va_A (yw h d z n m R cb pb cl ch) S.heap.size) S.heap H locs ∧ lv_has ls 4 [(2, .int (nI i)), (1, .int (nI r)), (0, .ref (h 0))]) (2 ^ m) (fun i H locs ls hi_i hI ih_i => ?_) (fun H locs ls hI => ?_) 0 (Nat.zero_le _) ⟨ch, 0, fun j hj => absurd hj (by omega), rfl, fun j hj => absurd hj (by omega), Nat.zero_le _, hP, hD, hS, lv_sub hl [0, 1, 2] rfl⟩
  · obtain ⟨ch1, r, h_L, e_r, h_b, h_r, hP, hD, hS, hl⟩ := hI
    refine lv_iload_n hx hb dX2_height_8 rfl (lv_at hl 0 rfl) ?_
    refine lv_aload_n hx hb dX2_height_9 rfl (lv_at hl 2 rfl) ?_
    refine yg_all hx hb hts hown hK hP dX2_height_10 ?_
    refine nv_gt hx hb (set_lt hm hi_i) (all_lt hm) (tgt := 137) dX2_height_13 (by decide) (fun c_13 => ?_) (fun c_13 => ?_)
    · exact absurd hi_i (by have := pw_1 m; omega)
    · refine lv_iload_n hx hb dX2_height_16 rfl (lv_at hl 0 rfl) ?_
      refine lv_sipush (v := nI 128) hx hb dX2_height_17 (by decide) ?_
      refine nv_ge hx hb (set_lt hm hi_i) (by decide) (tgt := 137) dX2_height_20 (by decide) (fun c_20 => ?_) (fun c_20 => ?_)
      · exact absurd hi_i (by have := p7 hm; omega)
      · refine lv_aload_n hx hb dX2_height_23 rfl (lv_at hl 2 rfl) ?_
        refine yg_chain hx hb hts hown hK hP dX2_height_24 ?_
        refine lv_iload_n hx hb dX2_height_27 rfl (lv_at hl 0 rfl) ?_
        refine lv_aload_n hx hb dX2_height_28 rfl (lv_at hl 2 rfl) ?_
        refine yg_closed hx hb hts hown hK hP dX2_height_29 ?_
        refine lv_iload_n hx hb dX2_height_32 rfl (lv_at hl 0 rfl) ?_
        refine yl_closed hx hb hK hP (by have := p7 hm; omega) dX2_height_33 ?_
        rw [hu_.c hi_i]
        refine nv_eqB hx hb (tgt := 41) dX2_height_34 (by decide) (fun c_34 => ?_) (fun c_34 => ?_)
        · refine lv_iconst (v := nI 0) hx hb dX2_height_41 (by decide) ?_
          refine ys_chain hx hb hK hP hD hS (by have := p7 hm; omega) dX2_height_42 (fun H locs hP hD hS => ?_)
          refine lv_iconst (v := nI 0) hx hb dX2_height_43 (by decide) ?_
          refine lv_istore_n (lv' := [(3, .int (nI 0)), (2, .int (nI i)), (1, .int (nI r)), (0, .ref (h 0))]) hx hb dX2_height_44 rfl hl (by decide) rfl (fun ls hl => ?_)
          refine nv_loop (fun (k : Nat) (H : Heap) (locs : List Loc) (ls : Array Slot) => ∃ (v : Nat), v = htI (clo n m R) ch1 i k ∧ v ≤ k + 1 ∧ va_P D clX (yw h d z n m R cb1 pb1 cl1 (un ch1 i v)) H ∧ va_D (va_A (yw h d z n m R cb pb cl ch) S.heap.size) (yw h d z n m R cb1 pb1 cl1 (un ch1 i v)) ∧ va_S (va_A (yw h d z n m R cb pb cl ch) S.heap.size) S.heap H locs ∧ lv_has ls 4 [(3, .int (nI k)), (2, .int (nI i)), (1, .int (nI r)), (0, .ref (h 0))]) (i) (fun k H locs ls hi_k hI ih_k => ?_) (fun H locs ls hI => ?_) 0 (Nat.zero_le _) ⟨0, by unfold htI; rw [c_34]; rfl, by decide, hP, hD, hS, lv_sub hl [0, 1, 2, 3] rfl⟩
          · obtain ⟨v, e_v, h_v, hP, hD, hS, hl⟩ := hI
            refine lv_iload_n hx hb dX2_height_45 rfl (lv_at hl 0 rfl) ?_
            refine lv_iload_n hx hb dX2_height_46 rfl (lv_at hl 1 rfl) ?_
            refine nv_ge hx hb (by have := p7 hm; omega) (set_lt hm hi_i) (tgt := 114) dX2_height_47 (by decide) (fun c_47 => ?_) (fun c_47 => ?_)
            · exact absurd hi_k (by omega)
            · refine lv_aload_n hx hb dX2_height_50 rfl (lv_at hl 3 rfl) ?_
              refine yg_closed hx hb hts hown hK hP dX2_height_51 ?_
              refine lv_iload_n hx hb dX2_height_54 rfl (lv_at hl 1 rfl) ?_
              refine yl_closed hx hb hK hP (by have := p7 hm; omega) dX2_height_55 ?_
              rw [hu_.c hi_i]
              refine nv_eqB hx hb (tgt := 108) dX2_height_56 (by decide) (fun c_56 => ?_) (fun c_56 => ?_)
              · refine lv_iinc (v := nI (k + 1)) (lv' := [(3, .int (nI (k + 1))), (2, .int (nI i)), (1, .int (nI r)), (0, .ref (h 0))]) hx hb dX2_height_108 hl (k := 0) rfl (nI_1 _) (by decide) rfl (fun ls hl => ?_)
                refine lv_goto (tgt := 45) hx hb dX2_height_111 (by decide) ?_
                exact ih_k _ _ _ ⟨v, by rw [htI_0 (fun z => absurd (c_56.symm.trans z.1) (by decide))]; exact e_v, by omega, hP, hD, hS, lv_sub hl [0, 1, 2, 3] rfl⟩
              · refine lv_aload_n hx hb dX2_height_59 rfl (lv_at hl 3 rfl) ?_
                refine yg_closed hx hb hts hown hK hP dX2_height_60 ?_
                refine lv_iload_n hx hb dX2_height_63 rfl (lv_at hl 0 rfl) ?_
                refine yl_closed hx hb hK hP (by have := p7 hm; omega) dX2_height_64 ?_
                rw [hu_.c (Nat.lt_trans hi_k hi_i)]
                refine nv_eqB hx hb (tgt := 108) dX2_height_65 (by decide) (fun c_65 => ?_) (fun c_65 => ?_)
                · refine lv_iinc (v := nI (k + 1)) (lv' := [(3, .int (nI (k + 1))), (2, .int (nI i)), (1, .int (nI r)), (0, .ref (h 0))]) hx hb dX2_height_108 hl (k := 0) rfl (nI_1 _) (by decide) rfl (fun ls hl => ?_)
                  refine lv_goto (tgt := 45) hx hb dX2_height_111 (by decide) ?_
                  exact ih_k _ _ _ ⟨v, by rw [htI_0 (fun z => absurd (c_65.symm.trans z.2.1) (by decide))]; exact e_v, by omega, hP, hD, hS, lv_sub hl [0, 1, 2, 3] rfl⟩
                · refine lv_aload_n hx hb dX2_height_68 rfl (lv_at hl 3 rfl) ?_
                  refine lv_iload_n hx hb dX2_height_69 rfl (lv_at hl 0 rfl) ?_
                  refine lv_iload_n hx hb dX2_height_70 rfl (lv_at hl 1 rfl) ?_
                  refine xRO.call (m_X2_proper (show k < 2 ^ 31 by have := p7 hm; omega) (set_lt hm hi_i)) ⟨hx, hb, hml, hown, hts⟩ (cwV 2 hts (lw_V q310 q312 qs22 q28 q313) rfl rfl rfl (by decide +kernel) ⟨Nat.le_of_ble_eq_true rfl, Nat.le_of_ble_eq_true rfl⟩) hK hP (y_rc hK hP) hS hA hl.1 rfl rfl (Nat.le_of_ble_eq_true rfl) ⟨Nat.zero_le _, Nat.zero_le _⟩ dX2_height_71 (fun r_ H locs hr_ hT hS => ?_)
                  have hP := hT _ hP
                  subst hr_
                  refine nv_eqB hx hb (tgt := 108) dX2_height_74 (by decide) (fun c_74 => ?_) (fun c_74 => ?_)
                  · refine lv_iinc (v := nI (k + 1)) (lv' := [(3, .int (nI (k + 1))), (2, .int (nI i)), (1, .int (nI r)), (0, .ref (h 0))]) hx hb dX2_height_108 hl (k := 0) rfl (nI_1 _) (by decide) rfl (fun ls hl => ?_)
                    refine lv_goto (tgt := 45) hx hb dX2_height_111 (by decide) ?_
                    exact ih_k _ _ _ ⟨v, by rw [htI_0 (fun z => prp_nf c_74 z.2.2.1)]; exact e_v, by omega, hP, hD, hS, lv_sub hl [0, 1, 2, 3] rfl⟩
                  · refine lv_aload_n hx hb dX2_height_77 rfl (lv_at hl 3 rfl) ?_
                    refine yg_chain hx hb hts hown hK hP dX2_height_78 ?_
                    refine lv_iload_n hx hb dX2_height_81 rfl (lv_at hl 0 rfl) ?_
                    refine yl_chain hx hb hK hP (by have := p7 hm; omega) dX2_height_82 ?_
                    rw [un_n (show k ≠ i by omega)]
                    refine lv_iconst (v := nI 1) hx hb dX2_height_83 (by decide) ?_
                    refine nv_iadd hx hb dX2_height_84 ?_
                    refine lv_aload_n hx hb dX2_height_85 rfl (lv_at hl 3 rfl) ?_
                    refine yg_chain hx hb hts hown hK hP dX2_height_86 ?_
                    refine lv_iload_n hx hb dX2_height_89 rfl (lv_at hl 1 rfl) ?_
                    refine yl_chain hx hb hK hP (by have := p7 hm; omega) dX2_height_90 ?_
                    rw [un_s]
                    refine nv_le hx hb (by have := h_b k (by omega); have := p7 hm; omega) (by have := p7 hm; omega) (tgt := 108) dX2_height_91 (by decide) (fun c_91 => ?_) (fun c_91 => ?_)
                    · refine lv_iinc (v := nI (k + 1)) (lv' := [(3, .int (nI (k + 1))), (2, .int (nI i)), (1, .int (nI r)), (0, .ref (h 0))]) hx hb dX2_height_108 hl (k := 0) rfl (nI_1 _) (by decide) rfl (fun ls hl => ?_)
                      refine lv_goto (tgt := 45) hx hb dX2_height_111 (by decide) ?_
                      exact ih_k _ _ _ ⟨v, by rw [htI_0 (fun z => absurd z.2.2.2 (by rw [← e_v]; omega))]; exact e_v, by omega, hP, hD, hS, lv_sub hl [0, 1, 2, 3] rfl⟩
                    · refine lv_aload_n hx hb dX2_height_94 rfl (lv_at hl 3 rfl) ?_
                      refine yg_chain hx hb hts hown hK hP dX2_height_95 ?_
                      refine lv_iload_n hx hb dX2_height_98 rfl (lv_at hl 1 rfl) ?_
                      refine lv_aload_n hx hb dX2_height_99 rfl (lv_at hl 3 rfl) ?_
                      refine yg_chain hx hb hts hown hK hP dX2_height_100 ?_
                      refine lv_iload_n hx hb dX2_height_103 rfl (lv_at hl 0 rfl) ?_
                      refine yl_chain hx hb hK hP (by have := p7 hm; omega) dX2_height_104 ?_
                      rw [un_n (show k ≠ i by omega)]
                      refine lv_iconst (v := nI 1) hx hb dX2_height_105 (by decide) ?_
                      refine nv_iadd hx hb dX2_height_106 ?_
                      refine ys_chain hx hb hK hP hD hS (by have := p7 hm; omega) dX2_height_107 (fun H locs hP hD hS => ?_)
                      refine lv_iinc (v := nI (k + 1)) (lv' := [(3, .int (nI (k + 1))), (2, .int (nI i)), (1, .int (nI r)), (0, .ref (h 0))]) hx hb dX2_height_108 hl (k := 0) rfl (nI_1 _) (by decide) rfl (fun ls hl => ?_)
                      refine lv_goto (tgt := 45) hx hb dX2_height_111 (by decide) ?_
                      rw [un_un] at hP hD
                      exact ih_k _ _ _ ⟨ch1 k + 1, by rw [htI_1 c_56 c_65 (prp_of c_74) (by rw [← e_v]; exact c_91)], by have := h_b k (by omega); omega, hP, hD, hS, lv_sub hl [0, 1, 2, 3] rfl⟩
          · obtain ⟨v, e_v, h_v, hP, hD, hS, hl⟩ := hI
            refine lv_iload_n hx hb dX2_height_45 rfl (lv_at hl 0 rfl) ?_
            refine lv_iload_n hx hb dX2_height_46 rfl (lv_at hl 1 rfl) ?_
            refine nv_ge hx hb (by have := p7 hm; omega) (set_lt hm hi_i) (tgt := 114) dX2_height_47 (by decide) (fun c_47 => ?_) (fun c_47 => ?_)
            · refine lv_aload_n hx hb dX2_height_114 rfl (lv_at hl 3 rfl) ?_
              refine yg_chain hx hb hts hown hK hP dX2_height_115 ?_
              refine lv_iload_n hx hb dX2_height_118 rfl (lv_at hl 1 rfl) ?_
              refine yl_chain hx hb hK hP (by have := p7 hm; omega) dX2_height_119 ?_
              rw [un_s]
              refine lv_iload_n hx hb dX2_height_120 rfl (lv_at hl 2 rfl) ?_
              refine nv_le hx hb (by have := p7 hm; omega) (by omega) (tgt := 131) dX2_height_121 (by decide) (fun c_121 => ?_) (fun c_121 => ?_)
              · refine lv_iinc (v := nI (i + 1)) (lv' := [(2, .int (nI (i + 1))), (3, .int (nI i)), (1, .int (nI r)), (0, .ref (h 0))]) hx hb dX2_height_131 hl (k := 1) rfl (nI_1 _) (by decide) rfl (fun ls hl => ?_)
                refine lv_goto (tgt := 8) hx hb dX2_height_134 (by decide) ?_
                exact ih_i _ _ _ ⟨un ch1 i v, r, ChOK.push h_L e_v, by rw [mx_push, ← e_r]; rw [if_neg (by omega)], lt_s (fun j hj => by rw [un_n (by omega)]; exact h_b j hj) (by rw [un_s]; exact h_v), h_r, hP, hD, hS, lv_sub hl [0, 2, 3] rfl⟩
              · refine lv_aload_n hx hb dX2_height_124 rfl (lv_at hl 3 rfl) ?_
                refine yg_chain hx hb hts hown hK hP dX2_height_125 ?_
                refine lv_iload_n hx hb dX2_height_128 rfl (lv_at hl 1 rfl) ?_
                refine yl_chain hx hb hK hP (by have := p7 hm; omega) dX2_height_129 ?_
                rw [un_s]
                refine lv_istore_n (lv' := [(1, .int (nI v)), (3, .int (nI i)), (2, .int (nI i)), (0, .ref (h 0))]) hx hb dX2_height_130 rfl hl (by decide) rfl (fun ls hl => ?_)
                refine lv_iinc (v := nI (i + 1)) (lv' := [(2, .int (nI (i + 1))), (1, .int (nI v)), (3, .int (nI i)), (0, .ref (h 0))]) hx hb dX2_height_131 hl (k := 2) rfl (nI_1 _) (by decide) rfl (fun ls hl => ?_)
                refine lv_goto (tgt := 8) hx hb dX2_height_134 (by decide) ?_
                exact ih_i _ _ _ ⟨un ch1 i v, v, ChOK.push h_L e_v, by rw [mx_push, ← e_r]; rw [if_pos (by omega)], lt_s (fun j hj => by rw [un_n (by omega)]; exact h_b j hj) (by rw [un_s]; exact h_v), by have := p7 hm; omega, hP, hD, hS, lv_sub hl [0, 1, 3] rfl⟩
            · exact absurd c_47 (by omega)
        · refine lv_iconst (v := nI 1) hx hb dX2_height_37 (by decide) ?_
          refine lv_goto (tgt := 42) hx hb dX2_height_38 (by decide) ?_
          refine ys_chain hx hb hK hP hD hS (by have := p7 hm; omega) dX2_height_42 (fun H locs hP hD hS => ?_)
          refine lv_iconst (v := nI 0) hx hb dX2_height_43 (by decide) ?_
          refine lv_istore_n (lv' := [(3, .int (nI 0)), (2, .int (nI i)), (1, .int (nI r)), (0, .ref (h 0))]) hx hb dX2_height_44 rfl hl (by decide) rfl (fun ls hl => ?_)
          refine nv_loop (fun (k : Nat) (H : Heap) (locs : List Loc) (ls : Array Slot) => ∃ (v : Nat), v = htI (clo n m R) ch1 i k ∧ v ≤ k + 1 ∧ va_P D clX (yw h d z n m R cb1 pb1 cl1 (un ch1 i v)) H ∧ va_D (va_A (yw h d z n m R cb pb cl ch) S.heap.size) (yw h d z n m R cb1 pb1 cl1 (un ch1 i v)) ∧ va_S (va_A (yw h d z n m R cb pb cl ch) S.heap.size) S.heap H locs ∧ lv_has ls 4 [(3, .int (nI k)), (2, .int (nI i)), (1, .int (nI r)), (0, .ref (h 0))]) (i) (fun k H locs ls hi_k hI ih_k => ?_) (fun H locs ls hI => ?_) 0 (Nat.zero_le _) ⟨1, by unfold htI; rw [c_34]; rfl, Nat.le_refl 1, hP, hD, hS, lv_sub hl [0, 1, 2, 3] rfl⟩
          · obtain ⟨v, e_v, h_v, hP, hD, hS, hl⟩ := hI
            refine lv_iload_n hx hb dX2_height_45 rfl (lv_at hl 0 rfl) ?_
            refine lv_iload_n hx hb dX2_height_46 rfl (lv_at hl 1 rfl) ?_
            refine nv_ge hx hb (by have := p7 hm; omega) (set_lt hm hi_i) (tgt := 114) dX2_height_47 (by decide) (fun c_47 => ?_) (fun c_47 => ?_)
            · exact absurd hi_k (by omega)
            · refine lv_aload_n hx hb dX2_height_50 rfl (lv_at hl 3 rfl) ?_
              refine yg_closed hx hb hts hown hK hP dX2_height_51 ?_
              refine lv_iload_n hx hb dX2_height_54 rfl (lv_at hl 1 rfl) ?_
              refine yl_closed hx hb hK hP (by have := p7 hm; omega) dX2_height_55 ?_
              rw [hu_.c hi_i]
              refine nv_eqB hx hb (tgt := 108) dX2_height_56 (by decide) (fun c_56 => ?_) (fun c_56 => ?_)
              · refine lv_iinc (v := nI (k + 1)) (lv' := [(3, .int (nI (k + 1))), (2, .int (nI i)), (1, .int (nI r)), (0, .ref (h 0))]) hx hb dX2_height_108 hl (k := 0) rfl (nI_1 _) (by decide) rfl (fun ls hl => ?_)
                refine lv_goto (tgt := 45) hx hb dX2_height_111 (by decide) ?_
                exact ih_k _ _ _ ⟨v, by rw [htI_0 (fun z => absurd (c_56.symm.trans z.1) (by decide))]; exact e_v, by omega, hP, hD, hS, lv_sub hl [0, 1, 2, 3] rfl⟩
              · refine lv_aload_n hx hb dX2_height_59 rfl (lv_at hl 3 rfl) ?_
                refine yg_closed hx hb hts hown hK hP dX2_height_60 ?_
                refine lv_iload_n hx hb dX2_height_63 rfl (lv_at hl 0 rfl) ?_
                refine yl_closed hx hb hK hP (by have := p7 hm; omega) dX2_height_64 ?_
                rw [hu_.c (Nat.lt_trans hi_k hi_i)]
                refine nv_eqB hx hb (tgt := 108) dX2_height_65 (by decide) (fun c_65 => ?_) (fun c_65 => ?_)
                · refine lv_iinc (v := nI (k + 1)) (lv' := [(3, .int (nI (k + 1))), (2, .int (nI i)), (1, .int (nI r)), (0, .ref (h 0))]) hx hb dX2_height_108 hl (k := 0) rfl (nI_1 _) (by decide) rfl (fun ls hl => ?_)
                  refine lv_goto (tgt := 45) hx hb dX2_height_111 (by decide) ?_
                  exact ih_k _ _ _ ⟨v, by rw [htI_0 (fun z => absurd (c_65.symm.trans z.2.1) (by decide))]; exact e_v, by omega, hP, hD, hS, lv_sub hl [0, 1, 2, 3] rfl⟩
                · refine lv_aload_n hx hb dX2_height_68 rfl (lv_at hl 3 rfl) ?_
                  refine lv_iload_n hx hb dX2_height_69 rfl (lv_at hl 0 rfl) ?_
                  refine lv_iload_n hx hb dX2_height_70 rfl (lv_at hl 1 rfl) ?_
                  refine xRO.call (m_X2_proper (show k < 2 ^ 31 by have := p7 hm; omega) (set_lt hm hi_i)) ⟨hx, hb, hml, hown, hts⟩ (cwV 2 hts (lw_V q310 q312 qs22 q28 q313) rfl rfl rfl (by decide +kernel) ⟨Nat.le_of_ble_eq_true rfl, Nat.le_of_ble_eq_true rfl⟩) hK hP (y_rc hK hP) hS hA hl.1 rfl rfl (Nat.le_of_ble_eq_true rfl) ⟨Nat.zero_le _, Nat.zero_le _⟩ dX2_height_71 (fun r_ H locs hr_ hT hS => ?_)
                  have hP := hT _ hP
                  subst hr_
                  refine nv_eqB hx hb (tgt := 108) dX2_height_74 (by decide) (fun c_74 => ?_) (fun c_74 => ?_)
                  · refine lv_iinc (v := nI (k + 1)) (lv' := [(3, .int (nI (k + 1))), (2, .int (nI i)), (1, .int (nI r)), (0, .ref (h 0))]) hx hb dX2_height_108 hl (k := 0) rfl (nI_1 _) (by decide) rfl (fun ls hl => ?_)
                    refine lv_goto (tgt := 45) hx hb dX2_height_111 (by decide) ?_
                    exact ih_k _ _ _ ⟨v, by rw [htI_0 (fun z => prp_nf c_74 z.2.2.1)]; exact e_v, by omega, hP, hD, hS, lv_sub hl [0, 1, 2, 3] rfl⟩
                  · refine lv_aload_n hx hb dX2_height_77 rfl (lv_at hl 3 rfl) ?_
                    refine yg_chain hx hb hts hown hK hP dX2_height_78 ?_
                    refine lv_iload_n hx hb dX2_height_81 rfl (lv_at hl 0 rfl) ?_
                    refine yl_chain hx hb hK hP (by have := p7 hm; omega) dX2_height_82 ?_
                    rw [un_n (show k ≠ i by omega)]
                    refine lv_iconst (v := nI 1) hx hb dX2_height_83 (by decide) ?_
                    refine nv_iadd hx hb dX2_height_84 ?_
                    refine lv_aload_n hx hb dX2_height_85 rfl (lv_at hl 3 rfl) ?_
                    refine yg_chain hx hb hts hown hK hP dX2_height_86 ?_
                    refine lv_iload_n hx hb dX2_height_89 rfl (lv_at hl 1 rfl) ?_
                    refine yl_chain hx hb hK hP (by have := p7 hm; omega) dX2_height_90 ?_
                    rw [un_s]
                    refine nv_le hx hb (by have := h_b k (by omega); have := p7 hm; omega) (by have := p7 hm; omega) (tgt := 108) dX2_height_91 (by decide) (fun c_91 => ?_) (fun c_91 => ?_)
                    · refine lv_iinc (v := nI (k + 1)) (lv' := [(3, .int (nI (k + 1))), (2, .int (nI i)), (1, .int (nI r)), (0, .ref (h 0))]) hx hb dX2_height_108 hl (k := 0) rfl (nI_1 _) (by decide) rfl (fun ls hl => ?_)
                      refine lv_goto (tgt := 45) hx hb dX2_height_111 (by decide) ?_
                      exact ih_k _ _ _ ⟨v, by rw [htI_0 (fun z => absurd z.2.2.2 (by rw [← e_v]; omega))]; exact e_v, by omega, hP, hD, hS, lv_sub hl [0, 1, 2, 3] rfl⟩
                    · refine lv_aload_n hx hb dX2_height_94 rfl (lv_at hl 3 rfl) ?_
                      refine yg_chain hx hb hts hown hK hP dX2_height_95 ?_
                      refine lv_iload_n hx hb dX2_height_98 rfl (lv_at hl 1 rfl) ?_
                      refine lv_aload_n hx hb dX2_height_99 rfl (lv_at hl 3 rfl) ?_
                      refine yg_chain hx hb hts hown hK hP dX2_height_100 ?_
                      refine lv_iload_n hx hb dX2_height_103 rfl (lv_at hl 0 rfl) ?_
                      refine yl_chain hx hb hK hP (by have := p7 hm; omega) dX2_height_104 ?_
                      rw [un_n (show k ≠ i by omega)]
                      refine lv_iconst (v := nI 1) hx hb dX2_height_105 (by decide) ?_
                      refine nv_iadd hx hb dX2_height_106 ?_
                      refine ys_chain hx hb hK hP hD hS (by have := p7 hm; omega) dX2_height_107 (fun H locs hP hD hS => ?_)
                      refine lv_iinc (v := nI (k + 1)) (lv' := [(3, .int (nI (k + 1))), (2, .int (nI i)), (1, .int (nI r)), (0, .ref (h 0))]) hx hb dX2_height_108 hl (k := 0) rfl (nI_1 _) (by decide) rfl (fun ls hl => ?_)
                      refine lv_goto (tgt := 45) hx hb dX2_height_111 (by decide) ?_
                      rw [un_un] at hP hD
                      exact ih_k _ _ _ ⟨ch1 k + 1, by rw [htI_1 c_56 c_65 (prp_of c_74) (by rw [← e_v]; exact c_91)], by have := h_b k (by omega); omega, hP, hD, hS, lv_sub hl [0, 1, 2, 3] rfl⟩
          · obtain ⟨v, e_v, h_v, hP, hD, hS, hl⟩ := hI
            refine lv_iload_n hx hb dX2_height_45 rfl (lv_at hl 0 rfl) ?_
            refine lv_iload_n hx hb dX2_height_46 rfl (lv_at hl 1 rfl) ?_
            refine nv_ge hx hb (by have := p7 hm; omega) (set_lt hm hi_i) (tgt := 114) dX2_height_47 (by decide) (fun c_47 => ?_) (fun c_47 => ?_)
            · refine lv_aload_n hx hb dX2_height_114 rfl (lv_at hl 3 rfl) ?_
              refine yg_chain hx hb hts hown hK hP dX2_height_115 ?_
              refine lv_iload_n hx hb dX2_height_118 rfl (lv_at hl 1 rfl) ?_
              refine yl_chain hx hb hK hP (by have := p7 hm; omega) dX2_height_119 ?_
              rw [un_s]
              refine lv_iload_n hx hb dX2_height_120 rfl (lv_at hl 2 rfl) ?_
              refine nv_le hx hb (by have := p7 hm; omega) (by omega) (tgt := 131) dX2_height_121 (by decide) (fun c_121 => ?_) (fun c_121 => ?_)
              · refine lv_iinc (v := nI (i + 1)) (lv' := [(2, .int (nI (i + 1))), (3, .int (nI i)), (1, .int (nI r)), (0, .ref (h 0))]) hx hb dX2_height_131 hl (k := 1) rfl (nI_1 _) (by decide) rfl (fun ls hl => ?_)
                refine lv_goto (tgt := 8) hx hb dX2_height_134 (by decide) ?_
                exact ih_i _ _ _ ⟨un ch1 i v, r, ChOK.push h_L e_v, by rw [mx_push, ← e_r]; rw [if_neg (by omega)], lt_s (fun j hj => by rw [un_n (by omega)]; exact h_b j hj) (by rw [un_s]; exact h_v), h_r, hP, hD, hS, lv_sub hl [0, 2, 3] rfl⟩
              · refine lv_aload_n hx hb dX2_height_124 rfl (lv_at hl 3 rfl) ?_
                refine yg_chain hx hb hts hown hK hP dX2_height_125 ?_
                refine lv_iload_n hx hb dX2_height_128 rfl (lv_at hl 1 rfl) ?_
                refine yl_chain hx hb hK hP (by have := p7 hm; omega) dX2_height_129 ?_
                rw [un_s]
                refine lv_istore_n (lv' := [(1, .int (nI v)), (3, .int (nI i)), (2, .int (nI i)), (0, .ref (h 0))]) hx hb dX2_height_130 rfl hl (by decide) rfl (fun ls hl => ?_)
                refine lv_iinc (v := nI (i + 1)) (lv' := [(2, .int (nI (i + 1))), (1, .int (nI v)), (3, .int (nI i)), (0, .ref (h 0))]) hx hb dX2_height_131 hl (k := 2) rfl (nI_1 _) (by decide) rfl (fun ls hl => ?_)
                refine lv_goto (tgt := 8) hx hb dX2_height_134 (by decide) ?_
                exact ih_i _ _ _ ⟨un ch1 i v, v, ChOK.push h_L e_v, by rw [mx_push, ← e_r]; rw [if_pos (by omega)], lt_s (fun j hj => by rw [un_n (by omega)]; exact h_b j hj) (by rw [un_s]; exact h_v), by have := p7 hm; omega, hP, hD, hS, lv_sub hl [0, 1, 3] rfl⟩
            · exact absurd c_47 (by omega)
  · obtain ⟨ch1, r, h_L, e_r, h_b, h_r, hP, hD, hS, hl⟩ := hI
    refine lv_iload_n hx hb dX2_height_8 rfl (lv_at hl 0 rfl) ?_
    refine lv_aload_n hx hb dX2_height_9 rfl (lv_at hl 2 rfl) ?_
    refine yg_all hx hb hts hown hK hP dX2_height_10 ?_
    refine nv_gt hx hb (pow_lt hm) (all_lt hm) (tgt := 137) dX2_height_13 (by decide) (fun c_13 => ?_) (fun c_13 => ?_)
    · refine lv_iload_n hx hb dX2_height_137 rfl (lv_at hl 1 rfl) ?_
      exact xRW.ret hx hb hr rfl hlocks hS dX2_height_138 (R, cb1, pb1, cl1, ch1) ⟨⟨r, rfl, ch1, h_L, e_r⟩, rfl⟩ hP hD
    · exact absurd c_13 (by have := pw_1 m; omega)

set_option maxHeartbeats 4000000 in
set_option maxRecDepth 100000 in
theorem m_X2_generatorSize {l : Launch} {D : va_G} {d z : ClassId} {h : Nat → Nat} {n m : Nat} {R : Nat → Nat} {cb pb : Nat → Bool} {cl ch : Nat → Nat} (hn : n ≤ 8) (hm : m ≤ 7) (hR : ∀ g, R g < 2 ^ m) {x : Int32} : xRW (YS) l yX2_generatorSize cX2_generatorSize 4 (some .int) 4 88 D (tyX d z) (yw h d z n m R cb pb cl ch) [.ref (h 0), .int x] (fun r u => GenP m (clo n m R) x r ∧ u.1 = R) (fun u => yW h d z n m u) := by
  refine xRW.of (by decide) (Nat.le_of_ble_eq_true rfl) ?_
  intro p e S M below meth c hB hK hP hD ls hl
  obtain ⟨hx, hb, hr, hml, hown, hlocks, hts⟩ := hB
  have hown : S.vm.findClass RX2 = some M.cls := hown
  have hS : va_S (va_A (yw h d z n m R cb pb cl ch) S.heap.size) S.heap S.heap [] := va_S.rf
  have hA : ∀ q : Nat, S.heap.size ≤ q → (va_A (yw h d z n m R cb pb cl ch) S.heap.size) q := fun _ h => Or.inr h
  have hl : lv_has ls 4 [(0, .ref (h 0)), (1, .int x)] := hl
  refine lv_aload_n hx hb dX2_generatorSize_0 rfl (lv_at hl 0 rfl) ?_
  refine lv_iload_n hx hb dX2_generatorSize_1 rfl (lv_at hl 1 rfl) ?_
  refine xRO.call (m_X2_badSet hm) ⟨hx, hb, hml, hown, hts⟩ (cwV 1 hts (lw_V q262 q264 qs15 q28 q265) rfl rfl rfl (by decide +kernel) ⟨Nat.le_of_ble_eq_true rfl, Nat.le_of_ble_eq_true rfl⟩) hK hP (y_rc hK hP) hS hA hl.1 rfl rfl (Nat.le_of_ble_eq_true rfl) ⟨Nat.zero_le _, Nat.zero_le _⟩ dX2_generatorSize_2 (fun r_ H locs hr_ hT hS => ?_)
  have hP := hT _ hP
  subst hr_
  refine nv_eqB hx hb (tgt := 10) dX2_generatorSize_5 (by decide) (fun c_5 => ?_) (fun c_5 => ?_)
  · obtain ⟨s, hs, rfl⟩ := inB_t (pow_lt hm) (nB_f c_5)
    refine lv_aload_n hx hb dX2_generatorSize_10 rfl (lv_at hl 0 rfl) ?_
    refine xRV.call0 (m_X2_tabulate hn hm hR) ⟨hx, hb, hml, hown, hts⟩ (cwV 0 hts (lw_V q302 q304 qs20 q28 q305) rfl rfl rfl (by decide +kernel) ⟨Nat.le_of_ble_eq_true rfl, Nat.le_of_ble_eq_true rfl⟩) hK hP hD (y_rc hK hP) hS hA hl.1 rfl rfl (Nat.le_of_ble_eq_true rfl) ⟨Nat.zero_le _, Nat.zero_le _⟩ dX2_generatorSize_11 (fun u_ H locs hu_ hP hD hS => ?_)
    obtain ⟨cb1, pb1, cl1⟩ := u_
    have hP : va_P D clX (yw h d z n m R cb1 pb1 cl1 ch) H := hP
    have hD : va_D (va_A (yw h d z n m R cb pb cl ch) S.heap.size) (yw h d z n m R cb1 pb1 cl1 ch) := hD
    have hu_ : Tab n m R (2 ^ m) cb1 pb1 cl1 := hu_
    refine lv_bipush (v := nI 7) hx hb dX2_generatorSize_14 (by decide) ?_
    refine lv_istore_n (lv' := [(2, .int (nI 7)), (0, .ref (h 0)), (1, .int (nI s))]) hx hb dX2_generatorSize_16 rfl hl (by decide) rfl (fun ls hl => ?_)
    refine lv_iconst (v := nI 0) hx hb dX2_generatorSize_17 (by decide) ?_
    refine lv_istore_n (lv' := [(3, .int (nI 0)), (2, .int (nI 7)), (0, .ref (h 0)), (1, .int (nI s))]) hx hb dX2_generatorSize_18 rfl hl (by decide) rfl (fun ls hl => ?_)
    refine nv_loop (fun (i : Nat) (H : Heap) (locs : List Loc) (ls : Array Slot) => ∃ (r : Nat), r = gen (clo n m R) (clo n m R s) i ∧ va_P D clX (yw h d z n m R cb1 pb1 cl1 ch) H ∧ va_D (va_A (yw h d z n m R cb pb cl ch) S.heap.size) (yw h d z n m R cb1 pb1 cl1 ch) ∧ va_S (va_A (yw h d z n m R cb pb cl ch) S.heap.size) S.heap H locs ∧ lv_has ls 4 [(3, .int (nI i)), (2, .int (nI r)), (0, .ref (h 0)), (1, .int (nI s))]) (2 ^ m) (fun i H locs ls hi_i hI ih_i => ?_) (fun H locs ls hI => ?_) 0 (Nat.zero_le _) ⟨7, rfl, hP, hD, hS, lv_sub hl [0, 1, 2, 3] rfl⟩
    · obtain ⟨r, e_r, hP, hD, hS, hl⟩ := hI
      refine lv_iload_n hx hb dX2_generatorSize_19 rfl (lv_at hl 0 rfl) ?_
      refine lv_aload_n hx hb dX2_generatorSize_20 rfl (lv_at hl 2 rfl) ?_
      refine yg_all hx hb hts hown hK hP dX2_generatorSize_21 ?_
      refine nv_gt hx hb (set_lt hm hi_i) (all_lt hm) (tgt := 63) dX2_generatorSize_24 (by decide) (fun c_24 => ?_) (fun c_24 => ?_)
      · exact absurd hi_i (by have := pw_1 m; omega)
      · refine lv_aload_n hx hb dX2_generatorSize_27 rfl (lv_at hl 2 rfl) ?_
        refine yg_closures hx hb hts hown hK hP dX2_generatorSize_28 ?_
        refine lv_iload_n hx hb dX2_generatorSize_31 rfl (lv_at hl 0 rfl) ?_
        refine yl_closures hx hb hK hP (by have := p7 hm; omega) dX2_generatorSize_32 ?_
        rw [hu_.l hi_i]
        refine lv_aload_n hx hb dX2_generatorSize_33 rfl (lv_at hl 2 rfl) ?_
        refine yg_closures hx hb hts hown hK hP dX2_generatorSize_34 ?_
        refine lv_iload_n hx hb dX2_generatorSize_37 rfl (lv_at hl 3 rfl) ?_
        refine yl_closures hx hb hK hP (by have := p7 hm; omega) dX2_generatorSize_38 ?_
        rw [hu_.l hs]
        refine nv_ne hx hb (set_lt hm ((clo_op n m R).1 i hi_i)) (set_lt hm ((clo_op n m R).1 s hs)) (tgt := 57) dX2_generatorSize_39 (by decide) (fun c_39 => ?_) (fun c_39 => ?_)
        · refine lv_iinc (v := nI (i + 1)) (lv' := [(3, .int (nI (i + 1))), (2, .int (nI r)), (0, .ref (h 0)), (1, .int (nI s))]) hx hb dX2_generatorSize_57 hl (k := 0) rfl (nI_1 _) (by decide) rfl (fun ls hl => ?_)
          refine lv_goto (tgt := 19) hx hb dX2_generatorSize_60 (by decide) ?_
          exact ih_i _ _ _ ⟨r, by rw [gen_0 (fun z => c_39 z.1)]; exact e_r, hP, hD, hS, lv_sub hl [0, 1, 2, 3] rfl⟩
        · refine lv_aload_n hx hb dX2_generatorSize_42 rfl (lv_at hl 2 rfl) ?_
          refine lv_iload_n hx hb dX2_generatorSize_43 rfl (lv_at hl 0 rfl) ?_
          refine xRO.call (m_X2_size (set_lt hm hi_i)) ⟨hx, hb, hml, hown, hts⟩ (cwV 1 hts (lw_V q358 q360 qs25 q28 q361) rfl rfl rfl (by decide +kernel) ⟨Nat.le_of_ble_eq_true rfl, Nat.le_of_ble_eq_true rfl⟩) hK hP (y_rc hK hP) hS hA hl.1 rfl rfl (Nat.le_of_ble_eq_true rfl) ⟨Nat.zero_le _, Nat.zero_le _⟩ dX2_generatorSize_44 (fun r_ H locs hr_ hT hS => ?_)
          have hP := hT _ hP
          subst hr_
          refine lv_iload_n hx hb dX2_generatorSize_47 rfl (lv_at hl 1 rfl) ?_
          refine nv_ge hx hb (by have := cnt_le i 7; omega) (by have := (gen_in (clo n m R) (clo n m R s) i).1; omega) (tgt := 57) dX2_generatorSize_48 (by decide) (fun c_48 => ?_) (fun c_48 => ?_)
          · refine lv_iinc (v := nI (i + 1)) (lv' := [(3, .int (nI (i + 1))), (2, .int (nI r)), (0, .ref (h 0)), (1, .int (nI s))]) hx hb dX2_generatorSize_57 hl (k := 0) rfl (nI_1 _) (by decide) rfl (fun ls hl => ?_)
            refine lv_goto (tgt := 19) hx hb dX2_generatorSize_60 (by decide) ?_
            exact ih_i _ _ _ ⟨r, by rw [gen_0 (fun z => absurd z.2 (by rw [← e_r]; omega))]; exact e_r, hP, hD, hS, lv_sub hl [0, 1, 2, 3] rfl⟩
          · refine lv_aload_n hx hb dX2_generatorSize_51 rfl (lv_at hl 2 rfl) ?_
            refine lv_iload_n hx hb dX2_generatorSize_52 rfl (lv_at hl 0 rfl) ?_
            refine xRO.call (m_X2_size (set_lt hm hi_i)) ⟨hx, hb, hml, hown, hts⟩ (cwV 1 hts (lw_V q358 q360 qs25 q28 q361) rfl rfl rfl (by decide +kernel) ⟨Nat.le_of_ble_eq_true rfl, Nat.le_of_ble_eq_true rfl⟩) hK hP (y_rc hK hP) hS hA hl.1 rfl rfl (Nat.le_of_ble_eq_true rfl) ⟨Nat.zero_le _, Nat.zero_le _⟩ dX2_generatorSize_53 (fun r_ H locs hr_ hT hS => ?_)
            have hP := hT _ hP
            subst hr_
            refine lv_istore_n (lv' := [(2, .int (nI (cnt i 7))), (3, .int (nI i)), (0, .ref (h 0)), (1, .int (nI s))]) hx hb dX2_generatorSize_56 rfl hl (by decide) rfl (fun ls hl => ?_)
            refine lv_iinc (v := nI (i + 1)) (lv' := [(3, .int (nI (i + 1))), (2, .int (nI (cnt i 7))), (0, .ref (h 0)), (1, .int (nI s))]) hx hb dX2_generatorSize_57 hl (k := 1) rfl (nI_1 _) (by decide) rfl (fun ls hl => ?_)
            refine lv_goto (tgt := 19) hx hb dX2_generatorSize_60 (by decide) ?_
            exact ih_i _ _ _ ⟨cnt i 7, by rw [gen_1 c_39 (by rw [← e_r]; exact c_48)], hP, hD, hS, lv_sub hl [0, 1, 2, 3] rfl⟩
    · obtain ⟨r, e_r, hP, hD, hS, hl⟩ := hI
      refine lv_iload_n hx hb dX2_generatorSize_19 rfl (lv_at hl 0 rfl) ?_
      refine lv_aload_n hx hb dX2_generatorSize_20 rfl (lv_at hl 2 rfl) ?_
      refine yg_all hx hb hts hown hK hP dX2_generatorSize_21 ?_
      refine nv_gt hx hb (pow_lt hm) (all_lt hm) (tgt := 63) dX2_generatorSize_24 (by decide) (fun c_24 => ?_) (fun c_24 => ?_)
      · refine lv_iload_n hx hb dX2_generatorSize_63 rfl (lv_at hl 1 rfl) ?_
        exact xRW.ret hx hb hr rfl hlocks hS dX2_generatorSize_64 (R, cb1, pb1, cl1, ch) ⟨Or.inr ⟨s, r, rfl, hs, by rw [e_r]; exact gen_ok hs, rfl⟩, rfl⟩ hP hD
      · exact absurd c_24 (by have := pw_1 m; omega)
  · refine lv_iconst (v := (-1)) hx hb dX2_generatorSize_8 (by decide) ?_
    exact xRW.ret hx hb hr rfl hlocks hS dX2_generatorSize_9 (R, cb, pb, cl, ch) ⟨Or.inl ⟨nB_t c_5, rfl⟩, rfl⟩ hP hD

set_option maxHeartbeats 4000000 in
set_option maxRecDepth 100000 in
theorem m_X2_dispensable {l : Launch} {D : va_G} {d z : ClassId} {h : Nat → Nat} {n m : Nat} {R : Nat → Nat} {cb pb : Nat → Bool} {cl ch : Nat → Nat} (hn : n ≤ 8) (hm : m ≤ 7) (hR : ∀ g, R g < 2 ^ m) {x : Int32} : xRW (YS) l yX2_dispensable cX2_dispensable 3 (some .int) 4 88 D (tyX d z) (yw h d z n m R cb pb cl ch) [.ref (h 0), .int x] (fun r u => DspP m (clo n m R) x r ∧ u.1 = R) (fun u => yW h d z n m u) := by
  refine xRW.of (by decide) (Nat.le_of_ble_eq_true rfl) ?_
  intro p e S M below meth c hB hK hP hD ls hl
  obtain ⟨hx, hb, hr, hml, hown, hlocks, hts⟩ := hB
  have hown : S.vm.findClass RX2 = some M.cls := hown
  have hS : va_S (va_A (yw h d z n m R cb pb cl ch) S.heap.size) S.heap S.heap [] := va_S.rf
  have hA : ∀ q : Nat, S.heap.size ≤ q → (va_A (yw h d z n m R cb pb cl ch) S.heap.size) q := fun _ h => Or.inr h
  have hl : lv_has ls 3 [(0, .ref (h 0)), (1, .int x)] := hl
  refine lv_aload_n hx hb dX2_dispensable_0 rfl (lv_at hl 0 rfl) ?_
  refine lv_iload_n hx hb dX2_dispensable_1 rfl (lv_at hl 1 rfl) ?_
  refine xRO.call (m_X2_badAttribute) ⟨hx, hb, hml, hown, hts⟩ (cwV 1 hts (lw_V q254 q256 qs14 q28 q257) rfl rfl rfl (by decide +kernel) ⟨Nat.le_of_ble_eq_true rfl, Nat.le_of_ble_eq_true rfl⟩) hK hP (y_rc hK hP) hS hA hl.1 rfl rfl (Nat.le_of_ble_eq_true rfl) ⟨Nat.zero_le _, Nat.zero_le _⟩ dX2_dispensable_2 (fun r_ H locs hr_ hT hS => ?_)
  have hP := hT _ hP
  subst hr_
  refine nv_eqB hx hb (tgt := 10) dX2_dispensable_5 (by decide) (fun c_5 => ?_) (fun c_5 => ?_)
  · obtain ⟨a, ha, rfl⟩ := inB_t (by omega) (nB_f c_5)
    refine lv_aload_n hx hb dX2_dispensable_10 rfl (lv_at hl 0 rfl) ?_
    refine xRV.call0 (m_X2_tabulate hn hm hR) ⟨hx, hb, hml, hown, hts⟩ (cwV 0 hts (lw_V q302 q304 qs20 q28 q305) rfl rfl rfl (by decide +kernel) ⟨Nat.le_of_ble_eq_true rfl, Nat.le_of_ble_eq_true rfl⟩) hK hP hD (y_rc hK hP) hS hA hl.1 rfl rfl (Nat.le_of_ble_eq_true rfl) ⟨Nat.zero_le _, Nat.zero_le _⟩ dX2_dispensable_11 (fun u_ H locs hu_ hP hD hS => ?_)
    obtain ⟨cb1, pb1, cl1⟩ := u_
    have hP : va_P D clX (yw h d z n m R cb1 pb1 cl1 ch) H := hP
    have hD : va_D (va_A (yw h d z n m R cb pb cl ch) S.heap.size) (yw h d z n m R cb1 pb1 cl1 ch) := hD
    have hu_ : Tab n m R (2 ^ m) cb1 pb1 cl1 := hu_
    refine lv_iconst (v := nI 0) hx hb dX2_dispensable_14 (by decide) ?_
    refine lv_istore_n (lv' := [(2, .int (nI 0)), (0, .ref (h 0)), (1, .int (nI a))]) hx hb dX2_dispensable_15 rfl hl (by decide) rfl (fun ls hl => ?_)
    refine nv_loop (fun (i : Nat) (H : Heap) (locs : List Loc) (ls : Array Slot) => (∀ s, s < i → ¬ (clo n m R s = s ∧ clo n m R (s ^^^ 2 ^ a) = s ^^^ 2 ^ a)) ∧ va_P D clX (yw h d z n m R cb1 pb1 cl1 ch) H ∧ va_D (va_A (yw h d z n m R cb pb cl ch) S.heap.size) (yw h d z n m R cb1 pb1 cl1 ch) ∧ va_S (va_A (yw h d z n m R cb pb cl ch) S.heap.size) S.heap H locs ∧ lv_has ls 3 [(2, .int (nI i)), (0, .ref (h 0)), (1, .int (nI a))]) (2 ^ m) (fun i H locs ls hi_i hI ih_i => ?_) (fun H locs ls hI => ?_) 0 (Nat.zero_le _) ⟨fun s hs => absurd hs (by omega), hP, hD, hS, lv_sub hl [0, 1, 2] rfl⟩
    · obtain ⟨h_n, hP, hD, hS, hl⟩ := hI
      refine lv_iload_n hx hb dX2_dispensable_16 rfl (lv_at hl 0 rfl) ?_
      refine lv_aload_n hx hb dX2_dispensable_17 rfl (lv_at hl 1 rfl) ?_
      refine yg_all hx hb hts hown hK hP dX2_dispensable_18 ?_
      refine nv_gt hx hb (set_lt hm hi_i) (all_lt hm) (tgt := 54) dX2_dispensable_21 (by decide) (fun c_21 => ?_) (fun c_21 => ?_)
      · exact absurd hi_i (by have := pw_1 m; omega)
      · refine lv_aload_n hx hb dX2_dispensable_24 rfl (lv_at hl 1 rfl) ?_
        refine yg_closed hx hb hts hown hK hP dX2_dispensable_25 ?_
        refine lv_iload_n hx hb dX2_dispensable_28 rfl (lv_at hl 0 rfl) ?_
        refine yl_closed hx hb hK hP (by have := p7 hm; omega) dX2_dispensable_29 ?_
        rw [hu_.c hi_i]
        refine nv_eqB hx hb (tgt := 48) dX2_dispensable_30 (by decide) (fun c_30 => ?_) (fun c_30 => ?_)
        · refine lv_iinc (v := nI (i + 1)) (lv' := [(2, .int (nI (i + 1))), (0, .ref (h 0)), (1, .int (nI a))]) hx hb dX2_dispensable_48 hl (k := 0) rfl (nI_1 _) (by decide) rfl (fun ls hl => ?_)
          refine lv_goto (tgt := 16) hx hb dX2_dispensable_51 (by decide) ?_
          exact ih_i _ _ _ ⟨lt_s h_n (fun z => isC_f.mp c_30 z.1), hP, hD, hS, lv_sub hl [0, 1, 2] rfl⟩
        · refine lv_aload_n hx hb dX2_dispensable_33 rfl (lv_at hl 1 rfl) ?_
          refine yg_closed hx hb hts hown hK hP dX2_dispensable_34 ?_
          refine lv_iload_n hx hb dX2_dispensable_37 rfl (lv_at hl 0 rfl) ?_
          refine lv_iconst (v := nI 1) hx hb dX2_dispensable_38 (by decide) ?_
          refine lv_iload_n hx hb dX2_dispensable_39 rfl (lv_at hl 2 rfl) ?_
          refine nv_ishl hx hb (by omega) dX2_dispensable_40 ?_
          refine nv_ixor hx hb dX2_dispensable_41 ?_
          have hxo : i ^^^ 2 ^ a < 2 ^ m := Nat.xor_lt_two_pow hi_i (pow_b ha)
          refine yl_closed hx hb hK hP (by have := p7 hm; omega) dX2_dispensable_42 ?_
          rw [hu_.c hxo]
          refine nv_eqB hx hb (tgt := 48) dX2_dispensable_43 (by decide) (fun c_43 => ?_) (fun c_43 => ?_)
          · refine lv_iinc (v := nI (i + 1)) (lv' := [(2, .int (nI (i + 1))), (0, .ref (h 0)), (1, .int (nI a))]) hx hb dX2_dispensable_48 hl (k := 0) rfl (nI_1 _) (by decide) rfl (fun ls hl => ?_)
            refine lv_goto (tgt := 16) hx hb dX2_dispensable_51 (by decide) ?_
            exact ih_i _ _ _ ⟨lt_s h_n (fun z => isC_f.mp c_43 z.2), hP, hD, hS, lv_sub hl [0, 1, 2] rfl⟩
          · refine lv_iconst (v := nI 0) hx hb dX2_dispensable_46 (by decide) ?_
            exact xRW.ret hx hb hr rfl hlocks hS dX2_dispensable_47 (R, cb1, pb1, cl1, ch) ⟨Or.inr ⟨a, rfl, ha, Or.inl ⟨rfl, i, hi_i, isC_t.mp c_30, isC_t.mp c_43⟩⟩, rfl⟩ hP hD
    · obtain ⟨h_n, hP, hD, hS, hl⟩ := hI
      refine lv_iload_n hx hb dX2_dispensable_16 rfl (lv_at hl 0 rfl) ?_
      refine lv_aload_n hx hb dX2_dispensable_17 rfl (lv_at hl 1 rfl) ?_
      refine yg_all hx hb hts hown hK hP dX2_dispensable_18 ?_
      refine nv_gt hx hb (pow_lt hm) (all_lt hm) (tgt := 54) dX2_dispensable_21 (by decide) (fun c_21 => ?_) (fun c_21 => ?_)
      · refine lv_iconst (v := nI 1) hx hb dX2_dispensable_54 (by decide) ?_
        exact xRW.ret hx hb hr rfl hlocks hS dX2_dispensable_55 (R, cb1, pb1, cl1, ch) ⟨Or.inr ⟨a, rfl, ha, Or.inr ⟨rfl, fun ⟨s1, s2, s3, s4⟩ => h_n s1 s2 ⟨s3, s4⟩⟩⟩, rfl⟩ hP hD
      · exact absurd c_21 (by have := pw_1 m; omega)
  · refine lv_iconst (v := (-1)) hx hb dX2_dispensable_8 (by decide) ?_
    exact xRW.ret hx hb hr rfl hlocks hS dX2_dispensable_9 (R, cb, pb, cl, ch) ⟨Or.inl ⟨nB_t c_5, rfl⟩, rfl⟩ hP hD
end
section
/-! rows for the constructors and the law -/
theorem q71 : (Jvm.Cond.arrayClass Jvm.ClassFile.FieldType.int) ∈ lw_all := lw_g (lw_at lw_m1 45 rfl) rfl
/-- a number held between two bounds -/
def cN (x : Int32) : Nat := if nI 1 ≤ x then (if x ≤ nI 8 then x.toNatClampNeg else 8) else 1
def cM (x : Int32) : Nat := if nI 2 ≤ x then (if x ≤ nI 7 then x.toNatClampNeg else 7) else 2
theorem cl_mid {x : Int32} {a b : Nat} (ha : a < 2 ^ 31) (hb : b < 2 ^ 31) (h1 : nI a ≤ x) (h2 : x ≤ nI b) : ∃ j : Nat, a ≤ j ∧ j ≤ b ∧ x = nI j := by
  rcases pk_ix x (show b + 1 < 2 ^ 32 by omega |> fun _ => (show b < 2 ^ 31 from hb)) with g | g | ⟨j, hj, rfl⟩
  · exact absurd (Int32.le_trans (nI_pos' ha) h1) (Int32.not_le.mpr g)
  · have e : x = nI b := Int32.le_antisymm h2 g
    subst e
    exact ⟨b, (nI_leI ha hb).mp h1, Nat.le_refl b, rfl⟩
  · exact ⟨j, (nI_leI ha (by omega)).mp h1, by omega, rfl⟩
theorem cN_lo {x : Int32} (h : ¬ nI 1 ≤ x) : cN x = 1 := if_neg h
theorem cN_hi {x : Int32} (h : nI 1 ≤ x) (h2 : ¬ x ≤ nI 8) : cN x = 8 := by unfold cN; rw [if_pos h, if_neg h2]
theorem cN_mid {x : Int32} (h : nI 1 ≤ x) (h2 : x ≤ nI 8) : nI (cN x) = x := by
  obtain ⟨j, h3, h4, rfl⟩ := cl_mid (by decide) (by decide) h h2
  unfold cN
  rw [if_pos h, if_pos h2, nI_clamp (by omega)]
theorem cM_lo {x : Int32} (h : ¬ nI 2 ≤ x) : cM x = 2 := if_neg h
theorem cM_hi {x : Int32} (h : nI 2 ≤ x) (h2 : ¬ x ≤ nI 7) : cM x = 7 := by unfold cM; rw [if_pos h, if_neg h2]
theorem cM_mid {x : Int32} (h : nI 2 ≤ x) (h2 : x ≤ nI 7) : nI (cM x) = x := by
  obtain ⟨j, h3, h4, rfl⟩ := cl_mid (by decide) (by decide) h h2
  unfold cM
  rw [if_pos h, if_pos h2, nI_clamp (by omega)]
theorem cN_le (x : Int32) : cN x ≤ 8 := by
  unfold cN
  by_cases h : nI 1 ≤ x
  · rw [if_pos h]
    by_cases h2 : x ≤ nI 8
    · obtain ⟨j, h3, h4, rfl⟩ := cl_mid (by decide) (by decide) h h2
      rw [if_pos h2, nI_clamp (by omega)]; exact h4
    · rw [if_neg h2]; exact Nat.le_refl 8
  · rw [if_neg h]; decide
theorem cM_le (x : Int32) : cM x ≤ 7 := by
  unfold cM
  by_cases h : nI 2 ≤ x
  · rw [if_pos h]
    by_cases h2 : x ≤ nI 7
    · obtain ⟨j, h3, h4, rfl⟩ := cl_mid (by decide) (by decide) h h2
      rw [if_pos h2, nI_clamp (by omega)]; exact h4
    · rw [if_neg h2]; exact Nat.le_refl 7
  · rw [if_neg h]; decide
/-- an array's class is one -/
theorem cA_int {D : va_G} {cl : List vw_C} {tys : List (ClassId × FieldType)} {s : State} {a b : ClassId} (hK : va_K D cl tys s) (i j : Nat) (h1 : tys[i]? = some (a, .int)) (h2 : tys[j]? = some (b, .int)) : a = b := Option.some.inj ((hK.2 i _ h1).2.symm.trans (hK.2 j _ h2).2)
theorem cA_boo {D : va_G} {cl : List vw_C} {tys : List (ClassId × FieldType)} {s : State} {a b : ClassId} (hK : va_K D cl tys s) (i j : Nat) (h1 : tys[i]? = some (a, .boolean)) (h2 : tys[j]? = some (b, .boolean)) : a = b := Option.some.inj ((hK.2 i _ h1).2.symm.trans (hK.2 j _ h2).2)
abbrev x0w (h0 : Nat) : va_W := [(h0, .inr (0, [.null, .null, .null, .null, .null, .null, .int (nI 0), .int (nI 0), .int (nI 0), .int (nI 0), .int (nI 0)]))]
abbrev y0w (h0 : Nat) : va_W := [(h0, .inr (1, [.int (nI 0), .int (nI 0), .int (nI 0), .null, .null, .null, .null, .null]))]
abbrev z0 : Nat → Nat := fun _ => 0
abbrev f0 : Nat → Bool := fun _ => false
def xMade (D : va_G) (h0 n m : Nat) (A : Nat → Prop) (t : State) : Prop := ∃ (h : Nat → Nat) (d : ClassId), h 0 = h0 ∧ va_P D clX (xw h d n m 0 0 0 z0 z0 z0 z0 z0 z0) t.heap ∧ va_K D clX [(d, .int)] t ∧ va_D A (xw h d n m 0 0 0 z0 z0 z0 z0 z0 z0)
def yMade (D : va_G) (h0 n m : Nat) (A : Nat → Prop) (t : State) : Prop := ∃ (h : Nat → Nat) (d z : ClassId), h 0 = h0 ∧ va_P D clX (yw h d z n m z0 f0 f0 z0 z0) t.heap ∧ va_K D clX (tyX d z) t ∧ va_D A (yw h d z n m z0 f0 f0 z0 z0)
section NJ
variable {p : Program} {l : Launch} {e : Env} {R : Room} {s : State} {m : MethodId} {args : Array Value} {below : List Frame} {meth : Method} {c : Code} {H : Heap} {locs : List Loc} {cells slots : Nat} {Q : State → Prop}
variable {cc : ByteArray} {pc : Nat} {ls : Array Slot} {rest : List Value}
/-- ways that meet -/
theorem nv_join (tgt : Nat) (rest' : List Value) (P : Heap → List Loc → Prop) (k : ∀ (H : Heap) (locs : List Loc), P H locs → W p l e R s m args below meth c H locs cells slots Q (F0 m tgt ls rest'))
    (body : (∀ (H : Heap) (locs : List Loc), P H locs → W p l e R s m args below meth c H locs cells slots Q (F0 m tgt ls rest')) → W p l e R s m args below meth c H locs cells slots Q (F0 m pc ls rest)) : W p l e R s m args below meth c H locs cells slots Q (F0 m pc ls rest) := body k
end NJ
end
section
/-! the constructors -/
set_option maxHeartbeats 4000000 in
set_option maxRecDepth 100000 in
theorem m_X1_init (l : Launch) (D : va_G) (h0 sz : Nat) (x y : Int32) : Met l yX1_init (ws_ yX1_init cX1_init 3 none) ({ frames := 1, cells := 6, slots := 527, locals := 12 }) (va_Pc [.ref h0, .int x, .int y] (fun U => U.heap.size = sz ∧ va_P D clX (x0w h0) U.heap ∧ va_K D clX [] U ∧ va_D (fun _ => True) (x0w h0))) (va_Qv (fun _ : Unit => True) (fun _ t => xMade D h0 (cN x) (cM y) (va_A (x0w h0) sz) t) (va_A (x0w h0) sz)) 6 527 (va_A (x0w h0) sz) := by
  refine Met.ofW (cc := cX1_init) (maxL := 3) (ret := none) (by decide) rfl ?_
  intro p e S M args below meth c s₁ B hml hv
  obtain ⟨rfl, hsz, hP, hK, hD0⟩ := hv
  have hx := B.exec
  have hb := B.bytes
  have hr := B.returns
  have hts := atoms_spec (ws := ws_ yX1_init cX1_init 3 none) B.pre
  have hts : ∀ w ∈ lw_all, w.before _ S = true := fun w h => hts w (List.mem_cons_of_mem _ h)
  have hown : S.vm.findClass RX1 = some M.cls := findClass_of_methodNamed B.named
  have hlocks := B.notSynchronized
  have hin : meth.name = "<init>" := (name_of_methodNamed B.named B.method).1
  subst hsz
  have hD := hD0.self (sz := S.heap.size)
  generalize hAe : va_A (x0w h0) S.heap.size = A at hD ⊢
  have hA : ∀ q : Nat, S.heap.size ≤ q → A q := fun q h => by rw [← hAe]; exact Or.inr h
  have hS : va_S A S.heap S.heap [] := va_S.rf
  have hl := lv_entry ([.ref h0, .int x, .int y]) (n := 3) (Nat.le_of_ble_eq_true rfl)
  rw [lg_entry_eq]
  generalize (lg_sl ([.ref h0, .int x, .int y]) ++ List.replicate (3 - (lg_sl ([.ref h0, .int x, .int y])).length) Slot.unset).toArray = ls at hl ⊢
  have hl : lv_has ls 3 [(0, .ref h0), (1, .int x), (2, .int y)] := hl
  refine lv_aload_n hx hb dX1_init_0 rfl (lv_at hl 0 rfl) ?_
  refine W.objInit hx hb hown (hts _ q34) (hts _ q35) (hts _ q36) rfl (by rw [hml]; exact hl.1) rfl dX1_init_1 (Nat.le_of_ble_eq_true rfl) (Nat.le_of_ble_eq_true rfl) ?_
  refine W.eq (g2 := F0 M 4 ls []) rfl ?_
  refine lv_aload_n hx hb dX1_init_4 rfl (lv_at hl 0 rfl) ?_
  refine lv_bipush (v := nI 8) hx hb dX1_init_5 (by decide) ?_
  refine va_newa (atype := .int) (a0 := (8, .inl (nf z0))) hx hb (hts _ q71) rfl hK hP hD hS hA (fun _ => rfl) (by decide) (by decide) (by decide) (Nat.le_of_ble_eq_true rfl) (Nat.le_of_ble_eq_true rfl) dX1_init_7 (fun q1_ c1_ H hK hP hD hS => ?_)
  have hK : va_K D clX [(c1_, .int)] S := hK
  have hP : va_P D clX [(h0, .inr (0, [.null, .null, .null, .null, .null, .null, .int (nI 0), .int (nI 0), .int (nI 0), .int (nI 0), .int (nI 0)])), (q1_, .inl (c1_, (8, .inl (nf z0))))] H := hP
  have hD : va_D A [(h0, .inr (0, [.null, .null, .null, .null, .null, .null, .int (nI 0), .int (nI 0), .int (nI 0), .int (nI 0), .int (nI 0)])), (q1_, .inl (c1_, (8, .inl (nf z0))))] := hD
  refine va_putF (D := D) (ci := 0) (v := .ref q1_) (ty := .array .int) (C := RX1) (T := TX1) (N := 11) hx hb hts in_X1 tyX1 tyX1_ok nmX1 hown hK hP hD hS 0 rfl rfl 0 (by decide) (hts _ q37) (fun _ h9 => h9) rfl hin rfl (by decide +kernel) rfl rfl (Nat.le_of_ble_eq_true rfl) dX1_init_9 (fun H locs hP hD hS => ?_)
  have hP : va_P D clX [(h0, .inr (0, [.ref q1_, .null, .null, .null, .null, .null, .int (nI 0), .int (nI 0), .int (nI 0), .int (nI 0), .int (nI 0)])), (q1_, .inl (c1_, (8, .inl (nf z0))))] H := hP
  have hD : va_D A [(h0, .inr (0, [.ref q1_, .null, .null, .null, .null, .null, .int (nI 0), .int (nI 0), .int (nI 0), .int (nI 0), .int (nI 0)])), (q1_, .inl (c1_, (8, .inl (nf z0))))] := hD
  refine lv_aload_n hx hb dX1_init_12 rfl (lv_at hl 0 rfl) ?_
  refine lv_bipush (v := nI 7) hx hb dX1_init_13 (by decide) ?_
  refine va_newa (atype := .int) (a0 := (7, .inl (nf z0))) hx hb (hts _ q71) rfl hK hP hD hS hA (fun _ => rfl) (by decide) (by decide) (by decide) (Nat.le_of_ble_eq_true rfl) (Nat.le_of_ble_eq_true rfl) dX1_init_15 (fun q2_ c2_ H hK hP hD hS => ?_)
  obtain rfl : c1_ = c2_ := cA_int hK 0 1 rfl rfl
  have hK : va_K D clX [(c1_, .int)] S := hK.sub [0] rfl
  have hP : va_P D clX [(h0, .inr (0, [.ref q1_, .null, .null, .null, .null, .null, .int (nI 0), .int (nI 0), .int (nI 0), .int (nI 0), .int (nI 0)])), (q1_, .inl (c1_, (8, .inl (nf z0)))), (q2_, .inl (c1_, (7, .inl (nf z0))))] H := hP
  have hD : va_D A [(h0, .inr (0, [.ref q1_, .null, .null, .null, .null, .null, .int (nI 0), .int (nI 0), .int (nI 0), .int (nI 0), .int (nI 0)])), (q1_, .inl (c1_, (8, .inl (nf z0)))), (q2_, .inl (c1_, (7, .inl (nf z0))))] := hD
  refine va_putF (D := D) (ci := 0) (v := .ref q2_) (ty := .array .int) (C := RX1) (T := TX1) (N := 11) hx hb hts in_X1 tyX1 tyX1_ok nmX1 hown hK hP hD hS 0 rfl rfl 1 (by decide) (hts _ q38) (fun _ h9 => h9) rfl hin rfl (by decide +kernel) rfl rfl (Nat.le_of_ble_eq_true rfl) dX1_init_17 (fun H locs hP hD hS => ?_)
  have hP : va_P D clX [(h0, .inr (0, [.ref q1_, .ref q2_, .null, .null, .null, .null, .int (nI 0), .int (nI 0), .int (nI 0), .int (nI 0), .int (nI 0)])), (q1_, .inl (c1_, (8, .inl (nf z0)))), (q2_, .inl (c1_, (7, .inl (nf z0))))] H := hP
  have hD : va_D A [(h0, .inr (0, [.ref q1_, .ref q2_, .null, .null, .null, .null, .int (nI 0), .int (nI 0), .int (nI 0), .int (nI 0), .int (nI 0)])), (q1_, .inl (c1_, (8, .inl (nf z0)))), (q2_, .inl (c1_, (7, .inl (nf z0))))] := hD
  refine lv_aload_n hx hb dX1_init_20 rfl (lv_at hl 0 rfl) ?_
  refine lv_sipush (v := nI 128) hx hb dX1_init_21 (by decide) ?_
  refine va_newa (atype := .int) (a0 := (128, .inl (nf z0))) hx hb (hts _ q71) rfl hK hP hD hS hA (fun _ => rfl) (by decide) (by decide) (by decide) (Nat.le_of_ble_eq_true rfl) (Nat.le_of_ble_eq_true rfl) dX1_init_24 (fun q3_ c3_ H hK hP hD hS => ?_)
  obtain rfl : c1_ = c3_ := cA_int hK 0 1 rfl rfl
  have hK : va_K D clX [(c1_, .int)] S := hK.sub [0] rfl
  have hP : va_P D clX [(h0, .inr (0, [.ref q1_, .ref q2_, .null, .null, .null, .null, .int (nI 0), .int (nI 0), .int (nI 0), .int (nI 0), .int (nI 0)])), (q1_, .inl (c1_, (8, .inl (nf z0)))), (q2_, .inl (c1_, (7, .inl (nf z0)))), (q3_, .inl (c1_, (128, .inl (nf z0))))] H := hP
  have hD : va_D A [(h0, .inr (0, [.ref q1_, .ref q2_, .null, .null, .null, .null, .int (nI 0), .int (nI 0), .int (nI 0), .int (nI 0), .int (nI 0)])), (q1_, .inl (c1_, (8, .inl (nf z0)))), (q2_, .inl (c1_, (7, .inl (nf z0)))), (q3_, .inl (c1_, (128, .inl (nf z0))))] := hD
  refine va_putF (D := D) (ci := 0) (v := .ref q3_) (ty := .array .int) (C := RX1) (T := TX1) (N := 11) hx hb hts in_X1 tyX1 tyX1_ok nmX1 hown hK hP hD hS 0 rfl rfl 2 (by decide) (hts _ q39) (fun _ h9 => h9) rfl hin rfl (by decide +kernel) rfl rfl (Nat.le_of_ble_eq_true rfl) dX1_init_26 (fun H locs hP hD hS => ?_)
  have hP : va_P D clX [(h0, .inr (0, [.ref q1_, .ref q2_, .ref q3_, .null, .null, .null, .int (nI 0), .int (nI 0), .int (nI 0), .int (nI 0), .int (nI 0)])), (q1_, .inl (c1_, (8, .inl (nf z0)))), (q2_, .inl (c1_, (7, .inl (nf z0)))), (q3_, .inl (c1_, (128, .inl (nf z0))))] H := hP
  have hD : va_D A [(h0, .inr (0, [.ref q1_, .ref q2_, .ref q3_, .null, .null, .null, .int (nI 0), .int (nI 0), .int (nI 0), .int (nI 0), .int (nI 0)])), (q1_, .inl (c1_, (8, .inl (nf z0)))), (q2_, .inl (c1_, (7, .inl (nf z0)))), (q3_, .inl (c1_, (128, .inl (nf z0))))] := hD
  refine lv_aload_n hx hb dX1_init_29 rfl (lv_at hl 0 rfl) ?_
  refine lv_sipush (v := nI 128) hx hb dX1_init_30 (by decide) ?_
  refine va_newa (atype := .int) (a0 := (128, .inl (nf z0))) hx hb (hts _ q71) rfl hK hP hD hS hA (fun _ => rfl) (by decide) (by decide) (by decide) (Nat.le_of_ble_eq_true rfl) (Nat.le_of_ble_eq_true rfl) dX1_init_33 (fun q4_ c4_ H hK hP hD hS => ?_)
  obtain rfl : c1_ = c4_ := cA_int hK 0 1 rfl rfl
  have hK : va_K D clX [(c1_, .int)] S := hK.sub [0] rfl
  have hP : va_P D clX [(h0, .inr (0, [.ref q1_, .ref q2_, .ref q3_, .null, .null, .null, .int (nI 0), .int (nI 0), .int (nI 0), .int (nI 0), .int (nI 0)])), (q1_, .inl (c1_, (8, .inl (nf z0)))), (q2_, .inl (c1_, (7, .inl (nf z0)))), (q3_, .inl (c1_, (128, .inl (nf z0)))), (q4_, .inl (c1_, (128, .inl (nf z0))))] H := hP
  have hD : va_D A [(h0, .inr (0, [.ref q1_, .ref q2_, .ref q3_, .null, .null, .null, .int (nI 0), .int (nI 0), .int (nI 0), .int (nI 0), .int (nI 0)])), (q1_, .inl (c1_, (8, .inl (nf z0)))), (q2_, .inl (c1_, (7, .inl (nf z0)))), (q3_, .inl (c1_, (128, .inl (nf z0)))), (q4_, .inl (c1_, (128, .inl (nf z0))))] := hD
  refine va_putF (D := D) (ci := 0) (v := .ref q4_) (ty := .array .int) (C := RX1) (T := TX1) (N := 11) hx hb hts in_X1 tyX1 tyX1_ok nmX1 hown hK hP hD hS 0 rfl rfl 3 (by decide) (hts _ q40) (fun _ h9 => h9) rfl hin rfl (by decide +kernel) rfl rfl (Nat.le_of_ble_eq_true rfl) dX1_init_35 (fun H locs hP hD hS => ?_)
  have hP : va_P D clX [(h0, .inr (0, [.ref q1_, .ref q2_, .ref q3_, .ref q4_, .null, .null, .int (nI 0), .int (nI 0), .int (nI 0), .int (nI 0), .int (nI 0)])), (q1_, .inl (c1_, (8, .inl (nf z0)))), (q2_, .inl (c1_, (7, .inl (nf z0)))), (q3_, .inl (c1_, (128, .inl (nf z0)))), (q4_, .inl (c1_, (128, .inl (nf z0))))] H := hP
  have hD : va_D A [(h0, .inr (0, [.ref q1_, .ref q2_, .ref q3_, .ref q4_, .null, .null, .int (nI 0), .int (nI 0), .int (nI 0), .int (nI 0), .int (nI 0)])), (q1_, .inl (c1_, (8, .inl (nf z0)))), (q2_, .inl (c1_, (7, .inl (nf z0)))), (q3_, .inl (c1_, (128, .inl (nf z0)))), (q4_, .inl (c1_, (128, .inl (nf z0))))] := hD
  refine lv_aload_n hx hb dX1_init_38 rfl (lv_at hl 0 rfl) ?_
  refine lv_sipush (v := nI 128) hx hb dX1_init_39 (by decide) ?_
  refine va_newa (atype := .int) (a0 := (128, .inl (nf z0))) hx hb (hts _ q71) rfl hK hP hD hS hA (fun _ => rfl) (by decide) (by decide) (by decide) (Nat.le_of_ble_eq_true rfl) (Nat.le_of_ble_eq_true rfl) dX1_init_42 (fun q5_ c5_ H hK hP hD hS => ?_)
  obtain rfl : c1_ = c5_ := cA_int hK 0 1 rfl rfl
  have hK : va_K D clX [(c1_, .int)] S := hK.sub [0] rfl
  have hP : va_P D clX [(h0, .inr (0, [.ref q1_, .ref q2_, .ref q3_, .ref q4_, .null, .null, .int (nI 0), .int (nI 0), .int (nI 0), .int (nI 0), .int (nI 0)])), (q1_, .inl (c1_, (8, .inl (nf z0)))), (q2_, .inl (c1_, (7, .inl (nf z0)))), (q3_, .inl (c1_, (128, .inl (nf z0)))), (q4_, .inl (c1_, (128, .inl (nf z0)))), (q5_, .inl (c1_, (128, .inl (nf z0))))] H := hP
  have hD : va_D A [(h0, .inr (0, [.ref q1_, .ref q2_, .ref q3_, .ref q4_, .null, .null, .int (nI 0), .int (nI 0), .int (nI 0), .int (nI 0), .int (nI 0)])), (q1_, .inl (c1_, (8, .inl (nf z0)))), (q2_, .inl (c1_, (7, .inl (nf z0)))), (q3_, .inl (c1_, (128, .inl (nf z0)))), (q4_, .inl (c1_, (128, .inl (nf z0)))), (q5_, .inl (c1_, (128, .inl (nf z0))))] := hD
  refine va_putF (D := D) (ci := 0) (v := .ref q5_) (ty := .array .int) (C := RX1) (T := TX1) (N := 11) hx hb hts in_X1 tyX1 tyX1_ok nmX1 hown hK hP hD hS 0 rfl rfl 4 (by decide) (hts _ q41) (fun _ h9 => h9) rfl hin rfl (by decide +kernel) rfl rfl (Nat.le_of_ble_eq_true rfl) dX1_init_44 (fun H locs hP hD hS => ?_)
  have hP : va_P D clX [(h0, .inr (0, [.ref q1_, .ref q2_, .ref q3_, .ref q4_, .ref q5_, .null, .int (nI 0), .int (nI 0), .int (nI 0), .int (nI 0), .int (nI 0)])), (q1_, .inl (c1_, (8, .inl (nf z0)))), (q2_, .inl (c1_, (7, .inl (nf z0)))), (q3_, .inl (c1_, (128, .inl (nf z0)))), (q4_, .inl (c1_, (128, .inl (nf z0)))), (q5_, .inl (c1_, (128, .inl (nf z0))))] H := hP
  have hD : va_D A [(h0, .inr (0, [.ref q1_, .ref q2_, .ref q3_, .ref q4_, .ref q5_, .null, .int (nI 0), .int (nI 0), .int (nI 0), .int (nI 0), .int (nI 0)])), (q1_, .inl (c1_, (8, .inl (nf z0)))), (q2_, .inl (c1_, (7, .inl (nf z0)))), (q3_, .inl (c1_, (128, .inl (nf z0)))), (q4_, .inl (c1_, (128, .inl (nf z0)))), (q5_, .inl (c1_, (128, .inl (nf z0))))] := hD
  refine lv_aload_n hx hb dX1_init_47 rfl (lv_at hl 0 rfl) ?_
  refine lv_sipush (v := nI 128) hx hb dX1_init_48 (by decide) ?_
  refine va_newa (atype := .int) (a0 := (128, .inl (nf z0))) hx hb (hts _ q71) rfl hK hP hD hS hA (fun _ => rfl) (by decide) (by decide) (by decide) (Nat.le_of_ble_eq_true rfl) (Nat.le_of_ble_eq_true rfl) dX1_init_51 (fun q6_ c6_ H hK hP hD hS => ?_)
  obtain rfl : c1_ = c6_ := cA_int hK 0 1 rfl rfl
  have hK : va_K D clX [(c1_, .int)] S := hK.sub [0] rfl
  have hP : va_P D clX [(h0, .inr (0, [.ref q1_, .ref q2_, .ref q3_, .ref q4_, .ref q5_, .null, .int (nI 0), .int (nI 0), .int (nI 0), .int (nI 0), .int (nI 0)])), (q1_, .inl (c1_, (8, .inl (nf z0)))), (q2_, .inl (c1_, (7, .inl (nf z0)))), (q3_, .inl (c1_, (128, .inl (nf z0)))), (q4_, .inl (c1_, (128, .inl (nf z0)))), (q5_, .inl (c1_, (128, .inl (nf z0)))), (q6_, .inl (c1_, (128, .inl (nf z0))))] H := hP
  have hD : va_D A [(h0, .inr (0, [.ref q1_, .ref q2_, .ref q3_, .ref q4_, .ref q5_, .null, .int (nI 0), .int (nI 0), .int (nI 0), .int (nI 0), .int (nI 0)])), (q1_, .inl (c1_, (8, .inl (nf z0)))), (q2_, .inl (c1_, (7, .inl (nf z0)))), (q3_, .inl (c1_, (128, .inl (nf z0)))), (q4_, .inl (c1_, (128, .inl (nf z0)))), (q5_, .inl (c1_, (128, .inl (nf z0)))), (q6_, .inl (c1_, (128, .inl (nf z0))))] := hD
  refine va_putF (D := D) (ci := 0) (v := .ref q6_) (ty := .array .int) (C := RX1) (T := TX1) (N := 11) hx hb hts in_X1 tyX1 tyX1_ok nmX1 hown hK hP hD hS 0 rfl rfl 5 (by decide) (hts _ q42) (fun _ h9 => h9) rfl hin rfl (by decide +kernel) rfl rfl (Nat.le_of_ble_eq_true rfl) dX1_init_53 (fun H locs hP hD hS => ?_)
  have hP : va_P D clX [(h0, .inr (0, [.ref q1_, .ref q2_, .ref q3_, .ref q4_, .ref q5_, .ref q6_, .int (nI 0), .int (nI 0), .int (nI 0), .int (nI 0), .int (nI 0)])), (q1_, .inl (c1_, (8, .inl (nf z0)))), (q2_, .inl (c1_, (7, .inl (nf z0)))), (q3_, .inl (c1_, (128, .inl (nf z0)))), (q4_, .inl (c1_, (128, .inl (nf z0)))), (q5_, .inl (c1_, (128, .inl (nf z0)))), (q6_, .inl (c1_, (128, .inl (nf z0))))] H := hP
  have hD : va_D A [(h0, .inr (0, [.ref q1_, .ref q2_, .ref q3_, .ref q4_, .ref q5_, .ref q6_, .int (nI 0), .int (nI 0), .int (nI 0), .int (nI 0), .int (nI 0)])), (q1_, .inl (c1_, (8, .inl (nf z0)))), (q2_, .inl (c1_, (7, .inl (nf z0)))), (q3_, .inl (c1_, (128, .inl (nf z0)))), (q4_, .inl (c1_, (128, .inl (nf z0)))), (q5_, .inl (c1_, (128, .inl (nf z0)))), (q6_, .inl (c1_, (128, .inl (nf z0))))] := hD
  refine W.widen (k := 6) (n := 527) (by decide) (by decide) ?_
  refine nv_join 85 [] (fun H locs => va_P D clX [(h0, .inr (0, [.ref q1_, .ref q2_, .ref q3_, .ref q4_, .ref q5_, .ref q6_, .int (nI (cN x)), .int (nI 0), .int (nI 0), .int (nI 0), .int (nI 0)])), (q1_, .inl (c1_, (8, .inl (nf z0)))), (q2_, .inl (c1_, (7, .inl (nf z0)))), (q3_, .inl (c1_, (128, .inl (nf z0)))), (q4_, .inl (c1_, (128, .inl (nf z0)))), (q5_, .inl (c1_, (128, .inl (nf z0)))), (q6_, .inl (c1_, (128, .inl (nf z0))))] H ∧ va_D A [(h0, .inr (0, [.ref q1_, .ref q2_, .ref q3_, .ref q4_, .ref q5_, .ref q6_, .int (nI (cN x)), .int (nI 0), .int (nI 0), .int (nI 0), .int (nI 0)])), (q1_, .inl (c1_, (8, .inl (nf z0)))), (q2_, .inl (c1_, (7, .inl (nf z0)))), (q3_, .inl (c1_, (128, .inl (nf z0)))), (q4_, .inl (c1_, (128, .inl (nf z0)))), (q5_, .inl (c1_, (128, .inl (nf z0)))), (q6_, .inl (c1_, (128, .inl (nf z0))))] ∧ va_S A S.heap H locs) (fun H locs hJ => ?_) (fun J => ?_)
  · obtain ⟨hP, hD, hS⟩ := hJ
    refine nv_join 114 [] (fun H locs => va_P D clX [(h0, .inr (0, [.ref q1_, .ref q2_, .ref q3_, .ref q4_, .ref q5_, .ref q6_, .int (nI (cN x)), .int (nI (cM y)), .int (nI 0), .int (nI 0), .int (nI 0)])), (q1_, .inl (c1_, (8, .inl (nf z0)))), (q2_, .inl (c1_, (7, .inl (nf z0)))), (q3_, .inl (c1_, (128, .inl (nf z0)))), (q4_, .inl (c1_, (128, .inl (nf z0)))), (q5_, .inl (c1_, (128, .inl (nf z0)))), (q6_, .inl (c1_, (128, .inl (nf z0))))] H ∧ va_D A [(h0, .inr (0, [.ref q1_, .ref q2_, .ref q3_, .ref q4_, .ref q5_, .ref q6_, .int (nI (cN x)), .int (nI (cM y)), .int (nI 0), .int (nI 0), .int (nI 0)])), (q1_, .inl (c1_, (8, .inl (nf z0)))), (q2_, .inl (c1_, (7, .inl (nf z0)))), (q3_, .inl (c1_, (128, .inl (nf z0)))), (q4_, .inl (c1_, (128, .inl (nf z0)))), (q5_, .inl (c1_, (128, .inl (nf z0)))), (q6_, .inl (c1_, (128, .inl (nf z0))))] ∧ va_S A S.heap H locs) (fun H locs hJ => ?_) (fun J => ?_)
    · obtain ⟨hP, hD, hS⟩ := hJ
      exact W.vret hx hb hr (fun t ht hW => ⟨⟨(), rfl, trivial, ⟨fun k => [h0, q1_, q2_, q3_, q4_, q5_, q6_].getD k 0, c1_, rfl, by rw [ht]; exact hP, va_K.moved hW.alike hK, hD⟩⟩, hS.F ht⟩) hS.2.2 dX1_init_114
    · refine lv_aload_n hx hb dX1_init_85 rfl (lv_at hl 0 rfl) ?_
      refine lv_iload_n hx hb dX1_init_86 rfl (lv_at hl 2 rfl) ?_
      refine lv_iconst (v := nI 2) hx hb dX1_init_87 (by decide) ?_
      refine lv_icmp_ge (tgt := 95) hx hb dX1_init_88 (by decide) (fun c_1 => ?_) (fun c_1 => ?_)
      · refine lv_iload_n hx hb dX1_init_95 rfl (lv_at hl 2 rfl) ?_
        refine va_put (D := D) (ci := 0) (v := .int y) (ty := .int) (C := RX1) (T := TX1) (N := 11) hx hb hts in_X1 tyX1 tyX1_ok nmX1 hown hK hP hD hS 0 rfl rfl 7 (by decide) (hts _ q44) (fun _ h9 => h9) rfl (by decide +kernel) rfl rfl (Nat.le_of_ble_eq_true rfl) dX1_init_96 (fun H locs hP hD hS => ?_)
        have hP : va_P D clX [(h0, .inr (0, [.ref q1_, .ref q2_, .ref q3_, .ref q4_, .ref q5_, .ref q6_, .int (nI (cN x)), .int y, .int (nI 0), .int (nI 0), .int (nI 0)])), (q1_, .inl (c1_, (8, .inl (nf z0)))), (q2_, .inl (c1_, (7, .inl (nf z0)))), (q3_, .inl (c1_, (128, .inl (nf z0)))), (q4_, .inl (c1_, (128, .inl (nf z0)))), (q5_, .inl (c1_, (128, .inl (nf z0)))), (q6_, .inl (c1_, (128, .inl (nf z0))))] H := hP
        have hD : va_D A [(h0, .inr (0, [.ref q1_, .ref q2_, .ref q3_, .ref q4_, .ref q5_, .ref q6_, .int (nI (cN x)), .int y, .int (nI 0), .int (nI 0), .int (nI 0)])), (q1_, .inl (c1_, (8, .inl (nf z0)))), (q2_, .inl (c1_, (7, .inl (nf z0)))), (q3_, .inl (c1_, (128, .inl (nf z0)))), (q4_, .inl (c1_, (128, .inl (nf z0)))), (q5_, .inl (c1_, (128, .inl (nf z0)))), (q6_, .inl (c1_, (128, .inl (nf z0))))] := hD
        refine lv_aload_n hx hb dX1_init_99 rfl (lv_at hl 0 rfl) ?_
        refine va_get (D := D) (ci := 0) (v := .int y) (C := RX1) (T := TX1) (N := 11) hx hb hts in_X1 hown hK hP 0 rfl rfl 7 (by decide) (hts _ q44) (fun _ h9 => h9) rfl dX1_init_100 ?_
        refine lv_bipush (v := nI 7) hx hb dX1_init_103 (by decide) ?_
        refine lv_icmp_le (tgt := 114) hx hb dX1_init_105 (by decide) (fun c_2 => ?_) (fun c_2 => ?_)
        · exact J _ _ ⟨by rw [cM_mid c_1 c_2]; exact hP, by rw [cM_mid c_1 c_2]; exact hD, hS⟩
        · refine lv_aload_n hx hb dX1_init_108 rfl (lv_at hl 0 rfl) ?_
          refine lv_bipush (v := nI 7) hx hb dX1_init_109 (by decide) ?_
          refine va_put (D := D) (ci := 0) (v := .int (nI 7)) (ty := .int) (C := RX1) (T := TX1) (N := 11) hx hb hts in_X1 tyX1 tyX1_ok nmX1 hown hK hP hD hS 0 rfl rfl 7 (by decide) (hts _ q44) (fun _ h9 => h9) rfl (by decide +kernel) rfl rfl (Nat.le_of_ble_eq_true rfl) dX1_init_111 (fun H locs hP hD hS => ?_)
          exact J _ _ ⟨by rw [cM_hi c_1 c_2]; exact hP, by rw [cM_hi c_1 c_2]; exact hD, hS⟩
      · refine lv_iconst (v := nI 2) hx hb dX1_init_91 (by decide) ?_
        refine lv_goto (tgt := 96) hx hb dX1_init_92 (by decide) ?_
        refine va_put (D := D) (ci := 0) (v := .int (nI 2)) (ty := .int) (C := RX1) (T := TX1) (N := 11) hx hb hts in_X1 tyX1 tyX1_ok nmX1 hown hK hP hD hS 0 rfl rfl 7 (by decide) (hts _ q44) (fun _ h9 => h9) rfl (by decide +kernel) rfl rfl (Nat.le_of_ble_eq_true rfl) dX1_init_96 (fun H locs hP hD hS => ?_)
        have hP : va_P D clX [(h0, .inr (0, [.ref q1_, .ref q2_, .ref q3_, .ref q4_, .ref q5_, .ref q6_, .int (nI (cN x)), .int (nI 2), .int (nI 0), .int (nI 0), .int (nI 0)])), (q1_, .inl (c1_, (8, .inl (nf z0)))), (q2_, .inl (c1_, (7, .inl (nf z0)))), (q3_, .inl (c1_, (128, .inl (nf z0)))), (q4_, .inl (c1_, (128, .inl (nf z0)))), (q5_, .inl (c1_, (128, .inl (nf z0)))), (q6_, .inl (c1_, (128, .inl (nf z0))))] H := hP
        have hD : va_D A [(h0, .inr (0, [.ref q1_, .ref q2_, .ref q3_, .ref q4_, .ref q5_, .ref q6_, .int (nI (cN x)), .int (nI 2), .int (nI 0), .int (nI 0), .int (nI 0)])), (q1_, .inl (c1_, (8, .inl (nf z0)))), (q2_, .inl (c1_, (7, .inl (nf z0)))), (q3_, .inl (c1_, (128, .inl (nf z0)))), (q4_, .inl (c1_, (128, .inl (nf z0)))), (q5_, .inl (c1_, (128, .inl (nf z0)))), (q6_, .inl (c1_, (128, .inl (nf z0))))] := hD
        refine lv_aload_n hx hb dX1_init_99 rfl (lv_at hl 0 rfl) ?_
        refine va_get (D := D) (ci := 0) (v := .int (nI 2)) (C := RX1) (T := TX1) (N := 11) hx hb hts in_X1 hown hK hP 0 rfl rfl 7 (by decide) (hts _ q44) (fun _ h9 => h9) rfl dX1_init_100 ?_
        refine lv_bipush (v := nI 7) hx hb dX1_init_103 (by decide) ?_
        refine nv_le hx hb (by decide) (by decide) (tgt := 114) dX1_init_105 (by decide) (fun c_2 => ?_) (fun c_2 => ?_)
        · exact J _ _ ⟨by rw [cM_lo c_1]; exact hP, by rw [cM_lo c_1]; exact hD, hS⟩
        · exact absurd c_2 (by decide)
  · refine lv_aload_n hx hb dX1_init_56 rfl (lv_at hl 0 rfl) ?_
    refine lv_iload_n hx hb dX1_init_57 rfl (lv_at hl 1 rfl) ?_
    refine lv_iconst (v := nI 1) hx hb dX1_init_58 (by decide) ?_
    refine lv_icmp_ge (tgt := 66) hx hb dX1_init_59 (by decide) (fun c_1 => ?_) (fun c_1 => ?_)
    · refine lv_iload_n hx hb dX1_init_66 rfl (lv_at hl 1 rfl) ?_
      refine va_put (D := D) (ci := 0) (v := .int x) (ty := .int) (C := RX1) (T := TX1) (N := 11) hx hb hts in_X1 tyX1 tyX1_ok nmX1 hown hK hP hD hS 0 rfl rfl 6 (by decide) (hts _ q43) (fun _ h9 => h9) rfl (by decide +kernel) rfl rfl (Nat.le_of_ble_eq_true rfl) dX1_init_67 (fun H locs hP hD hS => ?_)
      have hP : va_P D clX [(h0, .inr (0, [.ref q1_, .ref q2_, .ref q3_, .ref q4_, .ref q5_, .ref q6_, .int x, .int (nI 0), .int (nI 0), .int (nI 0), .int (nI 0)])), (q1_, .inl (c1_, (8, .inl (nf z0)))), (q2_, .inl (c1_, (7, .inl (nf z0)))), (q3_, .inl (c1_, (128, .inl (nf z0)))), (q4_, .inl (c1_, (128, .inl (nf z0)))), (q5_, .inl (c1_, (128, .inl (nf z0)))), (q6_, .inl (c1_, (128, .inl (nf z0))))] H := hP
      have hD : va_D A [(h0, .inr (0, [.ref q1_, .ref q2_, .ref q3_, .ref q4_, .ref q5_, .ref q6_, .int x, .int (nI 0), .int (nI 0), .int (nI 0), .int (nI 0)])), (q1_, .inl (c1_, (8, .inl (nf z0)))), (q2_, .inl (c1_, (7, .inl (nf z0)))), (q3_, .inl (c1_, (128, .inl (nf z0)))), (q4_, .inl (c1_, (128, .inl (nf z0)))), (q5_, .inl (c1_, (128, .inl (nf z0)))), (q6_, .inl (c1_, (128, .inl (nf z0))))] := hD
      refine lv_aload_n hx hb dX1_init_70 rfl (lv_at hl 0 rfl) ?_
      refine va_get (D := D) (ci := 0) (v := .int x) (C := RX1) (T := TX1) (N := 11) hx hb hts in_X1 hown hK hP 0 rfl rfl 6 (by decide) (hts _ q43) (fun _ h9 => h9) rfl dX1_init_71 ?_
      refine lv_bipush (v := nI 8) hx hb dX1_init_74 (by decide) ?_
      refine lv_icmp_le (tgt := 85) hx hb dX1_init_76 (by decide) (fun c_2 => ?_) (fun c_2 => ?_)
      · exact J _ _ ⟨by rw [cN_mid c_1 c_2]; exact hP, by rw [cN_mid c_1 c_2]; exact hD, hS⟩
      · refine lv_aload_n hx hb dX1_init_79 rfl (lv_at hl 0 rfl) ?_
        refine lv_bipush (v := nI 8) hx hb dX1_init_80 (by decide) ?_
        refine va_put (D := D) (ci := 0) (v := .int (nI 8)) (ty := .int) (C := RX1) (T := TX1) (N := 11) hx hb hts in_X1 tyX1 tyX1_ok nmX1 hown hK hP hD hS 0 rfl rfl 6 (by decide) (hts _ q43) (fun _ h9 => h9) rfl (by decide +kernel) rfl rfl (Nat.le_of_ble_eq_true rfl) dX1_init_82 (fun H locs hP hD hS => ?_)
        exact J _ _ ⟨by rw [cN_hi c_1 c_2]; exact hP, by rw [cN_hi c_1 c_2]; exact hD, hS⟩
    · refine lv_iconst (v := nI 1) hx hb dX1_init_62 (by decide) ?_
      refine lv_goto (tgt := 67) hx hb dX1_init_63 (by decide) ?_
      refine va_put (D := D) (ci := 0) (v := .int (nI 1)) (ty := .int) (C := RX1) (T := TX1) (N := 11) hx hb hts in_X1 tyX1 tyX1_ok nmX1 hown hK hP hD hS 0 rfl rfl 6 (by decide) (hts _ q43) (fun _ h9 => h9) rfl (by decide +kernel) rfl rfl (Nat.le_of_ble_eq_true rfl) dX1_init_67 (fun H locs hP hD hS => ?_)
      have hP : va_P D clX [(h0, .inr (0, [.ref q1_, .ref q2_, .ref q3_, .ref q4_, .ref q5_, .ref q6_, .int (nI 1), .int (nI 0), .int (nI 0), .int (nI 0), .int (nI 0)])), (q1_, .inl (c1_, (8, .inl (nf z0)))), (q2_, .inl (c1_, (7, .inl (nf z0)))), (q3_, .inl (c1_, (128, .inl (nf z0)))), (q4_, .inl (c1_, (128, .inl (nf z0)))), (q5_, .inl (c1_, (128, .inl (nf z0)))), (q6_, .inl (c1_, (128, .inl (nf z0))))] H := hP
      have hD : va_D A [(h0, .inr (0, [.ref q1_, .ref q2_, .ref q3_, .ref q4_, .ref q5_, .ref q6_, .int (nI 1), .int (nI 0), .int (nI 0), .int (nI 0), .int (nI 0)])), (q1_, .inl (c1_, (8, .inl (nf z0)))), (q2_, .inl (c1_, (7, .inl (nf z0)))), (q3_, .inl (c1_, (128, .inl (nf z0)))), (q4_, .inl (c1_, (128, .inl (nf z0)))), (q5_, .inl (c1_, (128, .inl (nf z0)))), (q6_, .inl (c1_, (128, .inl (nf z0))))] := hD
      refine lv_aload_n hx hb dX1_init_70 rfl (lv_at hl 0 rfl) ?_
      refine va_get (D := D) (ci := 0) (v := .int (nI 1)) (C := RX1) (T := TX1) (N := 11) hx hb hts in_X1 hown hK hP 0 rfl rfl 6 (by decide) (hts _ q43) (fun _ h9 => h9) rfl dX1_init_71 ?_
      refine lv_bipush (v := nI 8) hx hb dX1_init_74 (by decide) ?_
      refine nv_le hx hb (by decide) (by decide) (tgt := 85) dX1_init_76 (by decide) (fun c_2 => ?_) (fun c_2 => ?_)
      · exact J _ _ ⟨by rw [cN_lo c_1]; exact hP, by rw [cN_lo c_1]; exact hD, hS⟩
      · exact absurd c_2 (by decide)
set_option maxHeartbeats 4000000 in
set_option maxRecDepth 100000 in
theorem m_X2_init (l : Launch) (D : va_G) (h0 sz : Nat) (x y : Int32) : Met l yX2_init (ws_ yX2_init cX2_init 3 none) ({ frames := 1, cells := 5, slots := 520, locals := 12 }) (va_Pc [.ref h0, .int x, .int y] (fun U => U.heap.size = sz ∧ va_P D clX (y0w h0) U.heap ∧ va_K D clX [] U ∧ va_D (fun _ => True) (y0w h0))) (va_Qv (fun _ : Unit => True) (fun _ t => yMade D h0 (cN x) (cM y) (va_A (y0w h0) sz) t) (va_A (y0w h0) sz)) 5 520 (va_A (y0w h0) sz) := by
  refine Met.ofW (cc := cX2_init) (maxL := 3) (ret := none) (by decide) rfl ?_
  intro p e S M args below meth c s₁ B hml hv
  obtain ⟨rfl, hsz, hP, hK, hD0⟩ := hv
  have hx := B.exec
  have hb := B.bytes
  have hr := B.returns
  have hts := atoms_spec (ws := ws_ yX2_init cX2_init 3 none) B.pre
  have hts : ∀ w ∈ lw_all, w.before _ S = true := fun w h => hts w (List.mem_cons_of_mem _ h)
  have hown : S.vm.findClass RX2 = some M.cls := findClass_of_methodNamed B.named
  have hlocks := B.notSynchronized
  have hin : meth.name = "<init>" := (name_of_methodNamed B.named B.method).1
  subst hsz
  have hD := hD0.self (sz := S.heap.size)
  generalize hAe : va_A (y0w h0) S.heap.size = A at hD ⊢
  have hA : ∀ q : Nat, S.heap.size ≤ q → A q := fun q h => by rw [← hAe]; exact Or.inr h
  have hS : va_S A S.heap S.heap [] := va_S.rf
  have hl := lv_entry ([.ref h0, .int x, .int y]) (n := 3) (Nat.le_of_ble_eq_true rfl)
  rw [lg_entry_eq]
  generalize (lg_sl ([.ref h0, .int x, .int y]) ++ List.replicate (3 - (lg_sl ([.ref h0, .int x, .int y])).length) Slot.unset).toArray = ls at hl ⊢
  have hl : lv_has ls 3 [(0, .ref h0), (1, .int x), (2, .int y)] := hl
  refine lv_aload_n hx hb dX2_init_0 rfl (lv_at hl 0 rfl) ?_
  refine W.objInit hx hb hown (hts _ q211) (hts _ q35) (hts _ q36) rfl (by rw [hml]; exact hl.1) rfl dX2_init_1 (Nat.le_of_ble_eq_true rfl) (Nat.le_of_ble_eq_true rfl) ?_
  refine W.eq (g2 := F0 M 4 ls []) rfl ?_
  refine lv_aload_n hx hb dX2_init_4 rfl (lv_at hl 0 rfl) ?_
  refine lv_bipush (v := nI 8) hx hb dX2_init_5 (by decide) ?_
  refine va_newa (atype := .int) (a0 := (8, .inl (nf z0))) hx hb (hts _ q71) rfl hK hP hD hS hA (fun _ => rfl) (by decide) (by decide) (by decide) (Nat.le_of_ble_eq_true rfl) (Nat.le_of_ble_eq_true rfl) dX2_init_7 (fun q1_ c1_ H hK hP hD hS => ?_)
  have hK : va_K D clX [(c1_, .int)] S := hK
  have hP : va_P D clX [(h0, .inr (1, [.int (nI 0), .int (nI 0), .int (nI 0), .null, .null, .null, .null, .null])), (q1_, .inl (c1_, (8, .inl (nf z0))))] H := hP
  have hD : va_D A [(h0, .inr (1, [.int (nI 0), .int (nI 0), .int (nI 0), .null, .null, .null, .null, .null])), (q1_, .inl (c1_, (8, .inl (nf z0))))] := hD
  refine va_put (D := D) (ci := 1) (v := .ref q1_) (ty := .array .int) (C := RX2) (T := TX2) (N := 8) hx hb hts in_X2 tyX2 tyX2_ok nmX2 hown hK hP hD hS 0 rfl rfl 3 (by decide) (hts _ q215) (fun _ h9 => h9) rfl (by decide +kernel) rfl rfl (Nat.le_of_ble_eq_true rfl) dX2_init_9 (fun H locs hP hD hS => ?_)
  have hP : va_P D clX [(h0, .inr (1, [.int (nI 0), .int (nI 0), .int (nI 0), .ref q1_, .null, .null, .null, .null])), (q1_, .inl (c1_, (8, .inl (nf z0))))] H := hP
  have hD : va_D A [(h0, .inr (1, [.int (nI 0), .int (nI 0), .int (nI 0), .ref q1_, .null, .null, .null, .null])), (q1_, .inl (c1_, (8, .inl (nf z0))))] := hD
  refine lv_aload_n hx hb dX2_init_12 rfl (lv_at hl 0 rfl) ?_
  refine lv_sipush (v := nI 128) hx hb dX2_init_13 (by decide) ?_
  refine va_newa (atype := .boolean) (a0 := (128, .inl (bf f0))) hx hb (hts _ q237) rfl hK hP hD hS hA (fun _ => rfl) (by decide) (by decide) (by decide) (Nat.le_of_ble_eq_true rfl) (Nat.le_of_ble_eq_true rfl) dX2_init_16 (fun q2_ c2_ H hK hP hD hS => ?_)
  have hK : va_K D clX [(c1_, .int), (c2_, .boolean)] S := hK
  have hP : va_P D clX [(h0, .inr (1, [.int (nI 0), .int (nI 0), .int (nI 0), .ref q1_, .null, .null, .null, .null])), (q1_, .inl (c1_, (8, .inl (nf z0)))), (q2_, .inl (c2_, (128, .inl (bf f0))))] H := hP
  have hD : va_D A [(h0, .inr (1, [.int (nI 0), .int (nI 0), .int (nI 0), .ref q1_, .null, .null, .null, .null])), (q1_, .inl (c1_, (8, .inl (nf z0)))), (q2_, .inl (c2_, (128, .inl (bf f0))))] := hD
  refine va_put (D := D) (ci := 1) (v := .ref q2_) (ty := .array .boolean) (C := RX2) (T := TX2) (N := 8) hx hb hts in_X2 tyX2 tyX2_ok nmX2 hown hK hP hD hS 0 rfl rfl 4 (by decide) (hts _ q216) (fun _ h9 => h9) rfl (by decide +kernel) rfl rfl (Nat.le_of_ble_eq_true rfl) dX2_init_18 (fun H locs hP hD hS => ?_)
  have hP : va_P D clX [(h0, .inr (1, [.int (nI 0), .int (nI 0), .int (nI 0), .ref q1_, .ref q2_, .null, .null, .null])), (q1_, .inl (c1_, (8, .inl (nf z0)))), (q2_, .inl (c2_, (128, .inl (bf f0))))] H := hP
  have hD : va_D A [(h0, .inr (1, [.int (nI 0), .int (nI 0), .int (nI 0), .ref q1_, .ref q2_, .null, .null, .null])), (q1_, .inl (c1_, (8, .inl (nf z0)))), (q2_, .inl (c2_, (128, .inl (bf f0))))] := hD
  refine lv_aload_n hx hb dX2_init_21 rfl (lv_at hl 0 rfl) ?_
  refine lv_sipush (v := nI 128) hx hb dX2_init_22 (by decide) ?_
  refine va_newa (atype := .boolean) (a0 := (128, .inl (bf f0))) hx hb (hts _ q237) rfl hK hP hD hS hA (fun _ => rfl) (by decide) (by decide) (by decide) (Nat.le_of_ble_eq_true rfl) (Nat.le_of_ble_eq_true rfl) dX2_init_25 (fun q3_ c3_ H hK hP hD hS => ?_)
  obtain rfl : c2_ = c3_ := cA_boo hK 1 2 rfl rfl
  have hK : va_K D clX [(c1_, .int), (c2_, .boolean)] S := hK.sub [0, 1] rfl
  have hP : va_P D clX [(h0, .inr (1, [.int (nI 0), .int (nI 0), .int (nI 0), .ref q1_, .ref q2_, .null, .null, .null])), (q1_, .inl (c1_, (8, .inl (nf z0)))), (q2_, .inl (c2_, (128, .inl (bf f0)))), (q3_, .inl (c2_, (128, .inl (bf f0))))] H := hP
  have hD : va_D A [(h0, .inr (1, [.int (nI 0), .int (nI 0), .int (nI 0), .ref q1_, .ref q2_, .null, .null, .null])), (q1_, .inl (c1_, (8, .inl (nf z0)))), (q2_, .inl (c2_, (128, .inl (bf f0)))), (q3_, .inl (c2_, (128, .inl (bf f0))))] := hD
  refine va_put (D := D) (ci := 1) (v := .ref q3_) (ty := .array .boolean) (C := RX2) (T := TX2) (N := 8) hx hb hts in_X2 tyX2 tyX2_ok nmX2 hown hK hP hD hS 0 rfl rfl 5 (by decide) (hts _ q217) (fun _ h9 => h9) rfl (by decide +kernel) rfl rfl (Nat.le_of_ble_eq_true rfl) dX2_init_27 (fun H locs hP hD hS => ?_)
  have hP : va_P D clX [(h0, .inr (1, [.int (nI 0), .int (nI 0), .int (nI 0), .ref q1_, .ref q2_, .ref q3_, .null, .null])), (q1_, .inl (c1_, (8, .inl (nf z0)))), (q2_, .inl (c2_, (128, .inl (bf f0)))), (q3_, .inl (c2_, (128, .inl (bf f0))))] H := hP
  have hD : va_D A [(h0, .inr (1, [.int (nI 0), .int (nI 0), .int (nI 0), .ref q1_, .ref q2_, .ref q3_, .null, .null])), (q1_, .inl (c1_, (8, .inl (nf z0)))), (q2_, .inl (c2_, (128, .inl (bf f0)))), (q3_, .inl (c2_, (128, .inl (bf f0))))] := hD
  refine lv_aload_n hx hb dX2_init_30 rfl (lv_at hl 0 rfl) ?_
  refine lv_sipush (v := nI 128) hx hb dX2_init_31 (by decide) ?_
  refine va_newa (atype := .int) (a0 := (128, .inl (nf z0))) hx hb (hts _ q71) rfl hK hP hD hS hA (fun _ => rfl) (by decide) (by decide) (by decide) (Nat.le_of_ble_eq_true rfl) (Nat.le_of_ble_eq_true rfl) dX2_init_34 (fun q4_ c4_ H hK hP hD hS => ?_)
  obtain rfl : c1_ = c4_ := cA_int hK 0 2 rfl rfl
  have hK : va_K D clX [(c1_, .int), (c2_, .boolean)] S := hK.sub [0, 1] rfl
  have hP : va_P D clX [(h0, .inr (1, [.int (nI 0), .int (nI 0), .int (nI 0), .ref q1_, .ref q2_, .ref q3_, .null, .null])), (q1_, .inl (c1_, (8, .inl (nf z0)))), (q2_, .inl (c2_, (128, .inl (bf f0)))), (q3_, .inl (c2_, (128, .inl (bf f0)))), (q4_, .inl (c1_, (128, .inl (nf z0))))] H := hP
  have hD : va_D A [(h0, .inr (1, [.int (nI 0), .int (nI 0), .int (nI 0), .ref q1_, .ref q2_, .ref q3_, .null, .null])), (q1_, .inl (c1_, (8, .inl (nf z0)))), (q2_, .inl (c2_, (128, .inl (bf f0)))), (q3_, .inl (c2_, (128, .inl (bf f0)))), (q4_, .inl (c1_, (128, .inl (nf z0))))] := hD
  refine va_put (D := D) (ci := 1) (v := .ref q4_) (ty := .array .int) (C := RX2) (T := TX2) (N := 8) hx hb hts in_X2 tyX2 tyX2_ok nmX2 hown hK hP hD hS 0 rfl rfl 6 (by decide) (hts _ q218) (fun _ h9 => h9) rfl (by decide +kernel) rfl rfl (Nat.le_of_ble_eq_true rfl) dX2_init_36 (fun H locs hP hD hS => ?_)
  have hP : va_P D clX [(h0, .inr (1, [.int (nI 0), .int (nI 0), .int (nI 0), .ref q1_, .ref q2_, .ref q3_, .ref q4_, .null])), (q1_, .inl (c1_, (8, .inl (nf z0)))), (q2_, .inl (c2_, (128, .inl (bf f0)))), (q3_, .inl (c2_, (128, .inl (bf f0)))), (q4_, .inl (c1_, (128, .inl (nf z0))))] H := hP
  have hD : va_D A [(h0, .inr (1, [.int (nI 0), .int (nI 0), .int (nI 0), .ref q1_, .ref q2_, .ref q3_, .ref q4_, .null])), (q1_, .inl (c1_, (8, .inl (nf z0)))), (q2_, .inl (c2_, (128, .inl (bf f0)))), (q3_, .inl (c2_, (128, .inl (bf f0)))), (q4_, .inl (c1_, (128, .inl (nf z0))))] := hD
  refine lv_aload_n hx hb dX2_init_39 rfl (lv_at hl 0 rfl) ?_
  refine lv_sipush (v := nI 128) hx hb dX2_init_40 (by decide) ?_
  refine va_newa (atype := .int) (a0 := (128, .inl (nf z0))) hx hb (hts _ q71) rfl hK hP hD hS hA (fun _ => rfl) (by decide) (by decide) (by decide) (Nat.le_of_ble_eq_true rfl) (Nat.le_of_ble_eq_true rfl) dX2_init_43 (fun q5_ c5_ H hK hP hD hS => ?_)
  obtain rfl : c1_ = c5_ := cA_int hK 0 2 rfl rfl
  have hK : va_K D clX [(c1_, .int), (c2_, .boolean)] S := hK.sub [0, 1] rfl
  have hP : va_P D clX [(h0, .inr (1, [.int (nI 0), .int (nI 0), .int (nI 0), .ref q1_, .ref q2_, .ref q3_, .ref q4_, .null])), (q1_, .inl (c1_, (8, .inl (nf z0)))), (q2_, .inl (c2_, (128, .inl (bf f0)))), (q3_, .inl (c2_, (128, .inl (bf f0)))), (q4_, .inl (c1_, (128, .inl (nf z0)))), (q5_, .inl (c1_, (128, .inl (nf z0))))] H := hP
  have hD : va_D A [(h0, .inr (1, [.int (nI 0), .int (nI 0), .int (nI 0), .ref q1_, .ref q2_, .ref q3_, .ref q4_, .null])), (q1_, .inl (c1_, (8, .inl (nf z0)))), (q2_, .inl (c2_, (128, .inl (bf f0)))), (q3_, .inl (c2_, (128, .inl (bf f0)))), (q4_, .inl (c1_, (128, .inl (nf z0)))), (q5_, .inl (c1_, (128, .inl (nf z0))))] := hD
  refine va_put (D := D) (ci := 1) (v := .ref q5_) (ty := .array .int) (C := RX2) (T := TX2) (N := 8) hx hb hts in_X2 tyX2 tyX2_ok nmX2 hown hK hP hD hS 0 rfl rfl 7 (by decide) (hts _ q219) (fun _ h9 => h9) rfl (by decide +kernel) rfl rfl (Nat.le_of_ble_eq_true rfl) dX2_init_45 (fun H locs hP hD hS => ?_)
  have hP : va_P D clX [(h0, .inr (1, [.int (nI 0), .int (nI 0), .int (nI 0), .ref q1_, .ref q2_, .ref q3_, .ref q4_, .ref q5_])), (q1_, .inl (c1_, (8, .inl (nf z0)))), (q2_, .inl (c2_, (128, .inl (bf f0)))), (q3_, .inl (c2_, (128, .inl (bf f0)))), (q4_, .inl (c1_, (128, .inl (nf z0)))), (q5_, .inl (c1_, (128, .inl (nf z0))))] H := hP
  have hD : va_D A [(h0, .inr (1, [.int (nI 0), .int (nI 0), .int (nI 0), .ref q1_, .ref q2_, .ref q3_, .ref q4_, .ref q5_])), (q1_, .inl (c1_, (8, .inl (nf z0)))), (q2_, .inl (c2_, (128, .inl (bf f0)))), (q3_, .inl (c2_, (128, .inl (bf f0)))), (q4_, .inl (c1_, (128, .inl (nf z0)))), (q5_, .inl (c1_, (128, .inl (nf z0))))] := hD
  refine W.widen (k := 5) (n := 520) (by decide) (by decide) ?_
  refine lv_aload_n hx hb dX2_init_48 rfl (lv_at hl 0 rfl) ?_
  refine nv_join 70 [.int (nI (cN x)), .ref h0] (fun H locs => va_P D clX [(h0, .inr (1, [.int (nI 0), .int (nI 0), .int (nI 0), .ref q1_, .ref q2_, .ref q3_, .ref q4_, .ref q5_])), (q1_, .inl (c1_, (8, .inl (nf z0)))), (q2_, .inl (c2_, (128, .inl (bf f0)))), (q3_, .inl (c2_, (128, .inl (bf f0)))), (q4_, .inl (c1_, (128, .inl (nf z0)))), (q5_, .inl (c1_, (128, .inl (nf z0))))] H ∧ va_D A [(h0, .inr (1, [.int (nI 0), .int (nI 0), .int (nI 0), .ref q1_, .ref q2_, .ref q3_, .ref q4_, .ref q5_])), (q1_, .inl (c1_, (8, .inl (nf z0)))), (q2_, .inl (c2_, (128, .inl (bf f0)))), (q3_, .inl (c2_, (128, .inl (bf f0)))), (q4_, .inl (c1_, (128, .inl (nf z0)))), (q5_, .inl (c1_, (128, .inl (nf z0))))] ∧ va_S A S.heap H locs) (fun H locs hJ => ?_) (fun J => ?_)
  · obtain ⟨hP, hD, hS⟩ := hJ
    refine va_put (D := D) (ci := 1) (v := .int (nI (cN x))) (ty := .int) (C := RX2) (T := TX2) (N := 8) hx hb hts in_X2 tyX2 tyX2_ok nmX2 hown hK hP hD hS 0 rfl rfl 0 (by decide) (hts _ q212) (fun _ h9 => h9) rfl (by decide +kernel) rfl rfl (Nat.le_of_ble_eq_true rfl) dX2_init_70 (fun H locs hP hD hS => ?_)
    have hP : va_P D clX [(h0, .inr (1, [.int (nI (cN x)), .int (nI 0), .int (nI 0), .ref q1_, .ref q2_, .ref q3_, .ref q4_, .ref q5_])), (q1_, .inl (c1_, (8, .inl (nf z0)))), (q2_, .inl (c2_, (128, .inl (bf f0)))), (q3_, .inl (c2_, (128, .inl (bf f0)))), (q4_, .inl (c1_, (128, .inl (nf z0)))), (q5_, .inl (c1_, (128, .inl (nf z0))))] H := hP
    have hD : va_D A [(h0, .inr (1, [.int (nI (cN x)), .int (nI 0), .int (nI 0), .ref q1_, .ref q2_, .ref q3_, .ref q4_, .ref q5_])), (q1_, .inl (c1_, (8, .inl (nf z0)))), (q2_, .inl (c2_, (128, .inl (bf f0)))), (q3_, .inl (c2_, (128, .inl (bf f0)))), (q4_, .inl (c1_, (128, .inl (nf z0)))), (q5_, .inl (c1_, (128, .inl (nf z0))))] := hD
    refine lv_aload_n hx hb dX2_init_73 rfl (lv_at hl 0 rfl) ?_
    refine nv_join 95 [.int (nI (cM y)), .ref h0] (fun H locs => va_P D clX [(h0, .inr (1, [.int (nI (cN x)), .int (nI 0), .int (nI 0), .ref q1_, .ref q2_, .ref q3_, .ref q4_, .ref q5_])), (q1_, .inl (c1_, (8, .inl (nf z0)))), (q2_, .inl (c2_, (128, .inl (bf f0)))), (q3_, .inl (c2_, (128, .inl (bf f0)))), (q4_, .inl (c1_, (128, .inl (nf z0)))), (q5_, .inl (c1_, (128, .inl (nf z0))))] H ∧ va_D A [(h0, .inr (1, [.int (nI (cN x)), .int (nI 0), .int (nI 0), .ref q1_, .ref q2_, .ref q3_, .ref q4_, .ref q5_])), (q1_, .inl (c1_, (8, .inl (nf z0)))), (q2_, .inl (c2_, (128, .inl (bf f0)))), (q3_, .inl (c2_, (128, .inl (bf f0)))), (q4_, .inl (c1_, (128, .inl (nf z0)))), (q5_, .inl (c1_, (128, .inl (nf z0))))] ∧ va_S A S.heap H locs) (fun H locs hJ => ?_) (fun J => ?_)
    · obtain ⟨hP, hD, hS⟩ := hJ
      refine va_put (D := D) (ci := 1) (v := .int (nI (cM y))) (ty := .int) (C := RX2) (T := TX2) (N := 8) hx hb hts in_X2 tyX2 tyX2_ok nmX2 hown hK hP hD hS 0 rfl rfl 1 (by decide) (hts _ q213) (fun _ h9 => h9) rfl (by decide +kernel) rfl rfl (Nat.le_of_ble_eq_true rfl) dX2_init_95 (fun H locs hP hD hS => ?_)
      have hP : va_P D clX [(h0, .inr (1, [.int (nI (cN x)), .int (nI (cM y)), .int (nI 0), .ref q1_, .ref q2_, .ref q3_, .ref q4_, .ref q5_])), (q1_, .inl (c1_, (8, .inl (nf z0)))), (q2_, .inl (c2_, (128, .inl (bf f0)))), (q3_, .inl (c2_, (128, .inl (bf f0)))), (q4_, .inl (c1_, (128, .inl (nf z0)))), (q5_, .inl (c1_, (128, .inl (nf z0))))] H := hP
      have hD : va_D A [(h0, .inr (1, [.int (nI (cN x)), .int (nI (cM y)), .int (nI 0), .ref q1_, .ref q2_, .ref q3_, .ref q4_, .ref q5_])), (q1_, .inl (c1_, (8, .inl (nf z0)))), (q2_, .inl (c2_, (128, .inl (bf f0)))), (q3_, .inl (c2_, (128, .inl (bf f0)))), (q4_, .inl (c1_, (128, .inl (nf z0)))), (q5_, .inl (c1_, (128, .inl (nf z0))))] := hD
      refine lv_aload_n hx hb dX2_init_98 rfl (lv_at hl 0 rfl) ?_
      refine lv_iconst (v := nI 1) hx hb dX2_init_99 (by decide) ?_
      refine lv_aload_n hx hb dX2_init_100 rfl (lv_at hl 0 rfl) ?_
      refine va_get (D := D) (ci := 1) (v := .int (nI (cM y))) (C := RX2) (T := TX2) (N := 8) hx hb hts in_X2 hown hK hP 0 rfl rfl 1 (by decide) (hts _ q213) (fun _ h9 => h9) rfl dX2_init_101 ?_
      refine nv_ishl hx hb (by have := cM_le y; omega) dX2_init_104 ?_
      refine lv_iconst (v := nI 1) hx hb dX2_init_105 (by decide) ?_
      refine nv_isub hx hb (pw_1 _) dX2_init_106 ?_
      refine va_put (D := D) (ci := 1) (v := .int (nI (2 ^ cM y - 1))) (ty := .int) (C := RX2) (T := TX2) (N := 8) hx hb hts in_X2 tyX2 tyX2_ok nmX2 hown hK hP hD hS 0 rfl rfl 2 (by decide) (hts _ q214) (fun _ h9 => h9) rfl (by decide +kernel) rfl rfl (Nat.le_of_ble_eq_true rfl) dX2_init_107 (fun H locs hP hD hS => ?_)
      exact W.vret hx hb hr (fun t ht hW => ⟨⟨(), rfl, trivial, ⟨fun k => [h0, q1_, q2_, q3_, q4_, q5_].getD k 0, c1_, c2_, rfl, by rw [ht]; exact hP, va_K.moved hW.alike hK, hD⟩⟩, hS.F ht⟩) hS.2.2 dX2_init_110
    · refine lv_iload_n hx hb dX2_init_74 rfl (lv_at hl 2 rfl) ?_
      refine lv_iconst (v := nI 2) hx hb dX2_init_75 (by decide) ?_
      refine lv_icmp_ge (tgt := 83) hx hb dX2_init_76 (by decide) (fun c_1 => ?_) (fun c_1 => ?_)
      · refine lv_iload_n hx hb dX2_init_83 rfl (lv_at hl 2 rfl) ?_
        refine lv_bipush (v := nI 7) hx hb dX2_init_84 (by decide) ?_
        refine lv_icmp_le (tgt := 94) hx hb dX2_init_86 (by decide) (fun c_2 => ?_) (fun c_2 => ?_)
        · refine lv_iload_n hx hb dX2_init_94 rfl (lv_at hl 2 rfl) ?_
          refine lv_topi (fun v ev => ?_)
          obtain rfl : v = nI (cM y) := ev.trans (cM_mid c_1 c_2).symm
          exact J _ _ ⟨hP, hD, hS⟩
        · refine lv_bipush (v := nI 7) hx hb dX2_init_89 (by decide) ?_
          refine lv_goto (tgt := 95) hx hb dX2_init_91 (by decide) ?_
          refine lv_topi (fun v ev => ?_)
          obtain rfl : v = nI (cM y) := ev.trans (by rw [cM_hi c_1 c_2])
          exact J _ _ ⟨hP, hD, hS⟩
      · refine lv_iconst (v := nI 2) hx hb dX2_init_79 (by decide) ?_
        refine lv_goto (tgt := 95) hx hb dX2_init_80 (by decide) ?_
        refine lv_topi (fun v ev => ?_)
        obtain rfl : v = nI (cM y) := ev.trans (by rw [cM_lo c_1])
        exact J _ _ ⟨hP, hD, hS⟩
  · refine lv_iload_n hx hb dX2_init_49 rfl (lv_at hl 1 rfl) ?_
    refine lv_iconst (v := nI 1) hx hb dX2_init_50 (by decide) ?_
    refine lv_icmp_ge (tgt := 58) hx hb dX2_init_51 (by decide) (fun c_1 => ?_) (fun c_1 => ?_)
    · refine lv_iload_n hx hb dX2_init_58 rfl (lv_at hl 1 rfl) ?_
      refine lv_bipush (v := nI 8) hx hb dX2_init_59 (by decide) ?_
      refine lv_icmp_le (tgt := 69) hx hb dX2_init_61 (by decide) (fun c_2 => ?_) (fun c_2 => ?_)
      · refine lv_iload_n hx hb dX2_init_69 rfl (lv_at hl 1 rfl) ?_
        refine lv_topi (fun v ev => ?_)
        obtain rfl : v = nI (cN x) := ev.trans (cN_mid c_1 c_2).symm
        exact J _ _ ⟨hP, hD, hS⟩
      · refine lv_bipush (v := nI 8) hx hb dX2_init_64 (by decide) ?_
        refine lv_goto (tgt := 70) hx hb dX2_init_66 (by decide) ?_
        refine lv_topi (fun v ev => ?_)
        obtain rfl : v = nI (cN x) := ev.trans (by rw [cN_hi c_1 c_2])
        exact J _ _ ⟨hP, hD, hS⟩
    · refine lv_iconst (v := nI 1) hx hb dX2_init_54 (by decide) ?_
      refine lv_goto (tgt := 70) hx hb dX2_init_55 (by decide) ?_
      refine lv_topi (fun v ev => ?_)
      obtain rfl : v = nI (cN x) := ev.trans (by rw [cN_lo c_1])
      exact J _ _ ⟨hP, hD, hS⟩
end
section
/-! the law: its script, cell, the calls of the constructors -/
def cel (xs : Nat → Int32) (L k : Nat) : Int32 := if L ≤ k then nI 0 else xs k
section LW
variable {p : Program} {l : Launch} {e : Env} {R : Room} {s : State} {m : MethodId} {args : Array Value} {below : List Frame} {meth : Method} {c : Code} {H : Heap} {locs : List Loc} {cells slots : Nat} {Q : State → Prop}
variable {cc : ByteArray} {pc : Nat} {ls : Array Slot} {st rest As : List Value} {A : Nat → Prop} {H0 : Heap} {b L : Nat} {xs : Nat → Int32}
theorem nv_slen (hx : p.tables.exec = Jvm.exec) (hb : c.code = cc) (hX : va_X b L xs s H0) (hbl : b < H0.size) (hbA : ¬ A b) (hS : va_S A H0 H locs) (hd : decode cc pc = .ok (.arraylength, 1)) (kk : W p l e R s m args below meth c H locs cells slots Q (F0 m (pc + 1) ls (.int (nI L) :: rest))) : W p l e R s m args below meth c H locs cells slots Q (F0 m pc ls (.ref b :: rest)) := va_slen hx hb hX hbl hbA hS hd kk
theorem nv_sld (hx : p.tables.exec = Jvm.exec) (hb : c.code = cc) (hX : va_X b L xs s H0) (hbl : b < H0.size) (hbA : ¬ A b) (hS : va_S A H0 H locs) {i : Nat} (hi : i < L) (hL : L < 2 ^ 31) (hd : decode cc pc = .ok (.iaload, 1)) (kk : W p l e R s m args below meth c H locs cells slots Q (F0 m (pc + 1) ls (.int (xs i) :: rest))) : W p l e R s m args below meth c H locs cells slots Q (F0 m pc ls (.int (nI i) :: .ref b :: rest)) := by
  refine va_sld hx hb hX hbl hbA hS (vp_in_nI hi hL) hd ?_
  rw [nI_clamp (Nat.lt_trans hi hL)]
  exact kk
end LW
set_option maxHeartbeats 4000000 in
set_option maxRecDepth 100000 in
/-- cell(s, k): the k-th int, or 0 -/
theorem m_X0_cell (l : Launch) (b L : Nat) (xs : Nat → Int32) (hL : L ≤ 258) (k sz : Nat) (hk : k < 2) : Met l yX0_cell (ws_ yX0_cell cX0_cell 2 (some .int)) (rmX 0 0) (va_Pc [.ref b, .int (nI k)] (fun U => U.heap.size = sz ∧ va_X b L xs U U.heap)) (va_Qi (fun r (_ : Unit) => r = cel xs L k) (fun _ _ => True) (fun q => sz ≤ q)) 0 0 (fun q => sz ≤ q) := by
  refine Met.ofW (cc := cX0_cell) (maxL := 2) (ret := (some .int)) (by decide) rfl ?_
  intro p e S M args below meth c s₁ B hml hv
  obtain ⟨rfl, hsz, hX⟩ := hv
  have hx := B.exec
  have hb := B.bytes
  have hr := B.returns
  have hlocks := B.notSynchronized
  subst hsz
  have hS : va_S (frX S) S.heap S.heap [] := va_S.rf
  have hbl : b < S.heap.size := by
    obtain ⟨scr, h1, -⟩ := hX
    exact (Array.getElem?_eq_some_iff.mp h1).1
  have hbA : ¬ frX S b := Nat.not_le.mpr hbl
  have hl := lv_entry ([.ref b, .int (nI k)]) (n := 2) (Nat.le_of_ble_eq_true rfl)
  rw [lg_entry_eq]
  generalize (lg_sl ([.ref b, .int (nI k)]) ++ List.replicate (2 - (lg_sl ([.ref b, .int (nI k)])).length) Slot.unset).toArray = ls at hl ⊢
  have hl : lv_has ls 2 [(0, .ref b), (1, .int (nI k))] := hl
  refine lv_iload_n hx hb dX0_cell_0 rfl (lv_at hl 1 rfl) ?_
  refine lv_aload_n hx hb dX0_cell_1 rfl (lv_at hl 0 rfl) ?_
  refine nv_slen hx hb hX hbl hbA hS dX0_cell_2 ?_
  refine nv_ge hx hb (by omega) (by omega) (tgt := 12) dX0_cell_3 (by decide) (fun c_3 => ?_) (fun c_3 => ?_)
  · refine lv_iconst (v := nI 0) hx hb dX0_cell_12 (by decide) ?_
    exact W.iret (v := nI 0) hx hb hr (fun t ht hW => ⟨⟨nI 0, (), rfl, by unfold cel; rw [if_pos c_3], trivial⟩, hS.F ht⟩) hS.2.2 dX0_cell_13
  · refine lv_aload_n hx hb dX0_cell_6 rfl (lv_at hl 0 rfl) ?_
    refine lv_iload_n hx hb dX0_cell_7 rfl (lv_at hl 1 rfl) ?_
    refine nv_sld hx hb hX hbl hbA hS c_3 (by omega) dX0_cell_8 ?_
    refine lv_goto (tgt := 13) hx hb dX0_cell_9 (by decide) ?_
    exact W.iret (v := xs k) hx hb hr (fun t ht hW => ⟨⟨xs k, (), rfl, by unfold cel; rw [if_neg (by omega)], trivial⟩, hS.F ht⟩) hS.2.2 dX0_cell_13
section LC
variable {p : Program} {l : Launch} {e : Env} {R : Room} {s : State} {m : MethodId} {args : Array Value} {below : List Frame} {meth : Method} {c : Code} {H : Heap} {locs : List Loc} {cells slots : Nat} {Q : State → Prop}
variable {cc : ByteArray} {pc : Nat} {ls : Array Slot} {st rest As : List Value} {A0 : Nat → Prop} {H0 : Heap} {b L nL idx n : Nat} {xs : Nat → Int32} {D : va_G} {own : String}
theorem cell_call (hL : L ≤ 258) {k : Nat} (hk : k < 2) (S : CallFix p m c cc nL s args lw_all own) (cw : CallB R s args own idx yX0_cell cX0_cell 2 (some .int) (ws_ yX0_cell cX0_cell 2 (some .int)) (rmX 0 0) 0 0 2 ∧ (Cond.static yX0_cell).before args s = true) (hX : va_X b L xs s H0) (hbl : b < H0.size) (hbA : ¬ A0 b) (hS : va_S A0 H0 H locs) (hA : ∀ q, H0.size ≤ q → A0 q) (hl : ls.size = nL) (hroom : (rest.map fun v => v.category).sum ≤ 8) (hcs : cells ≤ R.cells ∧ slots ≤ R.slots) (hd : decode cc pc = .ok (.invokestatic idx, 3))
    (kk : ∀ (H1 : Heap) (locs1 : List Loc), (∀ (D : va_G) (w : va_W), va_P D clX w H → va_P D clX w H1) → va_S A0 H0 H1 locs1 → W p l e R s m args below meth c H1 locs1 cells slots Q (F0 m (pc + 3) ls (.int (cel xs L k) :: rest))) : W p l e R s m args below meth c H locs cells slots Q (F0 m pc ls (.int (nI k) :: .ref b :: rest)) := by
  have hXH : va_X b L xs s H := hX.kept (hS.2.1 b hbl hbA)
  refine va_calli (va_runS (As := [.ref b, .int (nI k)]) (rest := rest) S (m_X0_cell l b L xs hL k H.size hk) cw ⟨fun a U g mk q => by obtain ⟨q0, q1, qX⟩ := q; exact ⟨q0, q1, va_X.moved (u := U) (U := U.calling g mk a) (Vm.Alike.refl U.vm) qX⟩, fun U hU hW => ⟨rfl, by rw [hU], by rw [hU]; exact hXH.moved hW.alike⟩⟩ rfl rfl hl rfl (lv_room hroom) hd hcs) hS (fun q h1 h2 => absurd h2 (Nat.not_le.mpr h1)) (fun q h => hA q (Nat.le_trans hS.1 h)) (fun r u t H1 locs1 ht hvm hw hB hz hk hS => ?_)
  subst hw
  exact kk H1 locs1 (fun D w hw => hw.kept (fun k q hq => hk q.1 (hw k q hq).lt (Nat.not_le.mpr (hw k q hq).lt))) hS
/-- a constructor's call: what it made, and the rest as it was -/
theorem init_call {made : State → Prop} {w0 : va_W} (wr : va_W) {y : MethodName} {bc : ByteArray} {mc ms : Nat} {a : Nat} {v0 v1 : Int32} (hM : Met l y (ws_ y bc 3 none) ({ frames := 1, cells := mc, slots := ms, locals := 12 }) (va_Pc [.ref a, .int v0, .int v1] (fun U => U.heap.size = H.size ∧ va_P D clX w0 U.heap ∧ va_K D clX [] U ∧ va_D (fun _ => True) w0)) (va_Qv (fun _ : Unit => True) (fun _ t => made t) (va_A w0 H.size)) mc ms (va_A w0 H.size)) (S : CallFix p m c cc nL s args lw_all own) (cw : CallB R s args own idx y bc 3 none (ws_ y bc 3 none) ({ frames := 1, cells := mc, slots := ms, locals := 12 }) mc ms 2 ∧ y.name = "<init>" ∧ (Cond.instanceMethod y).before args s = true) (hK : va_K D clX [] s) (hP : va_P D clX w0 H) (hPr : va_P D clX wr H) (hD : va_D A0 (w0 ++ wr)) (hS : va_S A0 H0 H locs) (hA : ∀ q, H0.size ≤ q → A0 q) (hl : ls.size = nL) (hroom : (rest.map fun v => v.category).sum ≤ 8) (hcs : cells + mc ≤ R.cells ∧ slots + ms ≤ R.slots) (hd : decode cc pc = .ok (.invokespecial idx, 3))
    (kk : ∀ (t : State) (H1 : Heap) (locs1 : List Loc), t.heap = H1 → s.vm.Alike t.vm → made t → (∀ w1 : va_W, va_D (va_A w0 H.size) w1 → va_P D clX wr H1 ∧ va_D A0 (w1 ++ wr)) → va_S A0 H0 H1 locs1 → W p l e R s m args below meth c H1 locs1 (cells + mc) (slots + ms) Q (F0 m (pc + 3) ls rest)) : W p l e R s m args below meth c H locs cells slots Q (F0 m pc ls (.int v1 :: .int v0 :: .ref a :: rest)) := by
  have hF := x_free hD hS hA
  refine va_callv (va_runI (As := [.int v0, .int v1]) (rest := rest) S hM cw ⟨fun a U g mk q => by obtain ⟨q0, q1, qP, qK, qD⟩ := q; exact ⟨q0, q1, qP, va_K.moved (u := U) (U := U.calling g mk a) (Vm.Alike.refl U.vm) qK, qD⟩, fun U hU hW => ⟨rfl, by rw [hU], by rw [hU]; exact hP, va_K.moved hW.alike hK, (xD_left hD).weaken (fun _ _ _ _ => trivial)⟩⟩ rfl rfl hl rfl (lv_room hroom) hd hcs) hS (fun q _ h => hF q h) hF (fun u t H1 locs1 ht hvm hw hB hz hk hS => ?_)
  exact kk t H1 locs1 ht hvm hB (fun w1 hD1 => x_frame hPr hD hk hF hD1) hS
end LC
/-- the loop's test -/
theorem law_c {L i : Nat} (hL : L ≤ 258) (hi : i ≤ 1000) : nI L - nI 4 < nI i ↔ L < i + 4 := by
  rw [Int32.lt_iff_toInt_lt, pk_sub_toInt (by omega) (by decide), nI_toInt (by omega)]
  omega
theorem XI.un {n m : Nat} {R R1 C cs ps pe lv : Nat → Nat} {kc kp ku : Nat} (h : XI n m R1 (kc, kp, ku, R, C, cs, ps, pe, lv)) : R = R1 ∧ Cols n m R1 C ∧ ku ≤ 1 ∧ (ku = 1 → Fr n m R1 kc kp cs ps) := h
end
section
/-! THE CLAIM OUT OF ONE WALK OF THE LAW'S BODY. Your part is whole_start (and what it stands on); all else here is the same for every law, but numbers. -/
def R_law : String := "ConceptLatticeLaw"
def lw_P (b : Addr) (xs : List Int32) (args : Array Value) (s : State) : Prop := args = #[.ref b] ∧ s.IntsAt b xs ∧ xs.length ≤ 258 ∧ (Jvm.Cond.and given_1 narrow_1).before args s = true
def lw_Q (_ : Array Value) (s : State) (o : Outcome) (t : State) : Prop := o = .returned (some (.int 1)) ∧ Framed s o t [] 600000 7290000
def lw_Z (below : List Frame) (a : Array Value) (s : State) : State → Prop := fun t => ∃ o, t.status = .running ∧ Ended t below o ∧ lw_Q a s o t
/-- the law's own end, with 1 on the stack, nothing written that was there before, its room as the claim has it -/
theorem lw_ret {p : Program} {l : Launch} {e : Env} {s : State} {m : MethodId} {below : List Frame} {meth : Method} {c : Code} {b : Nat} (hx : p.tables.exec = Jvm.exec) (hb : c.code = code) (hr : meth.sig.returnType = ret) (hlocks : meth.locks = false) {pc : Nat} {H : Heap} {ls : Array Slot} (hdg : decode code pc = .ok (.ireturn, 1)) : W p l e room_1 s m #[Value.ref b] below meth c H [] 600000 7290000 (lw_Z below #[Value.ref b] s) (F0 m pc ls [.int 1]) := by
  intro T hT X
  obtain ⟨fs, hret, hrun, hended, hW, hframe⟩ := X.leave (v := some (.int 1)) (hlocks := hlocks) (fun h => by rw [hr] at h; cases h)
  have hmeth' : T.vm.method? m = some meth := X.method'
  refine ⟨T.setFrames fs, ?_, .returned (some (.int 1)), hrun, hended, rfl, ⟨_, rfl⟩, hW, hframe⟩
  jvm_step X.here [X.here.top, hx, hb, hdg, hmeth', hr, ret, narrow_b1]
  (try refine ⟨rfl, ?_⟩); (try refine ⟨rfl, ?_⟩)
  first | (intro acts; rw [hret _ acts rfl rfl rfl]) | rw [hret _ _ rfl rfl rfl]
  exact Steps.refl _
/-- what holds at the law's entry: the machine, the code, the tables' words (any of lw_tbl by 'hts w (by decide +kernel)'), the script of L ints xs at the cell b, what the Statement gives of the start (any of its parts by flat_of_before) -/
def lw_At (p : Program) (s : State) (m : MethodId) (meth : Method) (c : Code) (b L : Nat) (xs : Nat → Int32) : Prop :=
  p.tables.exec = Jvm.exec ∧ c.code = code ∧ meth.sig.returnType = ret ∧ c.maxLocals = 4 ∧ s.vm.findClass R_law = some m.cls ∧ (∀ w ∈ lw_tbl, w.before #[Value.ref b] s = true) ∧ va_X b L xs s s.heap ∧ b < s.heap.size ∧ meth.locks = false ∧ (Jvm.Cond.and given_1 narrow_1).before #[Value.ref b] s = true
end
section
/-! the law: its loop, a case a call -/
/-- what holds between two calls: both objects hold the same rows -/
def LI (D : va_G) (d z : ClassId) (gx gy : Nat → Nat) (n m : Nat) (A : Nat → Prop) (H0 H : Heap) (locs : List Loc) : Prop := ∃ (R : Nat → Nat) (u : XS) (v : YS), XI n m R u ∧ v.1 = R ∧ (∀ g, R g < 2 ^ m) ∧ va_P D clX (xW gx d n m u) H ∧ va_P D clX (yW gy d z n m v) H ∧ va_D A (xW gx d n m u ++ yW gy d z n m v) ∧ va_S A H0 H locs
set_option maxHeartbeats 4000000 in
set_option maxRecDepth 100000 in
theorem law_0 {p : Program} {e : Env} {S : State} {M : MethodId} {below : List Frame} {meth : Method} {c : Code} {l : Launch} {b L : Nat} {xs : Nat → Int32} {D : va_G} {d z : ClassId} {gx gy : Nat → Nat} {n m : Nat} {Q : State → Prop} (hL : L ≤ 258) (C0 : lw_At p S M meth c b L xs) (hn : n ≤ 8) (hm : m ≤ 7) (hK : va_K D clX (tyX d z) S) {k : Nat} (hk : 2 + 4 * k + 4 ≤ L) {H : Heap} {locs : List Loc} {ls : Array Slot} (hl : lv_has ls 4 [(3, .int (nI (2 + 4 * k))), (0, .ref b), (1, .ref (gx 0)), (2, .ref (gy 0))]) (hI : LI D d z gx gy n m (frX S) S.heap H locs) (J : ∀ (H : Heap) (locs : List Loc), LI D d z gx gy n m (frX S) S.heap H locs → W p l e room_1 S M #[Value.ref b] below meth c H locs 13 1066 Q (F0 M 561 ls [])) : W p l e room_1 S M #[Value.ref b] below meth c H locs 13 1066 Q (F0 M 144 ls []) := by
  obtain ⟨hx, hb, hr, hml, hown, hts0, hX, hbl, hlocks, -⟩ := C0
  have hown : S.vm.findClass RX0 = some M.cls := hown
  have hts : ∀ w ∈ lw_all, w.before #[Value.ref b] S = true := fun w h => hts0 w (lw_all_tbl h)
  have hA : ∀ q : Nat, S.heap.size ≤ q → (frX S) q := fun _ h => h
  have hbA : ¬ frX S b := Nat.not_le.mpr hbl
  obtain ⟨R1, ⟨kc, kp, ku, R, C, cs, ps, pe, lv⟩, ⟨R2, cb, pb, cl, ch⟩, hXI, hv, hR, hPx, hPy, hD, hS⟩ := hI
  obtain ⟨rfl, hC, hku, hfr⟩ := hXI.un
  have hv : R = R2 := hv.symm
  subst hv
  have hPx : va_P D clX (xw gx d n m kc kp ku R C cs ps pe lv) H := hPx
  have hPy : va_P D clX (yw gy d z n m R cb pb cl ch) H := hPy
  have hD : va_D (frX S) (xw gx d n m kc kp ku R C cs ps pe lv ++ yw gy d z n m R cb pb cl ch) := hD
  refine lv_aload_n hx hb dL_law_144 rfl (lv_at hl 2 rfl) ?_
  refine xRO.call (m_X1_objects ) ⟨hx, hb, hml, hown, hts⟩ (cwV 0 hts (lw_V q72 q73 q74 q27 q75) rfl rfl rfl (by decide +kernel) ⟨Nat.le_of_ble_eq_true rfl, Nat.le_of_ble_eq_true rfl⟩) hK hPx (x_rc hK hPx) hS hA hl.1 rfl rfl (Nat.le_of_ble_eq_true rfl) ⟨Nat.le_of_ble_eq_true rfl, Nat.le_of_ble_eq_true rfl⟩ dL_law_145 (fun r1 H locs hr1 hT hS => ?_)
  have hPx := hT _ hPx
  have hPy := hT _ hPy
  refine lv_aload_n hx hb dL_law_148 rfl (lv_at hl 3 rfl) ?_
  refine xRO.call (m_X2_objects ) ⟨hx, hb, hml, hown, hts⟩ (cwV 0 hts (lw_V q238 q239 q240 q28 q241) rfl rfl rfl (by decide +kernel) ⟨Nat.le_of_ble_eq_true rfl, Nat.le_of_ble_eq_true rfl⟩) hK hPy (y_rc hK hPy) hS hA hl.1 rfl rfl (Nat.le_of_ble_eq_true rfl) ⟨Nat.le_of_ble_eq_true rfl, Nat.le_of_ble_eq_true rfl⟩ dL_law_149 (fun r2 H locs hr2 hT hS => ?_)
  have hPx := hT _ hPx
  have hPy := hT _ hPy
  refine lv_icmp_eq (tgt := 561) hx hb dL_law_152 (by decide) (fun c_ => ?_) (fun c_ => ?_)
  · exact J _ _ ⟨R, (kc, kp, ku, R, C, cs, ps, pe, lv), (R, cb, pb, cl, ch), XI.of hC hku hfr, rfl, hR, hPx, hPy, hD, hS⟩
  · exact absurd (Eq.trans hr1 (Eq.symm hr2)) c_
set_option maxHeartbeats 4000000 in
set_option maxRecDepth 100000 in
theorem law_1 {p : Program} {e : Env} {S : State} {M : MethodId} {below : List Frame} {meth : Method} {c : Code} {l : Launch} {b L : Nat} {xs : Nat → Int32} {D : va_G} {d z : ClassId} {gx gy : Nat → Nat} {n m : Nat} {Q : State → Prop} (hL : L ≤ 258) (C0 : lw_At p S M meth c b L xs) (hn : n ≤ 8) (hm : m ≤ 7) (hK : va_K D clX (tyX d z) S) {k : Nat} (hk : 2 + 4 * k + 4 ≤ L) {H : Heap} {locs : List Loc} {ls : Array Slot} (hl : lv_has ls 4 [(3, .int (nI (2 + 4 * k))), (0, .ref b), (1, .ref (gx 0)), (2, .ref (gy 0))]) (hI : LI D d z gx gy n m (frX S) S.heap H locs) (J : ∀ (H : Heap) (locs : List Loc), LI D d z gx gy n m (frX S) S.heap H locs → W p l e room_1 S M #[Value.ref b] below meth c H locs 13 1066 Q (F0 M 561 ls [])) : W p l e room_1 S M #[Value.ref b] below meth c H locs 13 1066 Q (F0 M 157 ls []) := by
  obtain ⟨hx, hb, hr, hml, hown, hts0, hX, hbl, hlocks, -⟩ := C0
  have hown : S.vm.findClass RX0 = some M.cls := hown
  have hts : ∀ w ∈ lw_all, w.before #[Value.ref b] S = true := fun w h => hts0 w (lw_all_tbl h)
  have hA : ∀ q : Nat, S.heap.size ≤ q → (frX S) q := fun _ h => h
  have hbA : ¬ frX S b := Nat.not_le.mpr hbl
  obtain ⟨R1, ⟨kc, kp, ku, R, C, cs, ps, pe, lv⟩, ⟨R2, cb, pb, cl, ch⟩, hXI, hv, hR, hPx, hPy, hD, hS⟩ := hI
  obtain ⟨rfl, hC, hku, hfr⟩ := hXI.un
  have hv : R = R2 := hv.symm
  subst hv
  have hPx : va_P D clX (xw gx d n m kc kp ku R C cs ps pe lv) H := hPx
  have hPy : va_P D clX (yw gy d z n m R cb pb cl ch) H := hPy
  have hD : va_D (frX S) (xw gx d n m kc kp ku R C cs ps pe lv ++ yw gy d z n m R cb pb cl ch) := hD
  refine lv_aload_n hx hb dL_law_157 rfl (lv_at hl 2 rfl) ?_
  refine xRO.call (m_X1_attributes ) ⟨hx, hb, hml, hown, hts⟩ (cwV 0 hts (lw_V q76 q77 q78 q27 q79) rfl rfl rfl (by decide +kernel) ⟨Nat.le_of_ble_eq_true rfl, Nat.le_of_ble_eq_true rfl⟩) hK hPx (x_rc hK hPx) hS hA hl.1 rfl rfl (Nat.le_of_ble_eq_true rfl) ⟨Nat.le_of_ble_eq_true rfl, Nat.le_of_ble_eq_true rfl⟩ dL_law_158 (fun r1 H locs hr1 hT hS => ?_)
  have hPx := hT _ hPx
  have hPy := hT _ hPy
  refine lv_aload_n hx hb dL_law_161 rfl (lv_at hl 3 rfl) ?_
  refine xRO.call (m_X2_attributes ) ⟨hx, hb, hml, hown, hts⟩ (cwV 0 hts (lw_V q242 q243 q244 q28 q245) rfl rfl rfl (by decide +kernel) ⟨Nat.le_of_ble_eq_true rfl, Nat.le_of_ble_eq_true rfl⟩) hK hPy (y_rc hK hPy) hS hA hl.1 rfl rfl (Nat.le_of_ble_eq_true rfl) ⟨Nat.le_of_ble_eq_true rfl, Nat.le_of_ble_eq_true rfl⟩ dL_law_162 (fun r2 H locs hr2 hT hS => ?_)
  have hPx := hT _ hPx
  have hPy := hT _ hPy
  refine lv_icmp_eq (tgt := 561) hx hb dL_law_165 (by decide) (fun c_ => ?_) (fun c_ => ?_)
  · exact J _ _ ⟨R, (kc, kp, ku, R, C, cs, ps, pe, lv), (R, cb, pb, cl, ch), XI.of hC hku hfr, rfl, hR, hPx, hPy, hD, hS⟩
  · exact absurd (Eq.trans hr1 (Eq.symm hr2)) c_
set_option maxHeartbeats 4000000 in
set_option maxRecDepth 100000 in
theorem law_2 {p : Program} {e : Env} {S : State} {M : MethodId} {below : List Frame} {meth : Method} {c : Code} {l : Launch} {b L : Nat} {xs : Nat → Int32} {D : va_G} {d z : ClassId} {gx gy : Nat → Nat} {n m : Nat} {Q : State → Prop} (hL : L ≤ 258) (C0 : lw_At p S M meth c b L xs) (hn : n ≤ 8) (hm : m ≤ 7) (hK : va_K D clX (tyX d z) S) {k : Nat} (hk : 2 + 4 * k + 4 ≤ L) {H : Heap} {locs : List Loc} {ls : Array Slot} (hl : lv_has ls 4 [(3, .int (nI (2 + 4 * k))), (0, .ref b), (1, .ref (gx 0)), (2, .ref (gy 0))]) (hI : LI D d z gx gy n m (frX S) S.heap H locs) (J : ∀ (H : Heap) (locs : List Loc), LI D d z gx gy n m (frX S) S.heap H locs → W p l e room_1 S M #[Value.ref b] below meth c H locs 13 1066 Q (F0 M 561 ls [])) : W p l e room_1 S M #[Value.ref b] below meth c H locs 13 1066 Q (F0 M 170 ls []) := by
  obtain ⟨hx, hb, hr, hml, hown, hts0, hX, hbl, hlocks, -⟩ := C0
  have hown : S.vm.findClass RX0 = some M.cls := hown
  have hts : ∀ w ∈ lw_all, w.before #[Value.ref b] S = true := fun w h => hts0 w (lw_all_tbl h)
  have hA : ∀ q : Nat, S.heap.size ≤ q → (frX S) q := fun _ h => h
  have hbA : ¬ frX S b := Nat.not_le.mpr hbl
  obtain ⟨R1, ⟨kc, kp, ku, R, C, cs, ps, pe, lv⟩, ⟨R2, cb, pb, cl, ch⟩, hXI, hv, hR, hPx, hPy, hD, hS⟩ := hI
  obtain ⟨rfl, hC, hku, hfr⟩ := hXI.un
  have hv : R = R2 := hv.symm
  subst hv
  have hPx : va_P D clX (xw gx d n m kc kp ku R C cs ps pe lv) H := hPx
  have hPy : va_P D clX (yw gy d z n m R cb pb cl ch) H := hPy
  have hD : va_D (frX S) (xw gx d n m kc kp ku R C cs ps pe lv ++ yw gy d z n m R cb pb cl ch) := hD
  refine lv_aload_n hx hb dL_law_170 rfl (lv_at hl 2 rfl) ?_
  refine lv_aload_n hx hb dL_law_171 rfl (lv_at hl 1 rfl) ?_
  refine lv_iload_n hx hb dL_law_172 rfl (lv_at hl 0 rfl) ?_
  refine lv_iconst (v := nI 1) hx hb dL_law_173 (by decide) ?_
  refine nv_iadd hx hb dL_law_174 ?_
  refine nv_sld hx hb hX hbl hbA hS (by omega) (by omega) dL_law_175 ?_
  refine lv_aload_n hx hb dL_law_176 rfl (lv_at hl 1 rfl) ?_
  refine lv_iload_n hx hb dL_law_177 rfl (lv_at hl 0 rfl) ?_
  refine lv_iconst (v := nI 2) hx hb dL_law_178 (by decide) ?_
  refine nv_iadd hx hb dL_law_179 ?_
  refine nv_sld hx hb hX hbl hbA hS (by omega) (by omega) dL_law_180 ?_
  refine lv_aload_n hx hb dL_law_181 rfl (lv_at hl 1 rfl) ?_
  refine lv_iload_n hx hb dL_law_182 rfl (lv_at hl 0 rfl) ?_
  refine lv_iconst (v := nI 3) hx hb dL_law_183 (by decide) ?_
  refine nv_iadd hx hb dL_law_184 ?_
  refine nv_sld hx hb hX hbl hbA hS (by omega) (by omega) dL_law_185 ?_
  refine xRW.call (yw gy d z n m R cb pb cl ch) (m_X1_cross hn hm hC hku hfr hR) ⟨hx, hb, hml, hown, hts⟩ (cwV 3 hts (lw_V q80 q81 q82 q27 q83) rfl rfl rfl (by decide +kernel) ⟨Nat.le_of_ble_eq_true rfl, Nat.le_of_ble_eq_true rfl⟩) hK hPx hPy hD (x_rc hK hPx) hS hA hl.1 rfl rfl (Nat.le_of_ble_eq_true rfl) ⟨Nat.le_of_ble_eq_true rfl, Nat.le_of_ble_eq_true rfl⟩ dL_law_186 (fun r1 u1 H locs hr1 hPx hPy hD hS => ?_)
  refine lv_aload_n hx hb dL_law_189 rfl (lv_at hl 3 rfl) ?_
  refine lv_aload_n hx hb dL_law_190 rfl (lv_at hl 1 rfl) ?_
  refine lv_iload_n hx hb dL_law_191 rfl (lv_at hl 0 rfl) ?_
  refine lv_iconst (v := nI 1) hx hb dL_law_192 (by decide) ?_
  refine nv_iadd hx hb dL_law_193 ?_
  refine nv_sld hx hb hX hbl hbA hS (by omega) (by omega) dL_law_194 ?_
  refine lv_aload_n hx hb dL_law_195 rfl (lv_at hl 1 rfl) ?_
  refine lv_iload_n hx hb dL_law_196 rfl (lv_at hl 0 rfl) ?_
  refine lv_iconst (v := nI 2) hx hb dL_law_197 (by decide) ?_
  refine nv_iadd hx hb dL_law_198 ?_
  refine nv_sld hx hb hX hbl hbA hS (by omega) (by omega) dL_law_199 ?_
  refine lv_aload_n hx hb dL_law_200 rfl (lv_at hl 1 rfl) ?_
  refine lv_iload_n hx hb dL_law_201 rfl (lv_at hl 0 rfl) ?_
  refine lv_iconst (v := nI 3) hx hb dL_law_202 (by decide) ?_
  refine nv_iadd hx hb dL_law_203 ?_
  refine nv_sld hx hb hX hbl hbA hS (by omega) (by omega) dL_law_204 ?_
  refine xRW.call (xW gx d n m u1) (m_X2_cross hn hm hR) ⟨hx, hb, hml, hown, hts⟩ (cwV 3 hts (lw_V q246 q247 q248 q28 q249) rfl rfl rfl (by decide +kernel) ⟨Nat.le_of_ble_eq_true rfl, Nat.le_of_ble_eq_true rfl⟩) hK hPy hPx (xD_swap hD) (y_rc hK hPy) hS hA hl.1 rfl rfl (Nat.le_of_ble_eq_true rfl) ⟨Nat.le_of_ble_eq_true rfl, Nat.le_of_ble_eq_true rfl⟩ dL_law_205 (fun r2 v1 H locs hr2 hPy hPx hD hS => ?_)
  have hD := xD_swap hD
  refine lv_icmp_eq (tgt := 561) hx hb dL_law_208 (by decide) (fun c_ => ?_) (fun c_ => ?_)
  · exact J _ _ ⟨crR n m R (xs (2 + 4 * k + 1)) (xs (2 + 4 * k + 2)) (xs (2 + 4 * k + 3)), u1, v1, hr1.2, hr2.2, crR_lt hm hR, hPx, hPy, hD, hS⟩
  · exact absurd (Eq.trans hr1.1 (Eq.symm hr2.1)) c_
set_option maxHeartbeats 4000000 in
set_option maxRecDepth 100000 in
theorem law_3 {p : Program} {e : Env} {S : State} {M : MethodId} {below : List Frame} {meth : Method} {c : Code} {l : Launch} {b L : Nat} {xs : Nat → Int32} {D : va_G} {d z : ClassId} {gx gy : Nat → Nat} {n m : Nat} {Q : State → Prop} (hL : L ≤ 258) (C0 : lw_At p S M meth c b L xs) (hn : n ≤ 8) (hm : m ≤ 7) (hK : va_K D clX (tyX d z) S) {k : Nat} (hk : 2 + 4 * k + 4 ≤ L) {H : Heap} {locs : List Loc} {ls : Array Slot} (hl : lv_has ls 4 [(3, .int (nI (2 + 4 * k))), (0, .ref b), (1, .ref (gx 0)), (2, .ref (gy 0))]) (hI : LI D d z gx gy n m (frX S) S.heap H locs) (J : ∀ (H : Heap) (locs : List Loc), LI D d z gx gy n m (frX S) S.heap H locs → W p l e room_1 S M #[Value.ref b] below meth c H locs 13 1066 Q (F0 M 561 ls [])) : W p l e room_1 S M #[Value.ref b] below meth c H locs 13 1066 Q (F0 M 213 ls []) := by
  obtain ⟨hx, hb, hr, hml, hown, hts0, hX, hbl, hlocks, -⟩ := C0
  have hown : S.vm.findClass RX0 = some M.cls := hown
  have hts : ∀ w ∈ lw_all, w.before #[Value.ref b] S = true := fun w h => hts0 w (lw_all_tbl h)
  have hA : ∀ q : Nat, S.heap.size ≤ q → (frX S) q := fun _ h => h
  have hbA : ¬ frX S b := Nat.not_le.mpr hbl
  obtain ⟨R1, ⟨kc, kp, ku, R, C, cs, ps, pe, lv⟩, ⟨R2, cb, pb, cl, ch⟩, hXI, hv, hR, hPx, hPy, hD, hS⟩ := hI
  obtain ⟨rfl, hC, hku, hfr⟩ := hXI.un
  have hv : R = R2 := hv.symm
  subst hv
  have hPx : va_P D clX (xw gx d n m kc kp ku R C cs ps pe lv) H := hPx
  have hPy : va_P D clX (yw gy d z n m R cb pb cl ch) H := hPy
  have hD : va_D (frX S) (xw gx d n m kc kp ku R C cs ps pe lv ++ yw gy d z n m R cb pb cl ch) := hD
  refine lv_aload_n hx hb dL_law_213 rfl (lv_at hl 2 rfl) ?_
  refine lv_aload_n hx hb dL_law_214 rfl (lv_at hl 1 rfl) ?_
  refine lv_iload_n hx hb dL_law_215 rfl (lv_at hl 0 rfl) ?_
  refine lv_iconst (v := nI 1) hx hb dL_law_216 (by decide) ?_
  refine nv_iadd hx hb dL_law_217 ?_
  refine nv_sld hx hb hX hbl hbA hS (by omega) (by omega) dL_law_218 ?_
  refine lv_aload_n hx hb dL_law_219 rfl (lv_at hl 1 rfl) ?_
  refine lv_iload_n hx hb dL_law_220 rfl (lv_at hl 0 rfl) ?_
  refine lv_iconst (v := nI 2) hx hb dL_law_221 (by decide) ?_
  refine nv_iadd hx hb dL_law_222 ?_
  refine nv_sld hx hb hX hbl hbA hS (by omega) (by omega) dL_law_223 ?_
  refine xRW.call (yw gy d z n m R cb pb cl ch) (m_X1_row hn hm hC hku hfr) ⟨hx, hb, hml, hown, hts⟩ (cwV 2 hts (lw_V q96 q97 q98 q27 q99) rfl rfl rfl (by decide +kernel) ⟨Nat.le_of_ble_eq_true rfl, Nat.le_of_ble_eq_true rfl⟩) hK hPx hPy hD (x_rc hK hPx) hS hA hl.1 rfl rfl (Nat.le_of_ble_eq_true rfl) ⟨Nat.le_of_ble_eq_true rfl, Nat.le_of_ble_eq_true rfl⟩ dL_law_224 (fun r1 u1 H locs hr1 hPx hPy hD hS => ?_)
  refine lv_aload_n hx hb dL_law_227 rfl (lv_at hl 3 rfl) ?_
  refine lv_aload_n hx hb dL_law_228 rfl (lv_at hl 1 rfl) ?_
  refine lv_iload_n hx hb dL_law_229 rfl (lv_at hl 0 rfl) ?_
  refine lv_iconst (v := nI 1) hx hb dL_law_230 (by decide) ?_
  refine nv_iadd hx hb dL_law_231 ?_
  refine nv_sld hx hb hX hbl hbA hS (by omega) (by omega) dL_law_232 ?_
  refine lv_aload_n hx hb dL_law_233 rfl (lv_at hl 1 rfl) ?_
  refine lv_iload_n hx hb dL_law_234 rfl (lv_at hl 0 rfl) ?_
  refine lv_iconst (v := nI 2) hx hb dL_law_235 (by decide) ?_
  refine nv_iadd hx hb dL_law_236 ?_
  refine nv_sld hx hb hX hbl hbA hS (by omega) (by omega) dL_law_237 ?_
  refine xRW.call (xW gx d n m u1) (m_X2_row hn hm) ⟨hx, hb, hml, hown, hts⟩ (cwV 2 hts (lw_V q258 q259 q260 q28 q261) rfl rfl rfl (by decide +kernel) ⟨Nat.le_of_ble_eq_true rfl, Nat.le_of_ble_eq_true rfl⟩) hK hPy hPx (xD_swap hD) (y_rc hK hPy) hS hA hl.1 rfl rfl (Nat.le_of_ble_eq_true rfl) ⟨Nat.le_of_ble_eq_true rfl, Nat.le_of_ble_eq_true rfl⟩ dL_law_238 (fun r2 v1 H locs hr2 hPy hPx hD hS => ?_)
  have hD := xD_swap hD
  refine lv_icmp_eq (tgt := 561) hx hb dL_law_241 (by decide) (fun c_ => ?_) (fun c_ => ?_)
  · exact J _ _ ⟨rwR n m R (xs (2 + 4 * k + 1)) (xs (2 + 4 * k + 2)), u1, v1, hr1.2, hr2.2, rwR_lt hm hR, hPx, hPy, hD, hS⟩
  · exact absurd (Eq.trans hr1.1 (Eq.symm hr2.1)) c_
set_option maxHeartbeats 4000000 in
set_option maxRecDepth 100000 in
theorem law_4 {p : Program} {e : Env} {S : State} {M : MethodId} {below : List Frame} {meth : Method} {c : Code} {l : Launch} {b L : Nat} {xs : Nat → Int32} {D : va_G} {d z : ClassId} {gx gy : Nat → Nat} {n m : Nat} {Q : State → Prop} (hL : L ≤ 258) (C0 : lw_At p S M meth c b L xs) (hn : n ≤ 8) (hm : m ≤ 7) (hK : va_K D clX (tyX d z) S) {k : Nat} (hk : 2 + 4 * k + 4 ≤ L) {H : Heap} {locs : List Loc} {ls : Array Slot} (hl : lv_has ls 4 [(3, .int (nI (2 + 4 * k))), (0, .ref b), (1, .ref (gx 0)), (2, .ref (gy 0))]) (hI : LI D d z gx gy n m (frX S) S.heap H locs) (J : ∀ (H : Heap) (locs : List Loc), LI D d z gx gy n m (frX S) S.heap H locs → W p l e room_1 S M #[Value.ref b] below meth c H locs 13 1066 Q (F0 M 561 ls [])) : W p l e room_1 S M #[Value.ref b] below meth c H locs 13 1066 Q (F0 M 246 ls []) := by
  obtain ⟨hx, hb, hr, hml, hown, hts0, hX, hbl, hlocks, -⟩ := C0
  have hown : S.vm.findClass RX0 = some M.cls := hown
  have hts : ∀ w ∈ lw_all, w.before #[Value.ref b] S = true := fun w h => hts0 w (lw_all_tbl h)
  have hA : ∀ q : Nat, S.heap.size ≤ q → (frX S) q := fun _ h => h
  have hbA : ¬ frX S b := Nat.not_le.mpr hbl
  obtain ⟨R1, ⟨kc, kp, ku, R, C, cs, ps, pe, lv⟩, ⟨R2, cb, pb, cl, ch⟩, hXI, hv, hR, hPx, hPy, hD, hS⟩ := hI
  obtain ⟨rfl, hC, hku, hfr⟩ := hXI.un
  have hv : R = R2 := hv.symm
  subst hv
  have hPx : va_P D clX (xw gx d n m kc kp ku R C cs ps pe lv) H := hPx
  have hPy : va_P D clX (yw gy d z n m R cb pb cl ch) H := hPy
  have hD : va_D (frX S) (xw gx d n m kc kp ku R C cs ps pe lv ++ yw gy d z n m R cb pb cl ch) := hD
  refine lv_aload_n hx hb dL_law_246 rfl (lv_at hl 2 rfl) ?_
  refine lv_aload_n hx hb dL_law_247 rfl (lv_at hl 1 rfl) ?_
  refine lv_iload_n hx hb dL_law_248 rfl (lv_at hl 0 rfl) ?_
  refine lv_iconst (v := nI 1) hx hb dL_law_249 (by decide) ?_
  refine nv_iadd hx hb dL_law_250 ?_
  refine nv_sld hx hb hX hbl hbA hS (by omega) (by omega) dL_law_251 ?_
  refine xRO.call (m_X1_rowOf hn) ⟨hx, hb, hml, hown, hts⟩ (cwV 1 hts (lw_V q104 q105 q106 q27 q107) rfl rfl rfl (by decide +kernel) ⟨Nat.le_of_ble_eq_true rfl, Nat.le_of_ble_eq_true rfl⟩) hK hPx (x_rc hK hPx) hS hA hl.1 rfl rfl (Nat.le_of_ble_eq_true rfl) ⟨Nat.le_of_ble_eq_true rfl, Nat.le_of_ble_eq_true rfl⟩ dL_law_252 (fun r1 H locs hr1 hT hS => ?_)
  have hPx := hT _ hPx
  have hPy := hT _ hPy
  refine lv_aload_n hx hb dL_law_255 rfl (lv_at hl 3 rfl) ?_
  refine lv_aload_n hx hb dL_law_256 rfl (lv_at hl 1 rfl) ?_
  refine lv_iload_n hx hb dL_law_257 rfl (lv_at hl 0 rfl) ?_
  refine lv_iconst (v := nI 1) hx hb dL_law_258 (by decide) ?_
  refine nv_iadd hx hb dL_law_259 ?_
  refine nv_sld hx hb hX hbl hbA hS (by omega) (by omega) dL_law_260 ?_
  refine xRO.call (m_X2_rowOf hn) ⟨hx, hb, hml, hown, hts⟩ (cwV 1 hts (lw_V q266 q267 q268 q28 q269) rfl rfl rfl (by decide +kernel) ⟨Nat.le_of_ble_eq_true rfl, Nat.le_of_ble_eq_true rfl⟩) hK hPy (y_rc hK hPy) hS hA hl.1 rfl rfl (Nat.le_of_ble_eq_true rfl) ⟨Nat.le_of_ble_eq_true rfl, Nat.le_of_ble_eq_true rfl⟩ dL_law_261 (fun r2 H locs hr2 hT hS => ?_)
  have hPx := hT _ hPx
  have hPy := hT _ hPy
  refine lv_icmp_eq (tgt := 561) hx hb dL_law_264 (by decide) (fun c_ => ?_) (fun c_ => ?_)
  · exact J _ _ ⟨R, (kc, kp, ku, R, C, cs, ps, pe, lv), (R, cb, pb, cl, ch), XI.of hC hku hfr, rfl, hR, hPx, hPy, hD, hS⟩
  · exact absurd (Eq.trans hr1 (Eq.symm hr2)) c_
set_option maxHeartbeats 4000000 in
set_option maxRecDepth 100000 in
theorem law_5 {p : Program} {e : Env} {S : State} {M : MethodId} {below : List Frame} {meth : Method} {c : Code} {l : Launch} {b L : Nat} {xs : Nat → Int32} {D : va_G} {d z : ClassId} {gx gy : Nat → Nat} {n m : Nat} {Q : State → Prop} (hL : L ≤ 258) (C0 : lw_At p S M meth c b L xs) (hn : n ≤ 8) (hm : m ≤ 7) (hK : va_K D clX (tyX d z) S) {k : Nat} (hk : 2 + 4 * k + 4 ≤ L) {H : Heap} {locs : List Loc} {ls : Array Slot} (hl : lv_has ls 4 [(3, .int (nI (2 + 4 * k))), (0, .ref b), (1, .ref (gx 0)), (2, .ref (gy 0))]) (hI : LI D d z gx gy n m (frX S) S.heap H locs) (J : ∀ (H : Heap) (locs : List Loc), LI D d z gx gy n m (frX S) S.heap H locs → W p l e room_1 S M #[Value.ref b] below meth c H locs 13 1066 Q (F0 M 561 ls [])) : W p l e room_1 S M #[Value.ref b] below meth c H locs 13 1066 Q (F0 M 269 ls []) := by
  obtain ⟨hx, hb, hr, hml, hown, hts0, hX, hbl, hlocks, -⟩ := C0
  have hown : S.vm.findClass RX0 = some M.cls := hown
  have hts : ∀ w ∈ lw_all, w.before #[Value.ref b] S = true := fun w h => hts0 w (lw_all_tbl h)
  have hA : ∀ q : Nat, S.heap.size ≤ q → (frX S) q := fun _ h => h
  have hbA : ¬ frX S b := Nat.not_le.mpr hbl
  obtain ⟨R1, ⟨kc, kp, ku, R, C, cs, ps, pe, lv⟩, ⟨R2, cb, pb, cl, ch⟩, hXI, hv, hR, hPx, hPy, hD, hS⟩ := hI
  obtain ⟨rfl, hC, hku, hfr⟩ := hXI.un
  have hv : R = R2 := hv.symm
  subst hv
  have hPx : va_P D clX (xw gx d n m kc kp ku R C cs ps pe lv) H := hPx
  have hPy : va_P D clX (yw gy d z n m R cb pb cl ch) H := hPy
  have hD : va_D (frX S) (xw gx d n m kc kp ku R C cs ps pe lv ++ yw gy d z n m R cb pb cl ch) := hD
  refine lv_aload_n hx hb dL_law_269 rfl (lv_at hl 2 rfl) ?_
  refine lv_aload_n hx hb dL_law_270 rfl (lv_at hl 1 rfl) ?_
  refine lv_iload_n hx hb dL_law_271 rfl (lv_at hl 0 rfl) ?_
  refine lv_iconst (v := nI 1) hx hb dL_law_272 (by decide) ?_
  refine nv_iadd hx hb dL_law_273 ?_
  refine nv_sld hx hb hX hbl hbA hS (by omega) (by omega) dL_law_274 ?_
  refine xRO.call (m_X1_extent hn hm hC) ⟨hx, hb, hml, hown, hts⟩ (cwV 1 hts (lw_V q108 q109 q110 q27 q111) rfl rfl rfl (by decide +kernel) ⟨Nat.le_of_ble_eq_true rfl, Nat.le_of_ble_eq_true rfl⟩) hK hPx (x_rc hK hPx) hS hA hl.1 rfl rfl (Nat.le_of_ble_eq_true rfl) ⟨Nat.le_of_ble_eq_true rfl, Nat.le_of_ble_eq_true rfl⟩ dL_law_275 (fun r1 H locs hr1 hT hS => ?_)
  have hPx := hT _ hPx
  have hPy := hT _ hPy
  refine lv_aload_n hx hb dL_law_278 rfl (lv_at hl 3 rfl) ?_
  refine lv_aload_n hx hb dL_law_279 rfl (lv_at hl 1 rfl) ?_
  refine lv_iload_n hx hb dL_law_280 rfl (lv_at hl 0 rfl) ?_
  refine lv_iconst (v := nI 1) hx hb dL_law_281 (by decide) ?_
  refine nv_iadd hx hb dL_law_282 ?_
  refine nv_sld hx hb hX hbl hbA hS (by omega) (by omega) dL_law_283 ?_
  refine xRO.call (m_X2_extent hn hm hR) ⟨hx, hb, hml, hown, hts⟩ (cwV 1 hts (lw_V q270 q271 q272 q28 q273) rfl rfl rfl (by decide +kernel) ⟨Nat.le_of_ble_eq_true rfl, Nat.le_of_ble_eq_true rfl⟩) hK hPy (y_rc hK hPy) hS hA hl.1 rfl rfl (Nat.le_of_ble_eq_true rfl) ⟨Nat.le_of_ble_eq_true rfl, Nat.le_of_ble_eq_true rfl⟩ dL_law_284 (fun r2 H locs hr2 hT hS => ?_)
  have hPx := hT _ hPx
  have hPy := hT _ hPy
  refine lv_icmp_eq (tgt := 561) hx hb dL_law_287 (by decide) (fun c_ => ?_) (fun c_ => ?_)
  · exact J _ _ ⟨R, (kc, kp, ku, R, C, cs, ps, pe, lv), (R, cb, pb, cl, ch), XI.of hC hku hfr, rfl, hR, hPx, hPy, hD, hS⟩
  · exact absurd (Eq.trans hr1 (Eq.symm hr2)) c_
set_option maxHeartbeats 4000000 in
set_option maxRecDepth 100000 in
theorem law_6 {p : Program} {e : Env} {S : State} {M : MethodId} {below : List Frame} {meth : Method} {c : Code} {l : Launch} {b L : Nat} {xs : Nat → Int32} {D : va_G} {d z : ClassId} {gx gy : Nat → Nat} {n m : Nat} {Q : State → Prop} (hL : L ≤ 258) (C0 : lw_At p S M meth c b L xs) (hn : n ≤ 8) (hm : m ≤ 7) (hK : va_K D clX (tyX d z) S) {k : Nat} (hk : 2 + 4 * k + 4 ≤ L) {H : Heap} {locs : List Loc} {ls : Array Slot} (hl : lv_has ls 4 [(3, .int (nI (2 + 4 * k))), (0, .ref b), (1, .ref (gx 0)), (2, .ref (gy 0))]) (hI : LI D d z gx gy n m (frX S) S.heap H locs) (J : ∀ (H : Heap) (locs : List Loc), LI D d z gx gy n m (frX S) S.heap H locs → W p l e room_1 S M #[Value.ref b] below meth c H locs 13 1066 Q (F0 M 561 ls [])) : W p l e room_1 S M #[Value.ref b] below meth c H locs 13 1066 Q (F0 M 292 ls []) := by
  obtain ⟨hx, hb, hr, hml, hown, hts0, hX, hbl, hlocks, -⟩ := C0
  have hown : S.vm.findClass RX0 = some M.cls := hown
  have hts : ∀ w ∈ lw_all, w.before #[Value.ref b] S = true := fun w h => hts0 w (lw_all_tbl h)
  have hA : ∀ q : Nat, S.heap.size ≤ q → (frX S) q := fun _ h => h
  have hbA : ¬ frX S b := Nat.not_le.mpr hbl
  obtain ⟨R1, ⟨kc, kp, ku, R, C, cs, ps, pe, lv⟩, ⟨R2, cb, pb, cl, ch⟩, hXI, hv, hR, hPx, hPy, hD, hS⟩ := hI
  obtain ⟨rfl, hC, hku, hfr⟩ := hXI.un
  have hv : R = R2 := hv.symm
  subst hv
  have hPx : va_P D clX (xw gx d n m kc kp ku R C cs ps pe lv) H := hPx
  have hPy : va_P D clX (yw gy d z n m R cb pb cl ch) H := hPy
  have hD : va_D (frX S) (xw gx d n m kc kp ku R C cs ps pe lv ++ yw gy d z n m R cb pb cl ch) := hD
  refine lv_aload_n hx hb dL_law_292 rfl (lv_at hl 2 rfl) ?_
  refine lv_aload_n hx hb dL_law_293 rfl (lv_at hl 1 rfl) ?_
  refine lv_iload_n hx hb dL_law_294 rfl (lv_at hl 0 rfl) ?_
  refine lv_iconst (v := nI 1) hx hb dL_law_295 (by decide) ?_
  refine nv_iadd hx hb dL_law_296 ?_
  refine nv_sld hx hb hX hbl hbA hS (by omega) (by omega) dL_law_297 ?_
  refine xRO.call (m_X1_intent hn hm) ⟨hx, hb, hml, hown, hts⟩ (cwV 1 hts (lw_V q116 q117 q118 q27 q119) rfl rfl rfl (by decide +kernel) ⟨Nat.le_of_ble_eq_true rfl, Nat.le_of_ble_eq_true rfl⟩) hK hPx (x_rc hK hPx) hS hA hl.1 rfl rfl (Nat.le_of_ble_eq_true rfl) ⟨Nat.le_of_ble_eq_true rfl, Nat.le_of_ble_eq_true rfl⟩ dL_law_298 (fun r1 H locs hr1 hT hS => ?_)
  have hPx := hT _ hPx
  have hPy := hT _ hPy
  refine lv_aload_n hx hb dL_law_301 rfl (lv_at hl 3 rfl) ?_
  refine lv_aload_n hx hb dL_law_302 rfl (lv_at hl 1 rfl) ?_
  refine lv_iload_n hx hb dL_law_303 rfl (lv_at hl 0 rfl) ?_
  refine lv_iconst (v := nI 1) hx hb dL_law_304 (by decide) ?_
  refine nv_iadd hx hb dL_law_305 ?_
  refine nv_sld hx hb hX hbl hbA hS (by omega) (by omega) dL_law_306 ?_
  refine xRO.call (m_X2_intent hn hm) ⟨hx, hb, hml, hown, hts⟩ (cwV 1 hts (lw_V q282 q283 q284 q28 q285) rfl rfl rfl (by decide +kernel) ⟨Nat.le_of_ble_eq_true rfl, Nat.le_of_ble_eq_true rfl⟩) hK hPy (y_rc hK hPy) hS hA hl.1 rfl rfl (Nat.le_of_ble_eq_true rfl) ⟨Nat.le_of_ble_eq_true rfl, Nat.le_of_ble_eq_true rfl⟩ dL_law_307 (fun r2 H locs hr2 hT hS => ?_)
  have hPx := hT _ hPx
  have hPy := hT _ hPy
  refine lv_icmp_eq (tgt := 561) hx hb dL_law_310 (by decide) (fun c_ => ?_) (fun c_ => ?_)
  · exact J _ _ ⟨R, (kc, kp, ku, R, C, cs, ps, pe, lv), (R, cb, pb, cl, ch), XI.of hC hku hfr, rfl, hR, hPx, hPy, hD, hS⟩
  · exact absurd (Eq.trans hr1 (Eq.symm hr2)) c_
set_option maxHeartbeats 4000000 in
set_option maxRecDepth 100000 in
theorem law_7 {p : Program} {e : Env} {S : State} {M : MethodId} {below : List Frame} {meth : Method} {c : Code} {l : Launch} {b L : Nat} {xs : Nat → Int32} {D : va_G} {d z : ClassId} {gx gy : Nat → Nat} {n m : Nat} {Q : State → Prop} (hL : L ≤ 258) (C0 : lw_At p S M meth c b L xs) (hn : n ≤ 8) (hm : m ≤ 7) (hK : va_K D clX (tyX d z) S) {k : Nat} (hk : 2 + 4 * k + 4 ≤ L) {H : Heap} {locs : List Loc} {ls : Array Slot} (hl : lv_has ls 4 [(3, .int (nI (2 + 4 * k))), (0, .ref b), (1, .ref (gx 0)), (2, .ref (gy 0))]) (hI : LI D d z gx gy n m (frX S) S.heap H locs) (J : ∀ (H : Heap) (locs : List Loc), LI D d z gx gy n m (frX S) S.heap H locs → W p l e room_1 S M #[Value.ref b] below meth c H locs 13 1066 Q (F0 M 561 ls [])) : W p l e room_1 S M #[Value.ref b] below meth c H locs 13 1066 Q (F0 M 315 ls []) := by
  obtain ⟨hx, hb, hr, hml, hown, hts0, hX, hbl, hlocks, -⟩ := C0
  have hown : S.vm.findClass RX0 = some M.cls := hown
  have hts : ∀ w ∈ lw_all, w.before #[Value.ref b] S = true := fun w h => hts0 w (lw_all_tbl h)
  have hA : ∀ q : Nat, S.heap.size ≤ q → (frX S) q := fun _ h => h
  have hbA : ¬ frX S b := Nat.not_le.mpr hbl
  obtain ⟨R1, ⟨kc, kp, ku, R, C, cs, ps, pe, lv⟩, ⟨R2, cb, pb, cl, ch⟩, hXI, hv, hR, hPx, hPy, hD, hS⟩ := hI
  obtain ⟨rfl, hC, hku, hfr⟩ := hXI.un
  have hv : R = R2 := hv.symm
  subst hv
  have hPx : va_P D clX (xw gx d n m kc kp ku R C cs ps pe lv) H := hPx
  have hPy : va_P D clX (yw gy d z n m R cb pb cl ch) H := hPy
  have hD : va_D (frX S) (xw gx d n m kc kp ku R C cs ps pe lv ++ yw gy d z n m R cb pb cl ch) := hD
  refine lv_aload_n hx hb dL_law_315 rfl (lv_at hl 2 rfl) ?_
  refine lv_aload_n hx hb dL_law_316 rfl (lv_at hl 1 rfl) ?_
  refine lv_iload_n hx hb dL_law_317 rfl (lv_at hl 0 rfl) ?_
  refine lv_iconst (v := nI 1) hx hb dL_law_318 (by decide) ?_
  refine nv_iadd hx hb dL_law_319 ?_
  refine nv_sld hx hb hX hbl hbA hS (by omega) (by omega) dL_law_320 ?_
  refine xRO.call (m_X1_closure hn hm hC) ⟨hx, hb, hml, hown, hts⟩ (cwV 1 hts (lw_V q124 q125 q126 q27 q127) rfl rfl rfl (by decide +kernel) ⟨Nat.le_of_ble_eq_true rfl, Nat.le_of_ble_eq_true rfl⟩) hK hPx (x_rc hK hPx) hS hA hl.1 rfl rfl (Nat.le_of_ble_eq_true rfl) ⟨Nat.le_of_ble_eq_true rfl, Nat.le_of_ble_eq_true rfl⟩ dL_law_321 (fun r1 H locs hr1 hT hS => ?_)
  have hPx := hT _ hPx
  have hPy := hT _ hPy
  refine lv_aload_n hx hb dL_law_324 rfl (lv_at hl 3 rfl) ?_
  refine lv_aload_n hx hb dL_law_325 rfl (lv_at hl 1 rfl) ?_
  refine lv_iload_n hx hb dL_law_326 rfl (lv_at hl 0 rfl) ?_
  refine lv_iconst (v := nI 1) hx hb dL_law_327 (by decide) ?_
  refine nv_iadd hx hb dL_law_328 ?_
  refine nv_sld hx hb hX hbl hbA hS (by omega) (by omega) dL_law_329 ?_
  refine xRO.call (m_X2_closure hn hm hR) ⟨hx, hb, hml, hown, hts⟩ (cwV 1 hts (lw_V q290 q291 q292 q28 q293) rfl rfl rfl (by decide +kernel) ⟨Nat.le_of_ble_eq_true rfl, Nat.le_of_ble_eq_true rfl⟩) hK hPy (y_rc hK hPy) hS hA hl.1 rfl rfl (Nat.le_of_ble_eq_true rfl) ⟨Nat.le_of_ble_eq_true rfl, Nat.le_of_ble_eq_true rfl⟩ dL_law_330 (fun r2 H locs hr2 hT hS => ?_)
  have hPx := hT _ hPx
  have hPy := hT _ hPy
  refine lv_icmp_eq (tgt := 561) hx hb dL_law_333 (by decide) (fun c_ => ?_) (fun c_ => ?_)
  · exact J _ _ ⟨R, (kc, kp, ku, R, C, cs, ps, pe, lv), (R, cb, pb, cl, ch), XI.of hC hku hfr, rfl, hR, hPx, hPy, hD, hS⟩
  · exact absurd (Eq.trans hr1 (Eq.symm hr2)) c_
set_option maxHeartbeats 4000000 in
set_option maxRecDepth 100000 in
theorem law_8 {p : Program} {e : Env} {S : State} {M : MethodId} {below : List Frame} {meth : Method} {c : Code} {l : Launch} {b L : Nat} {xs : Nat → Int32} {D : va_G} {d z : ClassId} {gx gy : Nat → Nat} {n m : Nat} {Q : State → Prop} (hL : L ≤ 258) (C0 : lw_At p S M meth c b L xs) (hn : n ≤ 8) (hm : m ≤ 7) (hK : va_K D clX (tyX d z) S) {k : Nat} (hk : 2 + 4 * k + 4 ≤ L) {H : Heap} {locs : List Loc} {ls : Array Slot} (hl : lv_has ls 4 [(3, .int (nI (2 + 4 * k))), (0, .ref b), (1, .ref (gx 0)), (2, .ref (gy 0))]) (hI : LI D d z gx gy n m (frX S) S.heap H locs) (J : ∀ (H : Heap) (locs : List Loc), LI D d z gx gy n m (frX S) S.heap H locs → W p l e room_1 S M #[Value.ref b] below meth c H locs 13 1066 Q (F0 M 561 ls [])) : W p l e room_1 S M #[Value.ref b] below meth c H locs 13 1066 Q (F0 M 338 ls []) := by
  obtain ⟨hx, hb, hr, hml, hown, hts0, hX, hbl, hlocks, -⟩ := C0
  have hown : S.vm.findClass RX0 = some M.cls := hown
  have hts : ∀ w ∈ lw_all, w.before #[Value.ref b] S = true := fun w h => hts0 w (lw_all_tbl h)
  have hA : ∀ q : Nat, S.heap.size ≤ q → (frX S) q := fun _ h => h
  have hbA : ¬ frX S b := Nat.not_le.mpr hbl
  obtain ⟨R1, ⟨kc, kp, ku, R, C, cs, ps, pe, lv⟩, ⟨R2, cb, pb, cl, ch⟩, hXI, hv, hR, hPx, hPy, hD, hS⟩ := hI
  obtain ⟨rfl, hC, hku, hfr⟩ := hXI.un
  have hv : R = R2 := hv.symm
  subst hv
  have hPx : va_P D clX (xw gx d n m kc kp ku R C cs ps pe lv) H := hPx
  have hPy : va_P D clX (yw gy d z n m R cb pb cl ch) H := hPy
  have hD : va_D (frX S) (xw gx d n m kc kp ku R C cs ps pe lv ++ yw gy d z n m R cb pb cl ch) := hD
  refine lv_aload_n hx hb dL_law_338 rfl (lv_at hl 2 rfl) ?_
  refine xRW.call (yw gy d z n m R cb pb cl ch) (m_X1_closedSets hn hm hC hku hfr) ⟨hx, hb, hml, hown, hts⟩ (cwV 0 hts (lw_V q132 q133 q134 q27 q135) rfl rfl rfl (by decide +kernel) ⟨Nat.le_of_ble_eq_true rfl, Nat.le_of_ble_eq_true rfl⟩) hK hPx hPy hD (x_rc hK hPx) hS hA hl.1 rfl rfl (Nat.le_of_ble_eq_true rfl) ⟨Nat.le_of_ble_eq_true rfl, Nat.le_of_ble_eq_true rfl⟩ dL_law_339 (fun r1 u1 H locs hr1 hPx hPy hD hS => ?_)
  refine lv_aload_n hx hb dL_law_342 rfl (lv_at hl 3 rfl) ?_
  refine xRW.call (xW gx d n m u1) (m_X2_closedSets hn hm hR) ⟨hx, hb, hml, hown, hts⟩ (cwV 0 hts (lw_V q298 q299 q300 q28 q301) rfl rfl rfl (by decide +kernel) ⟨Nat.le_of_ble_eq_true rfl, Nat.le_of_ble_eq_true rfl⟩) hK hPy hPx (xD_swap hD) (y_rc hK hPy) hS hA hl.1 rfl rfl (Nat.le_of_ble_eq_true rfl) ⟨Nat.le_of_ble_eq_true rfl, Nat.le_of_ble_eq_true rfl⟩ dL_law_343 (fun r2 v1 H locs hr2 hPy hPx hD hS => ?_)
  have hD := xD_swap hD
  refine lv_icmp_eq (tgt := 561) hx hb dL_law_346 (by decide) (fun c_ => ?_) (fun c_ => ?_)
  · exact J _ _ ⟨R, u1, v1, hr1.2, hr2.2, hR, hPx, hPy, hD, hS⟩
  · exact absurd (Eq.trans hr1.1 (Eq.symm hr2.1)) c_
set_option maxHeartbeats 4000000 in
set_option maxRecDepth 100000 in
theorem law_9 {p : Program} {e : Env} {S : State} {M : MethodId} {below : List Frame} {meth : Method} {c : Code} {l : Launch} {b L : Nat} {xs : Nat → Int32} {D : va_G} {d z : ClassId} {gx gy : Nat → Nat} {n m : Nat} {Q : State → Prop} (hL : L ≤ 258) (C0 : lw_At p S M meth c b L xs) (hn : n ≤ 8) (hm : m ≤ 7) (hK : va_K D clX (tyX d z) S) {k : Nat} (hk : 2 + 4 * k + 4 ≤ L) {H : Heap} {locs : List Loc} {ls : Array Slot} (hl : lv_has ls 4 [(3, .int (nI (2 + 4 * k))), (0, .ref b), (1, .ref (gx 0)), (2, .ref (gy 0))]) (hI : LI D d z gx gy n m (frX S) S.heap H locs) (J : ∀ (H : Heap) (locs : List Loc), LI D d z gx gy n m (frX S) S.heap H locs → W p l e room_1 S M #[Value.ref b] below meth c H locs 13 1066 Q (F0 M 561 ls [])) : W p l e room_1 S M #[Value.ref b] below meth c H locs 13 1066 Q (F0 M 351 ls []) := by
  obtain ⟨hx, hb, hr, hml, hown, hts0, hX, hbl, hlocks, -⟩ := C0
  have hown : S.vm.findClass RX0 = some M.cls := hown
  have hts : ∀ w ∈ lw_all, w.before #[Value.ref b] S = true := fun w h => hts0 w (lw_all_tbl h)
  have hA : ∀ q : Nat, S.heap.size ≤ q → (frX S) q := fun _ h => h
  have hbA : ¬ frX S b := Nat.not_le.mpr hbl
  obtain ⟨R1, ⟨kc, kp, ku, R, C, cs, ps, pe, lv⟩, ⟨R2, cb, pb, cl, ch⟩, hXI, hv, hR, hPx, hPy, hD, hS⟩ := hI
  obtain ⟨rfl, hC, hku, hfr⟩ := hXI.un
  have hv : R = R2 := hv.symm
  subst hv
  have hPx : va_P D clX (xw gx d n m kc kp ku R C cs ps pe lv) H := hPx
  have hPy : va_P D clX (yw gy d z n m R cb pb cl ch) H := hPy
  have hD : va_D (frX S) (xw gx d n m kc kp ku R C cs ps pe lv ++ yw gy d z n m R cb pb cl ch) := hD
  refine lv_aload_n hx hb dL_law_351 rfl (lv_at hl 2 rfl) ?_
  refine lv_aload_n hx hb dL_law_352 rfl (lv_at hl 1 rfl) ?_
  refine lv_iload_n hx hb dL_law_353 rfl (lv_at hl 0 rfl) ?_
  refine lv_iconst (v := nI 1) hx hb dL_law_354 (by decide) ?_
  refine nv_iadd hx hb dL_law_355 ?_
  refine nv_sld hx hb hX hbl hbA hS (by omega) (by omega) dL_law_356 ?_
  refine xRW.call (yw gy d z n m R cb pb cl ch) (m_X1_closedSet hn hm hC hku hfr) ⟨hx, hb, hml, hown, hts⟩ (cwV 1 hts (lw_V q152 q153 q154 q27 q155) rfl rfl rfl (by decide +kernel) ⟨Nat.le_of_ble_eq_true rfl, Nat.le_of_ble_eq_true rfl⟩) hK hPx hPy hD (x_rc hK hPx) hS hA hl.1 rfl rfl (Nat.le_of_ble_eq_true rfl) ⟨Nat.le_of_ble_eq_true rfl, Nat.le_of_ble_eq_true rfl⟩ dL_law_357 (fun r1 u1 H locs hr1 hPx hPy hD hS => ?_)
  refine lv_aload_n hx hb dL_law_360 rfl (lv_at hl 3 rfl) ?_
  refine lv_aload_n hx hb dL_law_361 rfl (lv_at hl 1 rfl) ?_
  refine lv_iload_n hx hb dL_law_362 rfl (lv_at hl 0 rfl) ?_
  refine lv_iconst (v := nI 1) hx hb dL_law_363 (by decide) ?_
  refine nv_iadd hx hb dL_law_364 ?_
  refine nv_sld hx hb hX hbl hbA hS (by omega) (by omega) dL_law_365 ?_
  refine xRW.call (xW gx d n m u1) (m_X2_closedSet hn hm hR) ⟨hx, hb, hml, hown, hts⟩ (cwV 1 hts (lw_V q314 q315 q316 q28 q317) rfl rfl rfl (by decide +kernel) ⟨Nat.le_of_ble_eq_true rfl, Nat.le_of_ble_eq_true rfl⟩) hK hPy hPx (xD_swap hD) (y_rc hK hPy) hS hA hl.1 rfl rfl (Nat.le_of_ble_eq_true rfl) ⟨Nat.le_of_ble_eq_true rfl, Nat.le_of_ble_eq_true rfl⟩ dL_law_366 (fun r2 v1 H locs hr2 hPy hPx hD hS => ?_)
  have hD := xD_swap hD
  refine lv_icmp_eq (tgt := 561) hx hb dL_law_369 (by decide) (fun c_ => ?_) (fun c_ => ?_)
  · exact J _ _ ⟨R, u1, v1, hr1.2, hr2.2, hR, hPx, hPy, hD, hS⟩
  · exact absurd (Eq.trans hr1.1 (Eq.symm hr2.1)) c_
set_option maxHeartbeats 4000000 in
set_option maxRecDepth 100000 in
theorem law_10 {p : Program} {e : Env} {S : State} {M : MethodId} {below : List Frame} {meth : Method} {c : Code} {l : Launch} {b L : Nat} {xs : Nat → Int32} {D : va_G} {d z : ClassId} {gx gy : Nat → Nat} {n m : Nat} {Q : State → Prop} (hL : L ≤ 258) (C0 : lw_At p S M meth c b L xs) (hn : n ≤ 8) (hm : m ≤ 7) (hK : va_K D clX (tyX d z) S) {k : Nat} (hk : 2 + 4 * k + 4 ≤ L) {H : Heap} {locs : List Loc} {ls : Array Slot} (hl : lv_has ls 4 [(3, .int (nI (2 + 4 * k))), (0, .ref b), (1, .ref (gx 0)), (2, .ref (gy 0))]) (hI : LI D d z gx gy n m (frX S) S.heap H locs) (J : ∀ (H : Heap) (locs : List Loc), LI D d z gx gy n m (frX S) S.heap H locs → W p l e room_1 S M #[Value.ref b] below meth c H locs 13 1066 Q (F0 M 561 ls [])) : W p l e room_1 S M #[Value.ref b] below meth c H locs 13 1066 Q (F0 M 374 ls []) := by
  obtain ⟨hx, hb, hr, hml, hown, hts0, hX, hbl, hlocks, -⟩ := C0
  have hown : S.vm.findClass RX0 = some M.cls := hown
  have hts : ∀ w ∈ lw_all, w.before #[Value.ref b] S = true := fun w h => hts0 w (lw_all_tbl h)
  have hA : ∀ q : Nat, S.heap.size ≤ q → (frX S) q := fun _ h => h
  have hbA : ¬ frX S b := Nat.not_le.mpr hbl
  obtain ⟨R1, ⟨kc, kp, ku, R, C, cs, ps, pe, lv⟩, ⟨R2, cb, pb, cl, ch⟩, hXI, hv, hR, hPx, hPy, hD, hS⟩ := hI
  obtain ⟨rfl, hC, hku, hfr⟩ := hXI.un
  have hv : R = R2 := hv.symm
  subst hv
  have hPx : va_P D clX (xw gx d n m kc kp ku R C cs ps pe lv) H := hPx
  have hPy : va_P D clX (yw gy d z n m R cb pb cl ch) H := hPy
  have hD : va_D (frX S) (xw gx d n m kc kp ku R C cs ps pe lv ++ yw gy d z n m R cb pb cl ch) := hD
  refine lv_aload_n hx hb dL_law_374 rfl (lv_at hl 2 rfl) ?_
  refine lv_aload_n hx hb dL_law_375 rfl (lv_at hl 1 rfl) ?_
  refine lv_iload_n hx hb dL_law_376 rfl (lv_at hl 0 rfl) ?_
  refine lv_iconst (v := nI 1) hx hb dL_law_377 (by decide) ?_
  refine nv_iadd hx hb dL_law_378 ?_
  refine nv_sld hx hb hX hbl hbA hS (by omega) (by omega) dL_law_379 ?_
  refine xRO.call (m_X1_nextClosed hn hm hC) ⟨hx, hb, hml, hown, hts⟩ (cwV 1 hts (lw_V q156 q157 q158 q27 q159) rfl rfl rfl (by decide +kernel) ⟨Nat.le_of_ble_eq_true rfl, Nat.le_of_ble_eq_true rfl⟩) hK hPx (x_rc hK hPx) hS hA hl.1 rfl rfl (Nat.le_of_ble_eq_true rfl) ⟨Nat.le_of_ble_eq_true rfl, Nat.le_of_ble_eq_true rfl⟩ dL_law_380 (fun r1 H locs hr1 hT hS => ?_)
  have hPx := hT _ hPx
  have hPy := hT _ hPy
  refine lv_aload_n hx hb dL_law_383 rfl (lv_at hl 3 rfl) ?_
  refine lv_aload_n hx hb dL_law_384 rfl (lv_at hl 1 rfl) ?_
  refine lv_iload_n hx hb dL_law_385 rfl (lv_at hl 0 rfl) ?_
  refine lv_iconst (v := nI 1) hx hb dL_law_386 (by decide) ?_
  refine nv_iadd hx hb dL_law_387 ?_
  refine nv_sld hx hb hX hbl hbA hS (by omega) (by omega) dL_law_388 ?_
  refine xRW.call (xw gx d n m kc kp ku R C cs ps pe lv) (m_X2_nextClosed hn hm hR) ⟨hx, hb, hml, hown, hts⟩ (cwV 1 hts (lw_V q318 q319 q320 q28 q321) rfl rfl rfl (by decide +kernel) ⟨Nat.le_of_ble_eq_true rfl, Nat.le_of_ble_eq_true rfl⟩) hK hPy hPx (xD_swap hD) (y_rc hK hPy) hS hA hl.1 rfl rfl (Nat.le_of_ble_eq_true rfl) ⟨Nat.le_of_ble_eq_true rfl, Nat.le_of_ble_eq_true rfl⟩ dL_law_389 (fun r2 v1 H locs hr2 hPy hPx hD hS => ?_)
  have hD := xD_swap hD
  refine lv_icmp_eq (tgt := 561) hx hb dL_law_392 (by decide) (fun c_ => ?_) (fun c_ => ?_)
  · exact J _ _ ⟨R, (kc, kp, ku, R, C, cs, ps, pe, lv), v1, XI.of hC hku hfr, hr2.2, hR, hPx, hPy, hD, hS⟩
  · exact absurd (Nxt.uniq hr1 hr2.1) c_
set_option maxHeartbeats 4000000 in
set_option maxRecDepth 100000 in
theorem law_11 {p : Program} {e : Env} {S : State} {M : MethodId} {below : List Frame} {meth : Method} {c : Code} {l : Launch} {b L : Nat} {xs : Nat → Int32} {D : va_G} {d z : ClassId} {gx gy : Nat → Nat} {n m : Nat} {Q : State → Prop} (hL : L ≤ 258) (C0 : lw_At p S M meth c b L xs) (hn : n ≤ 8) (hm : m ≤ 7) (hK : va_K D clX (tyX d z) S) {k : Nat} (hk : 2 + 4 * k + 4 ≤ L) {H : Heap} {locs : List Loc} {ls : Array Slot} (hl : lv_has ls 4 [(3, .int (nI (2 + 4 * k))), (0, .ref b), (1, .ref (gx 0)), (2, .ref (gy 0))]) (hI : LI D d z gx gy n m (frX S) S.heap H locs) (J : ∀ (H : Heap) (locs : List Loc), LI D d z gx gy n m (frX S) S.heap H locs → W p l e room_1 S M #[Value.ref b] below meth c H locs 13 1066 Q (F0 M 561 ls [])) : W p l e room_1 S M #[Value.ref b] below meth c H locs 13 1066 Q (F0 M 397 ls []) := by
  obtain ⟨hx, hb, hr, hml, hown, hts0, hX, hbl, hlocks, -⟩ := C0
  have hown : S.vm.findClass RX0 = some M.cls := hown
  have hts : ∀ w ∈ lw_all, w.before #[Value.ref b] S = true := fun w h => hts0 w (lw_all_tbl h)
  have hA : ∀ q : Nat, S.heap.size ≤ q → (frX S) q := fun _ h => h
  have hbA : ¬ frX S b := Nat.not_le.mpr hbl
  obtain ⟨R1, ⟨kc, kp, ku, R, C, cs, ps, pe, lv⟩, ⟨R2, cb, pb, cl, ch⟩, hXI, hv, hR, hPx, hPy, hD, hS⟩ := hI
  obtain ⟨rfl, hC, hku, hfr⟩ := hXI.un
  have hv : R = R2 := hv.symm
  subst hv
  have hPx : va_P D clX (xw gx d n m kc kp ku R C cs ps pe lv) H := hPx
  have hPy : va_P D clX (yw gy d z n m R cb pb cl ch) H := hPy
  have hD : va_D (frX S) (xw gx d n m kc kp ku R C cs ps pe lv ++ yw gy d z n m R cb pb cl ch) := hD
  refine lv_aload_n hx hb dL_law_397 rfl (lv_at hl 2 rfl) ?_
  refine lv_aload_n hx hb dL_law_398 rfl (lv_at hl 1 rfl) ?_
  refine lv_iload_n hx hb dL_law_399 rfl (lv_at hl 0 rfl) ?_
  refine lv_iconst (v := nI 1) hx hb dL_law_400 (by decide) ?_
  refine nv_iadd hx hb dL_law_401 ?_
  refine nv_sld hx hb hX hbl hbA hS (by omega) (by omega) dL_law_402 ?_
  refine lv_aload_n hx hb dL_law_403 rfl (lv_at hl 1 rfl) ?_
  refine lv_iload_n hx hb dL_law_404 rfl (lv_at hl 0 rfl) ?_
  refine lv_iconst (v := nI 2) hx hb dL_law_405 (by decide) ?_
  refine nv_iadd hx hb dL_law_406 ?_
  refine nv_sld hx hb hX hbl hbA hS (by omega) (by omega) dL_law_407 ?_
  refine xRO.call (m_X1_follows hn hm hC) ⟨hx, hb, hml, hown, hts⟩ (cwV 2 hts (lw_V q160 q161 q162 q27 q163) rfl rfl rfl (by decide +kernel) ⟨Nat.le_of_ble_eq_true rfl, Nat.le_of_ble_eq_true rfl⟩) hK hPx (x_rc hK hPx) hS hA hl.1 rfl rfl (Nat.le_of_ble_eq_true rfl) ⟨Nat.le_of_ble_eq_true rfl, Nat.le_of_ble_eq_true rfl⟩ dL_law_408 (fun r1 H locs hr1 hT hS => ?_)
  have hPx := hT _ hPx
  have hPy := hT _ hPy
  refine lv_aload_n hx hb dL_law_411 rfl (lv_at hl 3 rfl) ?_
  refine lv_aload_n hx hb dL_law_412 rfl (lv_at hl 1 rfl) ?_
  refine lv_iload_n hx hb dL_law_413 rfl (lv_at hl 0 rfl) ?_
  refine lv_iconst (v := nI 1) hx hb dL_law_414 (by decide) ?_
  refine nv_iadd hx hb dL_law_415 ?_
  refine nv_sld hx hb hX hbl hbA hS (by omega) (by omega) dL_law_416 ?_
  refine lv_aload_n hx hb dL_law_417 rfl (lv_at hl 1 rfl) ?_
  refine lv_iload_n hx hb dL_law_418 rfl (lv_at hl 0 rfl) ?_
  refine lv_iconst (v := nI 2) hx hb dL_law_419 (by decide) ?_
  refine nv_iadd hx hb dL_law_420 ?_
  refine nv_sld hx hb hX hbl hbA hS (by omega) (by omega) dL_law_421 ?_
  refine xRO.call (m_X2_follows hn hm hR) ⟨hx, hb, hml, hown, hts⟩ (cwV 2 hts (lw_V q322 q323 q324 q28 q325) rfl rfl rfl (by decide +kernel) ⟨Nat.le_of_ble_eq_true rfl, Nat.le_of_ble_eq_true rfl⟩) hK hPy (y_rc hK hPy) hS hA hl.1 rfl rfl (Nat.le_of_ble_eq_true rfl) ⟨Nat.le_of_ble_eq_true rfl, Nat.le_of_ble_eq_true rfl⟩ dL_law_422 (fun r2 H locs hr2 hT hS => ?_)
  have hPx := hT _ hPx
  have hPy := hT _ hPy
  refine lv_icmp_eq (tgt := 561) hx hb dL_law_425 (by decide) (fun c_ => ?_) (fun c_ => ?_)
  · exact J _ _ ⟨R, (kc, kp, ku, R, C, cs, ps, pe, lv), (R, cb, pb, cl, ch), XI.of hC hku hfr, rfl, hR, hPx, hPy, hD, hS⟩
  · exact absurd (Eq.trans hr1 (Eq.symm hr2)) c_
set_option maxHeartbeats 4000000 in
set_option maxRecDepth 100000 in
theorem law_12 {p : Program} {e : Env} {S : State} {M : MethodId} {below : List Frame} {meth : Method} {c : Code} {l : Launch} {b L : Nat} {xs : Nat → Int32} {D : va_G} {d z : ClassId} {gx gy : Nat → Nat} {n m : Nat} {Q : State → Prop} (hL : L ≤ 258) (C0 : lw_At p S M meth c b L xs) (hn : n ≤ 8) (hm : m ≤ 7) (hK : va_K D clX (tyX d z) S) {k : Nat} (hk : 2 + 4 * k + 4 ≤ L) {H : Heap} {locs : List Loc} {ls : Array Slot} (hl : lv_has ls 4 [(3, .int (nI (2 + 4 * k))), (0, .ref b), (1, .ref (gx 0)), (2, .ref (gy 0))]) (hI : LI D d z gx gy n m (frX S) S.heap H locs) (J : ∀ (H : Heap) (locs : List Loc), LI D d z gx gy n m (frX S) S.heap H locs → W p l e room_1 S M #[Value.ref b] below meth c H locs 13 1066 Q (F0 M 561 ls [])) : W p l e room_1 S M #[Value.ref b] below meth c H locs 13 1066 Q (F0 M 430 ls []) := by
  obtain ⟨hx, hb, hr, hml, hown, hts0, hX, hbl, hlocks, -⟩ := C0
  have hown : S.vm.findClass RX0 = some M.cls := hown
  have hts : ∀ w ∈ lw_all, w.before #[Value.ref b] S = true := fun w h => hts0 w (lw_all_tbl h)
  have hA : ∀ q : Nat, S.heap.size ≤ q → (frX S) q := fun _ h => h
  have hbA : ¬ frX S b := Nat.not_le.mpr hbl
  obtain ⟨R1, ⟨kc, kp, ku, R, C, cs, ps, pe, lv⟩, ⟨R2, cb, pb, cl, ch⟩, hXI, hv, hR, hPx, hPy, hD, hS⟩ := hI
  obtain ⟨rfl, hC, hku, hfr⟩ := hXI.un
  have hv : R = R2 := hv.symm
  subst hv
  have hPx : va_P D clX (xw gx d n m kc kp ku R C cs ps pe lv) H := hPx
  have hPy : va_P D clX (yw gy d z n m R cb pb cl ch) H := hPy
  have hD : va_D (frX S) (xw gx d n m kc kp ku R C cs ps pe lv ++ yw gy d z n m R cb pb cl ch) := hD
  refine lv_aload_n hx hb dL_law_430 rfl (lv_at hl 2 rfl) ?_
  refine xRW.call (yw gy d z n m R cb pb cl ch) (m_X1_rules hn hm hC hku hfr) ⟨hx, hb, hml, hown, hts⟩ (cwV 0 hts (lw_V q164 q165 q166 q27 q167) rfl rfl rfl (by decide +kernel) ⟨Nat.le_of_ble_eq_true rfl, Nat.le_of_ble_eq_true rfl⟩) hK hPx hPy hD (x_rc hK hPx) hS hA hl.1 rfl rfl (Nat.le_of_ble_eq_true rfl) ⟨Nat.le_of_ble_eq_true rfl, Nat.le_of_ble_eq_true rfl⟩ dL_law_431 (fun r1 u1 H locs hr1 hPx hPy hD hS => ?_)
  refine lv_aload_n hx hb dL_law_434 rfl (lv_at hl 3 rfl) ?_
  refine xRW.call (xW gx d n m u1) (m_X2_rules hn hm hR) ⟨hx, hb, hml, hown, hts⟩ (cwV 0 hts (lw_V q326 q327 q328 q28 q329) rfl rfl rfl (by decide +kernel) ⟨Nat.le_of_ble_eq_true rfl, Nat.le_of_ble_eq_true rfl⟩) hK hPy hPx (xD_swap hD) (y_rc hK hPy) hS hA hl.1 rfl rfl (Nat.le_of_ble_eq_true rfl) ⟨Nat.le_of_ble_eq_true rfl, Nat.le_of_ble_eq_true rfl⟩ dL_law_435 (fun r2 v1 H locs hr2 hPy hPx hD hS => ?_)
  have hD := xD_swap hD
  refine lv_icmp_eq (tgt := 561) hx hb dL_law_438 (by decide) (fun c_ => ?_) (fun c_ => ?_)
  · exact J _ _ ⟨R, u1, v1, hr1.2, hr2.2, hR, hPx, hPy, hD, hS⟩
  · exact absurd (Eq.trans hr1.1 (Eq.symm hr2.1)) c_
set_option maxHeartbeats 4000000 in
set_option maxRecDepth 100000 in
theorem law_13 {p : Program} {e : Env} {S : State} {M : MethodId} {below : List Frame} {meth : Method} {c : Code} {l : Launch} {b L : Nat} {xs : Nat → Int32} {D : va_G} {d z : ClassId} {gx gy : Nat → Nat} {n m : Nat} {Q : State → Prop} (hL : L ≤ 258) (C0 : lw_At p S M meth c b L xs) (hn : n ≤ 8) (hm : m ≤ 7) (hK : va_K D clX (tyX d z) S) {k : Nat} (hk : 2 + 4 * k + 4 ≤ L) {H : Heap} {locs : List Loc} {ls : Array Slot} (hl : lv_has ls 4 [(3, .int (nI (2 + 4 * k))), (0, .ref b), (1, .ref (gx 0)), (2, .ref (gy 0))]) (hI : LI D d z gx gy n m (frX S) S.heap H locs) (J : ∀ (H : Heap) (locs : List Loc), LI D d z gx gy n m (frX S) S.heap H locs → W p l e room_1 S M #[Value.ref b] below meth c H locs 13 1066 Q (F0 M 561 ls [])) : W p l e room_1 S M #[Value.ref b] below meth c H locs 13 1066 Q (F0 M 443 ls []) := by
  obtain ⟨hx, hb, hr, hml, hown, hts0, hX, hbl, hlocks, -⟩ := C0
  have hown : S.vm.findClass RX0 = some M.cls := hown
  have hts : ∀ w ∈ lw_all, w.before #[Value.ref b] S = true := fun w h => hts0 w (lw_all_tbl h)
  have hA : ∀ q : Nat, S.heap.size ≤ q → (frX S) q := fun _ h => h
  have hbA : ¬ frX S b := Nat.not_le.mpr hbl
  obtain ⟨R1, ⟨kc, kp, ku, R, C, cs, ps, pe, lv⟩, ⟨R2, cb, pb, cl, ch⟩, hXI, hv, hR, hPx, hPy, hD, hS⟩ := hI
  obtain ⟨rfl, hC, hku, hfr⟩ := hXI.un
  have hv : R = R2 := hv.symm
  subst hv
  have hPx : va_P D clX (xw gx d n m kc kp ku R C cs ps pe lv) H := hPx
  have hPy : va_P D clX (yw gy d z n m R cb pb cl ch) H := hPy
  have hD : va_D (frX S) (xw gx d n m kc kp ku R C cs ps pe lv ++ yw gy d z n m R cb pb cl ch) := hD
  refine lv_aload_n hx hb dL_law_443 rfl (lv_at hl 2 rfl) ?_
  refine lv_aload_n hx hb dL_law_444 rfl (lv_at hl 1 rfl) ?_
  refine lv_iload_n hx hb dL_law_445 rfl (lv_at hl 0 rfl) ?_
  refine lv_iconst (v := nI 1) hx hb dL_law_446 (by decide) ?_
  refine nv_iadd hx hb dL_law_447 ?_
  refine nv_sld hx hb hX hbl hbA hS (by omega) (by omega) dL_law_448 ?_
  refine xRW.call (yw gy d z n m R cb pb cl ch) (m_X1_rule hn hm hC hku hfr) ⟨hx, hb, hml, hown, hts⟩ (cwV 1 hts (lw_V q168 q169 q170 q27 q171) rfl rfl rfl (by decide +kernel) ⟨Nat.le_of_ble_eq_true rfl, Nat.le_of_ble_eq_true rfl⟩) hK hPx hPy hD (x_rc hK hPx) hS hA hl.1 rfl rfl (Nat.le_of_ble_eq_true rfl) ⟨Nat.le_of_ble_eq_true rfl, Nat.le_of_ble_eq_true rfl⟩ dL_law_449 (fun r1 u1 H locs hr1 hPx hPy hD hS => ?_)
  refine lv_aload_n hx hb dL_law_452 rfl (lv_at hl 3 rfl) ?_
  refine lv_aload_n hx hb dL_law_453 rfl (lv_at hl 1 rfl) ?_
  refine lv_iload_n hx hb dL_law_454 rfl (lv_at hl 0 rfl) ?_
  refine lv_iconst (v := nI 1) hx hb dL_law_455 (by decide) ?_
  refine nv_iadd hx hb dL_law_456 ?_
  refine nv_sld hx hb hX hbl hbA hS (by omega) (by omega) dL_law_457 ?_
  refine xRW.call (xW gx d n m u1) (m_X2_rule hn hm hR) ⟨hx, hb, hml, hown, hts⟩ (cwV 1 hts (lw_V q330 q331 q332 q28 q333) rfl rfl rfl (by decide +kernel) ⟨Nat.le_of_ble_eq_true rfl, Nat.le_of_ble_eq_true rfl⟩) hK hPy hPx (xD_swap hD) (y_rc hK hPy) hS hA hl.1 rfl rfl (Nat.le_of_ble_eq_true rfl) ⟨Nat.le_of_ble_eq_true rfl, Nat.le_of_ble_eq_true rfl⟩ dL_law_458 (fun r2 v1 H locs hr2 hPy hPx hD hS => ?_)
  have hD := xD_swap hD
  refine lv_icmp_eq (tgt := 561) hx hb dL_law_461 (by decide) (fun c_ => ?_) (fun c_ => ?_)
  · exact J _ _ ⟨R, u1, v1, hr1.2, hr2.2, hR, hPx, hPy, hD, hS⟩
  · exact absurd (Eq.trans hr1.1 (Eq.symm hr2.1)) c_
set_option maxHeartbeats 4000000 in
set_option maxRecDepth 100000 in
theorem law_14 {p : Program} {e : Env} {S : State} {M : MethodId} {below : List Frame} {meth : Method} {c : Code} {l : Launch} {b L : Nat} {xs : Nat → Int32} {D : va_G} {d z : ClassId} {gx gy : Nat → Nat} {n m : Nat} {Q : State → Prop} (hL : L ≤ 258) (C0 : lw_At p S M meth c b L xs) (hn : n ≤ 8) (hm : m ≤ 7) (hK : va_K D clX (tyX d z) S) {k : Nat} (hk : 2 + 4 * k + 4 ≤ L) {H : Heap} {locs : List Loc} {ls : Array Slot} (hl : lv_has ls 4 [(3, .int (nI (2 + 4 * k))), (0, .ref b), (1, .ref (gx 0)), (2, .ref (gy 0))]) (hI : LI D d z gx gy n m (frX S) S.heap H locs) (J : ∀ (H : Heap) (locs : List Loc), LI D d z gx gy n m (frX S) S.heap H locs → W p l e room_1 S M #[Value.ref b] below meth c H locs 13 1066 Q (F0 M 561 ls [])) : W p l e room_1 S M #[Value.ref b] below meth c H locs 13 1066 Q (F0 M 466 ls []) := by
  obtain ⟨hx, hb, hr, hml, hown, hts0, hX, hbl, hlocks, -⟩ := C0
  have hown : S.vm.findClass RX0 = some M.cls := hown
  have hts : ∀ w ∈ lw_all, w.before #[Value.ref b] S = true := fun w h => hts0 w (lw_all_tbl h)
  have hA : ∀ q : Nat, S.heap.size ≤ q → (frX S) q := fun _ h => h
  have hbA : ¬ frX S b := Nat.not_le.mpr hbl
  obtain ⟨R1, ⟨kc, kp, ku, R, C, cs, ps, pe, lv⟩, ⟨R2, cb, pb, cl, ch⟩, hXI, hv, hR, hPx, hPy, hD, hS⟩ := hI
  obtain ⟨rfl, hC, hku, hfr⟩ := hXI.un
  have hv : R = R2 := hv.symm
  subst hv
  have hPx : va_P D clX (xw gx d n m kc kp ku R C cs ps pe lv) H := hPx
  have hPy : va_P D clX (yw gy d z n m R cb pb cl ch) H := hPy
  have hD : va_D (frX S) (xw gx d n m kc kp ku R C cs ps pe lv ++ yw gy d z n m R cb pb cl ch) := hD
  refine lv_aload_n hx hb dL_law_466 rfl (lv_at hl 2 rfl) ?_
  refine lv_aload_n hx hb dL_law_467 rfl (lv_at hl 1 rfl) ?_
  refine lv_iload_n hx hb dL_law_468 rfl (lv_at hl 0 rfl) ?_
  refine lv_iconst (v := nI 1) hx hb dL_law_469 (by decide) ?_
  refine nv_iadd hx hb dL_law_470 ?_
  refine nv_sld hx hb hX hbl hbA hS (by omega) (by omega) dL_law_471 ?_
  refine xRO.call (m_X1_covers hn hm hC) ⟨hx, hb, hml, hown, hts⟩ (cwV 1 hts (lw_V q172 q173 q174 q27 q175) rfl rfl rfl (by decide +kernel) ⟨Nat.le_of_ble_eq_true rfl, Nat.le_of_ble_eq_true rfl⟩) hK hPx (x_rc hK hPx) hS hA hl.1 rfl rfl (Nat.le_of_ble_eq_true rfl) ⟨Nat.le_of_ble_eq_true rfl, Nat.le_of_ble_eq_true rfl⟩ dL_law_472 (fun r1 H locs hr1 hT hS => ?_)
  have hPx := hT _ hPx
  have hPy := hT _ hPy
  refine lv_aload_n hx hb dL_law_475 rfl (lv_at hl 3 rfl) ?_
  refine lv_aload_n hx hb dL_law_476 rfl (lv_at hl 1 rfl) ?_
  refine lv_iload_n hx hb dL_law_477 rfl (lv_at hl 0 rfl) ?_
  refine lv_iconst (v := nI 1) hx hb dL_law_478 (by decide) ?_
  refine nv_iadd hx hb dL_law_479 ?_
  refine nv_sld hx hb hX hbl hbA hS (by omega) (by omega) dL_law_480 ?_
  refine xRW.call (xw gx d n m kc kp ku R C cs ps pe lv) (m_X2_covers hn hm hR) ⟨hx, hb, hml, hown, hts⟩ (cwV 1 hts (lw_V q334 q335 q336 q28 q337) rfl rfl rfl (by decide +kernel) ⟨Nat.le_of_ble_eq_true rfl, Nat.le_of_ble_eq_true rfl⟩) hK hPy hPx (xD_swap hD) (y_rc hK hPy) hS hA hl.1 rfl rfl (Nat.le_of_ble_eq_true rfl) ⟨Nat.le_of_ble_eq_true rfl, Nat.le_of_ble_eq_true rfl⟩ dL_law_481 (fun r2 v1 H locs hr2 hPy hPx hD hS => ?_)
  have hD := xD_swap hD
  refine lv_icmp_eq (tgt := 561) hx hb dL_law_484 (by decide) (fun c_ => ?_) (fun c_ => ?_)
  · exact J _ _ ⟨R, (kc, kp, ku, R, C, cs, ps, pe, lv), v1, XI.of hC hku hfr, hr2.2, hR, hPx, hPy, hD, hS⟩
  · exact absurd (Eq.trans hr1 (Eq.symm hr2.1)) c_
set_option maxHeartbeats 4000000 in
set_option maxRecDepth 100000 in
theorem law_15 {p : Program} {e : Env} {S : State} {M : MethodId} {below : List Frame} {meth : Method} {c : Code} {l : Launch} {b L : Nat} {xs : Nat → Int32} {D : va_G} {d z : ClassId} {gx gy : Nat → Nat} {n m : Nat} {Q : State → Prop} (hL : L ≤ 258) (C0 : lw_At p S M meth c b L xs) (hn : n ≤ 8) (hm : m ≤ 7) (hK : va_K D clX (tyX d z) S) {k : Nat} (hk : 2 + 4 * k + 4 ≤ L) {H : Heap} {locs : List Loc} {ls : Array Slot} (hl : lv_has ls 4 [(3, .int (nI (2 + 4 * k))), (0, .ref b), (1, .ref (gx 0)), (2, .ref (gy 0))]) (hI : LI D d z gx gy n m (frX S) S.heap H locs) (J : ∀ (H : Heap) (locs : List Loc), LI D d z gx gy n m (frX S) S.heap H locs → W p l e room_1 S M #[Value.ref b] below meth c H locs 13 1066 Q (F0 M 561 ls [])) : W p l e room_1 S M #[Value.ref b] below meth c H locs 13 1066 Q (F0 M 489 ls []) := by
  obtain ⟨hx, hb, hr, hml, hown, hts0, hX, hbl, hlocks, -⟩ := C0
  have hown : S.vm.findClass RX0 = some M.cls := hown
  have hts : ∀ w ∈ lw_all, w.before #[Value.ref b] S = true := fun w h => hts0 w (lw_all_tbl h)
  have hA : ∀ q : Nat, S.heap.size ≤ q → (frX S) q := fun _ h => h
  have hbA : ¬ frX S b := Nat.not_le.mpr hbl
  obtain ⟨R1, ⟨kc, kp, ku, R, C, cs, ps, pe, lv⟩, ⟨R2, cb, pb, cl, ch⟩, hXI, hv, hR, hPx, hPy, hD, hS⟩ := hI
  obtain ⟨rfl, hC, hku, hfr⟩ := hXI.un
  have hv : R = R2 := hv.symm
  subst hv
  have hPx : va_P D clX (xw gx d n m kc kp ku R C cs ps pe lv) H := hPx
  have hPy : va_P D clX (yw gy d z n m R cb pb cl ch) H := hPy
  have hD : va_D (frX S) (xw gx d n m kc kp ku R C cs ps pe lv ++ yw gy d z n m R cb pb cl ch) := hD
  refine lv_aload_n hx hb dL_law_489 rfl (lv_at hl 2 rfl) ?_
  refine xRW.call (yw gy d z n m R cb pb cl ch) (m_X1_links hn hm hC hku hfr) ⟨hx, hb, hml, hown, hts⟩ (cwV 0 hts (lw_V q184 q185 q186 q27 q187) rfl rfl rfl (by decide +kernel) ⟨Nat.le_of_ble_eq_true rfl, Nat.le_of_ble_eq_true rfl⟩) hK hPx hPy hD (x_rc hK hPx) hS hA hl.1 rfl rfl (Nat.le_of_ble_eq_true rfl) ⟨Nat.le_of_ble_eq_true rfl, Nat.le_of_ble_eq_true rfl⟩ dL_law_490 (fun r1 u1 H locs hr1 hPx hPy hD hS => ?_)
  refine lv_aload_n hx hb dL_law_493 rfl (lv_at hl 3 rfl) ?_
  refine xRW.call (xW gx d n m u1) (m_X2_links hn hm hR) ⟨hx, hb, hml, hown, hts⟩ (cwV 0 hts (lw_V q346 q347 q348 q28 q349) rfl rfl rfl (by decide +kernel) ⟨Nat.le_of_ble_eq_true rfl, Nat.le_of_ble_eq_true rfl⟩) hK hPy hPx (xD_swap hD) (y_rc hK hPy) hS hA hl.1 rfl rfl (Nat.le_of_ble_eq_true rfl) ⟨Nat.le_of_ble_eq_true rfl, Nat.le_of_ble_eq_true rfl⟩ dL_law_494 (fun r2 v1 H locs hr2 hPy hPx hD hS => ?_)
  have hD := xD_swap hD
  refine lv_icmp_eq (tgt := 561) hx hb dL_law_497 (by decide) (fun c_ => ?_) (fun c_ => ?_)
  · exact J _ _ ⟨R, u1, v1, hr1.2, hr2.2, hR, hPx, hPy, hD, hS⟩
  · exact absurd (Eq.trans hr1.1 (Eq.symm hr2.1)) c_
set_option maxHeartbeats 4000000 in
set_option maxRecDepth 100000 in
theorem law_16 {p : Program} {e : Env} {S : State} {M : MethodId} {below : List Frame} {meth : Method} {c : Code} {l : Launch} {b L : Nat} {xs : Nat → Int32} {D : va_G} {d z : ClassId} {gx gy : Nat → Nat} {n m : Nat} {Q : State → Prop} (hL : L ≤ 258) (C0 : lw_At p S M meth c b L xs) (hn : n ≤ 8) (hm : m ≤ 7) (hK : va_K D clX (tyX d z) S) {k : Nat} (hk : 2 + 4 * k + 4 ≤ L) {H : Heap} {locs : List Loc} {ls : Array Slot} (hl : lv_has ls 4 [(3, .int (nI (2 + 4 * k))), (0, .ref b), (1, .ref (gx 0)), (2, .ref (gy 0))]) (hI : LI D d z gx gy n m (frX S) S.heap H locs) (J : ∀ (H : Heap) (locs : List Loc), LI D d z gx gy n m (frX S) S.heap H locs → W p l e room_1 S M #[Value.ref b] below meth c H locs 13 1066 Q (F0 M 561 ls [])) : W p l e room_1 S M #[Value.ref b] below meth c H locs 13 1066 Q (F0 M 502 ls []) := by
  obtain ⟨hx, hb, hr, hml, hown, hts0, hX, hbl, hlocks, -⟩ := C0
  have hown : S.vm.findClass RX0 = some M.cls := hown
  have hts : ∀ w ∈ lw_all, w.before #[Value.ref b] S = true := fun w h => hts0 w (lw_all_tbl h)
  have hA : ∀ q : Nat, S.heap.size ≤ q → (frX S) q := fun _ h => h
  have hbA : ¬ frX S b := Nat.not_le.mpr hbl
  obtain ⟨R1, ⟨kc, kp, ku, R, C, cs, ps, pe, lv⟩, ⟨R2, cb, pb, cl, ch⟩, hXI, hv, hR, hPx, hPy, hD, hS⟩ := hI
  obtain ⟨rfl, hC, hku, hfr⟩ := hXI.un
  have hv : R = R2 := hv.symm
  subst hv
  have hPx : va_P D clX (xw gx d n m kc kp ku R C cs ps pe lv) H := hPx
  have hPy : va_P D clX (yw gy d z n m R cb pb cl ch) H := hPy
  have hD : va_D (frX S) (xw gx d n m kc kp ku R C cs ps pe lv ++ yw gy d z n m R cb pb cl ch) := hD
  refine lv_aload_n hx hb dL_law_502 rfl (lv_at hl 2 rfl) ?_
  refine xRW.call (yw gy d z n m R cb pb cl ch) (m_X1_height hn hm hC hku hfr) ⟨hx, hb, hml, hown, hts⟩ (cwV 0 hts (lw_V q188 q189 q190 q27 q191) rfl rfl rfl (by decide +kernel) ⟨Nat.le_of_ble_eq_true rfl, Nat.le_of_ble_eq_true rfl⟩) hK hPx hPy hD (x_rc hK hPx) hS hA hl.1 rfl rfl (Nat.le_of_ble_eq_true rfl) ⟨Nat.le_of_ble_eq_true rfl, Nat.le_of_ble_eq_true rfl⟩ dL_law_503 (fun r1 u1 H locs hr1 hPx hPy hD hS => ?_)
  refine lv_aload_n hx hb dL_law_506 rfl (lv_at hl 3 rfl) ?_
  refine xRW.call (xW gx d n m u1) (m_X2_height hn hm hR) ⟨hx, hb, hml, hown, hts⟩ (cwV 0 hts (lw_V q350 q351 q352 q28 q353) rfl rfl rfl (by decide +kernel) ⟨Nat.le_of_ble_eq_true rfl, Nat.le_of_ble_eq_true rfl⟩) hK hPy hPx (xD_swap hD) (y_rc hK hPy) hS hA hl.1 rfl rfl (Nat.le_of_ble_eq_true rfl) ⟨Nat.le_of_ble_eq_true rfl, Nat.le_of_ble_eq_true rfl⟩ dL_law_507 (fun r2 v1 H locs hr2 hPy hPx hD hS => ?_)
  have hD := xD_swap hD
  refine lv_icmp_eq (tgt := 561) hx hb dL_law_510 (by decide) (fun c_ => ?_) (fun c_ => ?_)
  · exact J _ _ ⟨R, u1, v1, hr1.2, hr2.2, hR, hPx, hPy, hD, hS⟩
  · obtain ⟨t1, e1, i1⟩ := hr1.1
    obtain ⟨t2, e2, i2⟩ := hr2.1
    exact absurd (by rw [e1, e2, i1.uniq i2]) c_
set_option maxHeartbeats 4000000 in
set_option maxRecDepth 100000 in
theorem law_17 {p : Program} {e : Env} {S : State} {M : MethodId} {below : List Frame} {meth : Method} {c : Code} {l : Launch} {b L : Nat} {xs : Nat → Int32} {D : va_G} {d z : ClassId} {gx gy : Nat → Nat} {n m : Nat} {Q : State → Prop} (hL : L ≤ 258) (C0 : lw_At p S M meth c b L xs) (hn : n ≤ 8) (hm : m ≤ 7) (hK : va_K D clX (tyX d z) S) {k : Nat} (hk : 2 + 4 * k + 4 ≤ L) {H : Heap} {locs : List Loc} {ls : Array Slot} (hl : lv_has ls 4 [(3, .int (nI (2 + 4 * k))), (0, .ref b), (1, .ref (gx 0)), (2, .ref (gy 0))]) (hI : LI D d z gx gy n m (frX S) S.heap H locs) (J : ∀ (H : Heap) (locs : List Loc), LI D d z gx gy n m (frX S) S.heap H locs → W p l e room_1 S M #[Value.ref b] below meth c H locs 13 1066 Q (F0 M 561 ls [])) : W p l e room_1 S M #[Value.ref b] below meth c H locs 13 1066 Q (F0 M 515 ls []) := by
  obtain ⟨hx, hb, hr, hml, hown, hts0, hX, hbl, hlocks, -⟩ := C0
  have hown : S.vm.findClass RX0 = some M.cls := hown
  have hts : ∀ w ∈ lw_all, w.before #[Value.ref b] S = true := fun w h => hts0 w (lw_all_tbl h)
  have hA : ∀ q : Nat, S.heap.size ≤ q → (frX S) q := fun _ h => h
  have hbA : ¬ frX S b := Nat.not_le.mpr hbl
  obtain ⟨R1, ⟨kc, kp, ku, R, C, cs, ps, pe, lv⟩, ⟨R2, cb, pb, cl, ch⟩, hXI, hv, hR, hPx, hPy, hD, hS⟩ := hI
  obtain ⟨rfl, hC, hku, hfr⟩ := hXI.un
  have hv : R = R2 := hv.symm
  subst hv
  have hPx : va_P D clX (xw gx d n m kc kp ku R C cs ps pe lv) H := hPx
  have hPy : va_P D clX (yw gy d z n m R cb pb cl ch) H := hPy
  have hD : va_D (frX S) (xw gx d n m kc kp ku R C cs ps pe lv ++ yw gy d z n m R cb pb cl ch) := hD
  refine lv_aload_n hx hb dL_law_515 rfl (lv_at hl 2 rfl) ?_
  refine lv_aload_n hx hb dL_law_516 rfl (lv_at hl 1 rfl) ?_
  refine lv_iload_n hx hb dL_law_517 rfl (lv_at hl 0 rfl) ?_
  refine lv_iconst (v := nI 1) hx hb dL_law_518 (by decide) ?_
  refine nv_iadd hx hb dL_law_519 ?_
  refine nv_sld hx hb hX hbl hbA hS (by omega) (by omega) dL_law_520 ?_
  refine xRO.call (m_X1_generatorSize hn hm hC) ⟨hx, hb, hml, hown, hts⟩ (cwV 1 hts (lw_V q192 q193 q194 q27 q195) rfl rfl rfl (by decide +kernel) ⟨Nat.le_of_ble_eq_true rfl, Nat.le_of_ble_eq_true rfl⟩) hK hPx (x_rc hK hPx) hS hA hl.1 rfl rfl (Nat.le_of_ble_eq_true rfl) ⟨Nat.le_of_ble_eq_true rfl, Nat.le_of_ble_eq_true rfl⟩ dL_law_521 (fun r1 H locs hr1 hT hS => ?_)
  have hPx := hT _ hPx
  have hPy := hT _ hPy
  refine lv_aload_n hx hb dL_law_524 rfl (lv_at hl 3 rfl) ?_
  refine lv_aload_n hx hb dL_law_525 rfl (lv_at hl 1 rfl) ?_
  refine lv_iload_n hx hb dL_law_526 rfl (lv_at hl 0 rfl) ?_
  refine lv_iconst (v := nI 1) hx hb dL_law_527 (by decide) ?_
  refine nv_iadd hx hb dL_law_528 ?_
  refine nv_sld hx hb hX hbl hbA hS (by omega) (by omega) dL_law_529 ?_
  refine xRW.call (xw gx d n m kc kp ku R C cs ps pe lv) (m_X2_generatorSize hn hm hR) ⟨hx, hb, hml, hown, hts⟩ (cwV 1 hts (lw_V q354 q355 q356 q28 q357) rfl rfl rfl (by decide +kernel) ⟨Nat.le_of_ble_eq_true rfl, Nat.le_of_ble_eq_true rfl⟩) hK hPy hPx (xD_swap hD) (y_rc hK hPy) hS hA hl.1 rfl rfl (Nat.le_of_ble_eq_true rfl) ⟨Nat.le_of_ble_eq_true rfl, Nat.le_of_ble_eq_true rfl⟩ dL_law_530 (fun r2 v1 H locs hr2 hPy hPx hD hS => ?_)
  have hD := xD_swap hD
  refine lv_icmp_eq (tgt := 561) hx hb dL_law_533 (by decide) (fun c_ => ?_) (fun c_ => ?_)
  · exact J _ _ ⟨R, (kc, kp, ku, R, C, cs, ps, pe, lv), v1, XI.of hC hku hfr, hr2.2, hR, hPx, hPy, hD, hS⟩
  · exact absurd (GenP.uniq hm hr1 hr2.1) c_
set_option maxHeartbeats 4000000 in
set_option maxRecDepth 100000 in
theorem law_18 {p : Program} {e : Env} {S : State} {M : MethodId} {below : List Frame} {meth : Method} {c : Code} {l : Launch} {b L : Nat} {xs : Nat → Int32} {D : va_G} {d z : ClassId} {gx gy : Nat → Nat} {n m : Nat} {Q : State → Prop} (hL : L ≤ 258) (C0 : lw_At p S M meth c b L xs) (hn : n ≤ 8) (hm : m ≤ 7) (hK : va_K D clX (tyX d z) S) {k : Nat} (hk : 2 + 4 * k + 4 ≤ L) {H : Heap} {locs : List Loc} {ls : Array Slot} (hl : lv_has ls 4 [(3, .int (nI (2 + 4 * k))), (0, .ref b), (1, .ref (gx 0)), (2, .ref (gy 0))]) (hI : LI D d z gx gy n m (frX S) S.heap H locs) (J : ∀ (H : Heap) (locs : List Loc), LI D d z gx gy n m (frX S) S.heap H locs → W p l e room_1 S M #[Value.ref b] below meth c H locs 13 1066 Q (F0 M 561 ls [])) : W p l e room_1 S M #[Value.ref b] below meth c H locs 13 1066 Q (F0 M 538 ls []) := by
  obtain ⟨hx, hb, hr, hml, hown, hts0, hX, hbl, hlocks, -⟩ := C0
  have hown : S.vm.findClass RX0 = some M.cls := hown
  have hts : ∀ w ∈ lw_all, w.before #[Value.ref b] S = true := fun w h => hts0 w (lw_all_tbl h)
  have hA : ∀ q : Nat, S.heap.size ≤ q → (frX S) q := fun _ h => h
  have hbA : ¬ frX S b := Nat.not_le.mpr hbl
  obtain ⟨R1, ⟨kc, kp, ku, R, C, cs, ps, pe, lv⟩, ⟨R2, cb, pb, cl, ch⟩, hXI, hv, hR, hPx, hPy, hD, hS⟩ := hI
  obtain ⟨rfl, hC, hku, hfr⟩ := hXI.un
  have hv : R = R2 := hv.symm
  subst hv
  have hPx : va_P D clX (xw gx d n m kc kp ku R C cs ps pe lv) H := hPx
  have hPy : va_P D clX (yw gy d z n m R cb pb cl ch) H := hPy
  have hD : va_D (frX S) (xw gx d n m kc kp ku R C cs ps pe lv ++ yw gy d z n m R cb pb cl ch) := hD
  refine lv_aload_n hx hb dL_law_538 rfl (lv_at hl 2 rfl) ?_
  refine lv_aload_n hx hb dL_law_539 rfl (lv_at hl 1 rfl) ?_
  refine lv_iload_n hx hb dL_law_540 rfl (lv_at hl 0 rfl) ?_
  refine lv_iconst (v := nI 1) hx hb dL_law_541 (by decide) ?_
  refine nv_iadd hx hb dL_law_542 ?_
  refine nv_sld hx hb hX hbl hbA hS (by omega) (by omega) dL_law_543 ?_
  refine xRW.call (yw gy d z n m R cb pb cl ch) (m_X1_dispensable hn hm hC hku hfr) ⟨hx, hb, hml, hown, hts⟩ (cwV 1 hts (lw_V q199 q200 q201 q27 q202) rfl rfl rfl (by decide +kernel) ⟨Nat.le_of_ble_eq_true rfl, Nat.le_of_ble_eq_true rfl⟩) hK hPx hPy hD (x_rc hK hPx) hS hA hl.1 rfl rfl (Nat.le_of_ble_eq_true rfl) ⟨Nat.le_of_ble_eq_true rfl, Nat.le_of_ble_eq_true rfl⟩ dL_law_544 (fun r1 u1 H locs hr1 hPx hPy hD hS => ?_)
  refine lv_aload_n hx hb dL_law_547 rfl (lv_at hl 3 rfl) ?_
  refine lv_aload_n hx hb dL_law_548 rfl (lv_at hl 1 rfl) ?_
  refine lv_iload_n hx hb dL_law_549 rfl (lv_at hl 0 rfl) ?_
  refine lv_iconst (v := nI 1) hx hb dL_law_550 (by decide) ?_
  refine nv_iadd hx hb dL_law_551 ?_
  refine nv_sld hx hb hX hbl hbA hS (by omega) (by omega) dL_law_552 ?_
  refine xRW.call (xW gx d n m u1) (m_X2_dispensable hn hm hR) ⟨hx, hb, hml, hown, hts⟩ (cwV 1 hts (lw_V q362 q363 q364 q28 q365) rfl rfl rfl (by decide +kernel) ⟨Nat.le_of_ble_eq_true rfl, Nat.le_of_ble_eq_true rfl⟩) hK hPy hPx (xD_swap hD) (y_rc hK hPy) hS hA hl.1 rfl rfl (Nat.le_of_ble_eq_true rfl) ⟨Nat.le_of_ble_eq_true rfl, Nat.le_of_ble_eq_true rfl⟩ dL_law_553 (fun r2 v1 H locs hr2 hPy hPx hD hS => ?_)
  have hD := xD_swap hD
  refine lv_icmp_eq (tgt := 561) hx hb dL_law_556 (by decide) (fun c_ => ?_) (fun c_ => ?_)
  · exact J _ _ ⟨R, u1, v1, hr1.2, hr2.2, hR, hPx, hPy, hD, hS⟩
  · exact absurd (DspP.uniq hm hr1.1 hr2.1) c_
set_option maxHeartbeats 4000000 in
set_option maxRecDepth 100000 in
theorem law_loop {p : Program} {e : Env} {S : State} {M : MethodId} {below : List Frame} {meth : Method} {c : Code} {l : Launch} {b L : Nat} {xs : Nat → Int32} {D : va_G} {d z : ClassId} {gx gy : Nat → Nat} {n m : Nat} (hL : L ≤ 258) (C0 : lw_At p S M meth c b L xs) (hn : n ≤ 8) (hm : m ≤ 7) (hK : va_K D clX (tyX d z) S) {H : Heap} {locs : List Loc} {ls : Array Slot} (hl : lv_has ls 4 [(3, .int (nI 2)), (0, .ref b), (1, .ref (gx 0)), (2, .ref (gy 0))]) (hI : LI D d z gx gy n m (frX S) S.heap H locs) : W p l e room_1 S M #[Value.ref b] below meth c H locs 13 1066 (lw_Z below #[Value.ref b] S) (F0 M 38 ls []) := by
  have C1 := C0
  obtain ⟨hx, hb, hr, hml, hown, hts0, hX, hbl, hlocks, -⟩ := C0
  have hbA : ¬ frX S b := Nat.not_le.mpr hbl
  refine nv_loop (fun (k : Nat) (H : Heap) (locs : List Loc) (ls : Array Slot) => LI D d z gx gy n m (frX S) S.heap H locs ∧ lv_has ls 4 [(3, .int (nI (2 + 4 * k))), (0, .ref b), (1, .ref (gx 0)), (2, .ref (gy 0))]) ((L - 2) / 4) (fun k H locs ls hi_k hI ih => ?_) (fun H locs ls hI => ?_) 0 (Nat.zero_le _) ⟨hI, hl⟩
  · obtain ⟨hI, hl⟩ := hI
    have hS : va_S (frX S) S.heap H locs := by obtain ⟨_, _, _, _, _, _, _, _, _, hS⟩ := hI; exact hS
    refine lv_iload_n hx hb dL_law_38 rfl (lv_at hl 0 rfl) ?_
    refine lv_aload_n hx hb dL_law_39 rfl (lv_at hl 1 rfl) ?_
    refine nv_slen hx hb hX hbl hbA hS dL_law_40 ?_
    refine lv_iconst (v := nI 4) hx hb dL_law_41 (by decide) ?_
    refine lv_isub hx hb dL_law_42 ?_
    refine lv_icmp_gt (tgt := 567) hx hb dL_law_43 (by decide) (fun c_43 => ?_) (fun c_43 => ?_)
    · exact absurd ((law_c hL (by omega)).mp c_43) (by omega)
    · have hk : 2 + 4 * k + 4 ≤ L := by omega
      refine lv_aload_n hx hb dL_law_46 rfl (lv_at hl 1 rfl) ?_
      refine lv_iload_n hx hb dL_law_47 rfl (lv_at hl 0 rfl) ?_
      refine nv_sld hx hb hX hbl hbA hS (by omega) (by omega) dL_law_48 ?_
      refine lv_bipush (v := nI 31) hx hb dL_law_49 (by decide) ?_
      refine lv_iand hx hb dL_law_51 ?_
      refine lv_topi (fun v ev => ?_)
      obtain ⟨j, hj, ej⟩ := pk_andE (xs (2 + 4 * k)) (m := nI 31) 5 (by decide)
      rw [ej] at ev
      subst ev
      refine nv_join 561 [] (fun H locs => LI D d z gx gy n m (frX S) S.heap H locs) (fun H locs hJ => ?_) (fun J => ?_)
      · refine lv_iinc (v := nI (2 + 4 * (k + 1))) (lv' := [(3, .int (nI (2 + 4 * (k + 1)))), (0, .ref b), (1, .ref (gx 0)), (2, .ref (gy 0))]) hx hb dL_law_561 hl (k := 0) rfl ((nI_add _ 4).trans (congrArg nI (by omega))) (by decide) rfl (fun ls hl => ?_)
        refine lv_goto (tgt := 38) hx hb dL_law_564 (by decide) ?_
        exact ih _ _ _ ⟨hJ, hl⟩
      · rcases (show j = 0 ∨ j = 1 ∨ j = 2 ∨ j = 3 ∨ j = 4 ∨ j = 5 ∨ j = 6 ∨ j = 7 ∨ j = 8 ∨ j = 9 ∨ j = 10 ∨ j = 11 ∨ j = 12 ∨ j = 13 ∨ j = 14 ∨ j = 15 ∨ j = 16 ∨ j = 17 ∨ j = 18 ∨ 19 ≤ j by omega) with rfl | rfl | rfl | rfl | rfl | rfl | rfl | rfl | rfl | rfl | rfl | rfl | rfl | rfl | rfl | rfl | rfl | rfl | rfl | h19
        · refine lv_tableIn (tgt := 144) hx hb dL_law_52 (by decide) (by decide) rfl (by decide) ?_
          exact law_0 hL C1 hn hm hK hk hl hI J
        · refine lv_tableIn (tgt := 157) hx hb dL_law_52 (by decide) (by decide) rfl (by decide) ?_
          exact law_1 hL C1 hn hm hK hk hl hI J
        · refine lv_tableIn (tgt := 170) hx hb dL_law_52 (by decide) (by decide) rfl (by decide) ?_
          exact law_2 hL C1 hn hm hK hk hl hI J
        · refine lv_tableIn (tgt := 213) hx hb dL_law_52 (by decide) (by decide) rfl (by decide) ?_
          exact law_3 hL C1 hn hm hK hk hl hI J
        · refine lv_tableIn (tgt := 246) hx hb dL_law_52 (by decide) (by decide) rfl (by decide) ?_
          exact law_4 hL C1 hn hm hK hk hl hI J
        · refine lv_tableIn (tgt := 269) hx hb dL_law_52 (by decide) (by decide) rfl (by decide) ?_
          exact law_5 hL C1 hn hm hK hk hl hI J
        · refine lv_tableIn (tgt := 292) hx hb dL_law_52 (by decide) (by decide) rfl (by decide) ?_
          exact law_6 hL C1 hn hm hK hk hl hI J
        · refine lv_tableIn (tgt := 315) hx hb dL_law_52 (by decide) (by decide) rfl (by decide) ?_
          exact law_7 hL C1 hn hm hK hk hl hI J
        · refine lv_tableIn (tgt := 338) hx hb dL_law_52 (by decide) (by decide) rfl (by decide) ?_
          exact law_8 hL C1 hn hm hK hk hl hI J
        · refine lv_tableIn (tgt := 351) hx hb dL_law_52 (by decide) (by decide) rfl (by decide) ?_
          exact law_9 hL C1 hn hm hK hk hl hI J
        · refine lv_tableIn (tgt := 374) hx hb dL_law_52 (by decide) (by decide) rfl (by decide) ?_
          exact law_10 hL C1 hn hm hK hk hl hI J
        · refine lv_tableIn (tgt := 397) hx hb dL_law_52 (by decide) (by decide) rfl (by decide) ?_
          exact law_11 hL C1 hn hm hK hk hl hI J
        · refine lv_tableIn (tgt := 430) hx hb dL_law_52 (by decide) (by decide) rfl (by decide) ?_
          exact law_12 hL C1 hn hm hK hk hl hI J
        · refine lv_tableIn (tgt := 443) hx hb dL_law_52 (by decide) (by decide) rfl (by decide) ?_
          exact law_13 hL C1 hn hm hK hk hl hI J
        · refine lv_tableIn (tgt := 466) hx hb dL_law_52 (by decide) (by decide) rfl (by decide) ?_
          exact law_14 hL C1 hn hm hK hk hl hI J
        · refine lv_tableIn (tgt := 489) hx hb dL_law_52 (by decide) (by decide) rfl (by decide) ?_
          exact law_15 hL C1 hn hm hK hk hl hI J
        · refine lv_tableIn (tgt := 502) hx hb dL_law_52 (by decide) (by decide) rfl (by decide) ?_
          exact law_16 hL C1 hn hm hK hk hl hI J
        · refine lv_tableIn (tgt := 515) hx hb dL_law_52 (by decide) (by decide) rfl (by decide) ?_
          exact law_17 hL C1 hn hm hK hk hl hI J
        · refine lv_tableIn (tgt := 538) hx hb dL_law_52 (by decide) (by decide) rfl (by decide) ?_
          exact law_18 hL C1 hn hm hK hk hl hI J
        · refine lv_tableOut (tgt := 561) hx hb dL_law_52 (Or.inr (by rw [nI_toInt (by omega)]; omega)) (by decide) ?_
          exact J _ _ hI
  · obtain ⟨hI, hl⟩ := hI
    have hS : va_S (frX S) S.heap H locs := by obtain ⟨_, _, _, _, _, _, _, _, _, hS⟩ := hI; exact hS
    refine lv_iload_n hx hb dL_law_38 rfl (lv_at hl 0 rfl) ?_
    refine lv_aload_n hx hb dL_law_39 rfl (lv_at hl 1 rfl) ?_
    refine nv_slen hx hb hX hbl hbA hS dL_law_40 ?_
    refine lv_iconst (v := nI 4) hx hb dL_law_41 (by decide) ?_
    refine lv_isub hx hb dL_law_42 ?_
    refine lv_icmp_gt (tgt := 567) hx hb dL_law_43 (by decide) (fun c_43 => ?_) (fun c_43 => ?_)
    · refine lv_iconst (v := 1) hx hb dL_law_567 (by decide) ?_
      refine va_forget (fun q hq => hS.2.2 q hq) ?_
      refine W.widen (k := 600000) (n := 7290000) (by decide) (by decide) ?_
      exact lw_ret hx hb hr hlocks dL_law_568
    · exact absurd ((law_c hL (by omega)).mpr (by omega)) c_43
end
section
set_option maxHeartbeats 4000000 in
set_option maxRecDepth 100000 in
/-- YOUR PART: from the entry, for every script of at most 258 ints, the law comes to its end with true -/
theorem whole_start {p : Program} {e : Env} {s : State} {m : MethodId} {below : List Frame} {meth : Method} {c : Code} (l : Launch) {b L : Nat} {xs : Nat → Int32} (hL : L ≤ 258) (C0 : lw_At p s m meth c b L xs) : W p l e room_1 s m #[Value.ref b] below meth c s.heap [] 0 0 (lw_Z below #[Value.ref b] s) (entryFrame m ([Value.ref b] : List Value).toArray 4) := by
  have C1 := C0
  obtain ⟨hx, hb, hr, hml, hown, hts0, hX, hbl, hlocks, -⟩ := C0
  have hown : s.vm.findClass RX0 = some m.cls := hown
  have hts : ∀ w ∈ lw_all, w.before #[Value.ref b] s = true := fun w h => hts0 w (lw_all_tbl h)
  have hA : ∀ q : Nat, s.heap.size ≤ q → (frX s) q := fun _ h => h
  have hbA : ¬ frX s b := Nat.not_le.mpr hbl
  obtain ⟨c0, iS0, hKn0⟩ := u_known (C := RX1) (T := TX1) (N := 11) (n := 11) hts in_X1 (hts _ q30)
  obtain ⟨c1, iS1, hKn1⟩ := u_known (C := RX2) (T := TX2) (N := 8) (n := 8) hts in_X2 (hts _ q207)
  obtain ⟨dC, dI, hKc⟩ : ∃ (dC : Nat → ClassId) (dI : Nat → Nat → Nat), ∀ (k : Nat) (q : vw_C), clX[k]? = some q → u_Kn s q.1 q.2.1 q.2.2 (dC k) (dI k) := by
    refine ⟨fun k => if k = 0 then c0 else c1, fun k => if k = 0 then iS0 else iS1, ?_⟩
    intro k q hq
    match k, hq with
    | 0, hq => cases hq; exact hKn0
    | 1, hq => cases hq; exact hKn1
    | k + 2, hq => simp [clX] at hq
  have hS : va_S (frX s) s.heap s.heap [] := va_S.rf
  have hK : va_K (dC, dI) clX [] s := ⟨hKc, fun k q h => by simp at h⟩
  have hP : va_P (dC, dI) clX [] s.heap := fun k q h => by simp at h
  have hD : va_D (frX s) [] := ⟨fun i j p q h => by simp at h, fun k q h => by simp at h⟩
  have hl := lv_entry ([.ref b]) (n := 4) (Nat.le_of_ble_eq_true rfl)
  rw [lg_entry_eq]
  generalize (lg_sl ([.ref b]) ++ List.replicate (4 - (lg_sl ([.ref b])).length) Slot.unset).toArray = ls at hl ⊢
  have hl : lv_has ls 4 [(0, .ref b)] := hl
  refine va_new (ci := 0) (fs := [.null, .null, .null, .null, .null, .null, .int (nI 0), .int (nI 0), .int (nI 0), .int (nI 0), .int (nI 0)]) (C := RX1) (T := TX1) (N := 11) hx hb hts in_X1 tyX1 tyX1_ok hown (hts _ q29) (hts _ q30) (hts _ q27) hK hP hD hS hA rfl (fun j hj => by rcases (show j = 0 ∨ j = 1 ∨ j = 2 ∨ j = 3 ∨ j = 4 ∨ j = 5 ∨ j = 6 ∨ j = 7 ∨ j = 8 ∨ j = 9 ∨ j = 10 by omega) with rfl | rfl | rfl | rfl | rfl | rfl | rfl | rfl | rfl | rfl | rfl <;> rfl) (Nat.le_of_ble_eq_true rfl) (Nat.le_of_ble_eq_true rfl) dL_law_0 (fun a0 H hP hD hS => ?_)
  have hP : va_P (dC, dI) clX (x0w a0) H := hP
  have hD : va_D (frX s) (x0w a0 ++ []) := hD
  refine W.widen (k := 1) (n := 11) (by decide) (by decide) ?_
  refine lv_dup hx hb dL_law_3 rfl ?_
  refine lv_aload_n hx hb dL_law_4 rfl (lv_at hl 0 rfl) ?_
  refine lv_iconst (v := nI 0) hx hb dL_law_5 (by decide) ?_
  refine cell_call hL (k := 0) (by decide) ⟨hx, hb, hml, hown, hts⟩ (va_cwS 2 hts (lw_S q203 q204 q26 q205) rfl rfl rfl (by decide +kernel) ⟨Nat.le_of_ble_eq_true rfl, Nat.le_of_ble_eq_true rfl⟩) hX hbl hbA hS hA hl.1 (Nat.le_of_ble_eq_true rfl) ⟨Nat.le_of_ble_eq_true rfl, Nat.le_of_ble_eq_true rfl⟩ dL_law_6 (fun H locs hT hS => ?_)
  have hP := hT _ _ hP
  refine lv_aload_n hx hb dL_law_9 rfl (lv_at hl 0 rfl) ?_
  refine lv_iconst (v := nI 1) hx hb dL_law_10 (by decide) ?_
  refine cell_call hL (k := 1) (by decide) ⟨hx, hb, hml, hown, hts⟩ (va_cwS 2 hts (lw_S q203 q204 q26 q205) rfl rfl rfl (by decide +kernel) ⟨Nat.le_of_ble_eq_true rfl, Nat.le_of_ble_eq_true rfl⟩) hX hbl hbA hS hA hl.1 (Nat.le_of_ble_eq_true rfl) ⟨Nat.le_of_ble_eq_true rfl, Nat.le_of_ble_eq_true rfl⟩ dL_law_11 (fun H locs hT hS => ?_)
  have hP := hT _ _ hP
  refine init_call [] (m_X1_init l (dC, dI) a0 H.size (cel xs L 0) (cel xs L 1)) ⟨hx, hb, hml, hown, hts⟩ (cwI 2 hts (lw_meth q33) rfl rfl rfl (hts _ q27) (hts _ q31) (hts _ q32) rfl (by decide +kernel) ⟨Nat.le_of_ble_eq_true rfl, Nat.le_of_ble_eq_true rfl⟩) hK hP (fun k q h => by simp at h) hD hS hA hl.1 (Nat.le_of_ble_eq_true rfl) ⟨Nat.le_of_ble_eq_true rfl, Nat.le_of_ble_eq_true rfl⟩ dL_law_14 (fun t H1 locs ht hvm hmade hfr hS => ?_)
  obtain ⟨gx, dx, hg0, hPx, hKx, hDx⟩ := hmade
  rw [ht] at hPx
  have hKx := va_K.moved hvm.symm hKx
  have hDx2 := (hfr _ hDx).2
  subst hg0
  generalize H1 = H at hPx hS ⊢
  refine W.widen (k := 7) (n := 538) (by decide) (by decide) ?_
  refine lv_astore_n (lv' := [(1, .ref (gx 0)), (0, .ref b)]) hx hb dL_law_17 rfl hl (by decide) rfl (fun ls hl => ?_)
  have hPx : va_P (dC, dI) clX (xw gx dx (cN (cel xs L 0)) (cM (cel xs L 1)) 0 0 0 z0 z0 z0 z0 z0 z0) H := hPx
  have hDx : va_D (frX s) (xw gx dx (cN (cel xs L 0)) (cM (cel xs L 1)) 0 0 0 z0 z0 z0 z0 z0 z0) := hDx2
  refine va_new (ci := 1) (fs := [.int (nI 0), .int (nI 0), .int (nI 0), .null, .null, .null, .null, .null]) (C := RX2) (T := TX2) (N := 8) hx hb hts in_X2 tyX2 tyX2_ok hown (hts _ q206) (hts _ q207) (hts _ q28) hKx hPx hDx hS hA rfl (fun j hj => by rcases (show j = 0 ∨ j = 1 ∨ j = 2 ∨ j = 3 ∨ j = 4 ∨ j = 5 ∨ j = 6 ∨ j = 7 by omega) with rfl | rfl | rfl | rfl | rfl | rfl | rfl | rfl <;> rfl) (Nat.le_of_ble_eq_true rfl) (Nat.le_of_ble_eq_true rfl) dL_law_18 (fun a1 H hP hD hS => ?_)
  have hPx : va_P (dC, dI) clX (xw gx dx (cN (cel xs L 0)) (cM (cel xs L 1)) 0 0 0 z0 z0 z0 z0 z0 z0) H := hP.sub [0, 1, 2, 3, 4, 5, 6] rfl
  have hPy : va_P (dC, dI) clX (y0w a1) H := hP.sub [7] rfl
  have hD : va_D (frX s) (y0w a1 ++ xw gx dx (cN (cel xs L 0)) (cM (cel xs L 1)) 0 0 0 z0 z0 z0 z0 z0 z0) := xD_swap hD
  refine W.widen (k := 8) (n := 546) (by decide) (by decide) ?_
  refine lv_dup hx hb dL_law_21 rfl ?_
  refine lv_aload_n hx hb dL_law_22 rfl (lv_at hl 1 rfl) ?_
  refine lv_iconst (v := nI 0) hx hb dL_law_23 (by decide) ?_
  refine cell_call hL (k := 0) (by decide) ⟨hx, hb, hml, hown, hts⟩ (va_cwS 2 hts (lw_S q203 q204 q26 q205) rfl rfl rfl (by decide +kernel) ⟨Nat.le_of_ble_eq_true rfl, Nat.le_of_ble_eq_true rfl⟩) hX hbl hbA hS hA hl.1 (Nat.le_of_ble_eq_true rfl) ⟨Nat.le_of_ble_eq_true rfl, Nat.le_of_ble_eq_true rfl⟩ dL_law_24 (fun H locs hT hS => ?_)
  have hPx := hT _ _ hPx
  have hPy := hT _ _ hPy
  refine lv_aload_n hx hb dL_law_27 rfl (lv_at hl 1 rfl) ?_
  refine lv_iconst (v := nI 1) hx hb dL_law_28 (by decide) ?_
  refine cell_call hL (k := 1) (by decide) ⟨hx, hb, hml, hown, hts⟩ (va_cwS 2 hts (lw_S q203 q204 q26 q205) rfl rfl rfl (by decide +kernel) ⟨Nat.le_of_ble_eq_true rfl, Nat.le_of_ble_eq_true rfl⟩) hX hbl hbA hS hA hl.1 (Nat.le_of_ble_eq_true rfl) ⟨Nat.le_of_ble_eq_true rfl, Nat.le_of_ble_eq_true rfl⟩ dL_law_29 (fun H locs hT hS => ?_)
  have hPx := hT _ _ hPx
  have hPy := hT _ _ hPy
  refine init_call (xw gx dx (cN (cel xs L 0)) (cM (cel xs L 1)) 0 0 0 z0 z0 z0 z0 z0 z0) (m_X2_init l (dC, dI) a1 H.size (cel xs L 0) (cel xs L 1)) ⟨hx, hb, hml, hown, hts⟩ (cwI 2 hts (lw_meth q210) rfl rfl rfl (hts _ q28) (hts _ q208) (hts _ q209) rfl (by decide +kernel) ⟨Nat.le_of_ble_eq_true rfl, Nat.le_of_ble_eq_true rfl⟩) hK hPy hPx hD hS hA hl.1 (Nat.le_of_ble_eq_true rfl) ⟨Nat.le_of_ble_eq_true rfl, Nat.le_of_ble_eq_true rfl⟩ dL_law_32 (fun t H1 locs ht hvm hmade hfr hS => ?_)
  obtain ⟨gy, dy, zy, hg0, hPy, hKy, hDy⟩ := hmade
  rw [ht] at hPy
  have hPy2 := hPy
  have hKy2 := va_K.moved hvm.symm hKy
  obtain ⟨hPx2, hD2⟩ := hfr _ hDy
  have hD3 := xD_swap hD2
  subst hg0
  obtain rfl : dx = dy := cA_int (hKx.app hKy2) 0 1 rfl rfl
  generalize H1 = H at hPx2 hPy2 hS ⊢
  refine W.widen (k := 13) (n := 1066) (by decide) (by decide) ?_
  refine lv_astore_n (lv' := [(2, .ref (gy 0)), (1, .ref (gx 0)), (0, .ref b)]) hx hb dL_law_35 rfl hl (by decide) rfl (fun ls hl => ?_)
  refine lv_iconst (v := nI 2) hx hb dL_law_36 (by decide) ?_
  refine lv_istore_n (lv' := [(3, .int (nI 2)), (2, .ref (gy 0)), (1, .ref (gx 0)), (0, .ref b)]) hx hb dL_law_37 rfl hl (by decide) rfl (fun ls hl => ?_)
  exact law_loop hL C1 (cN_le _) (cM_le _) hKy2 (lv_sub hl [0, 3, 2, 1] rfl) ⟨z0, (0, 0, 0, z0, z0, z0, z0, z0, z0), (z0, f0, f0, z0, z0), XI.of (fun a ha g hg => by simp) (by decide) (fun h => absurd h (by decide)), rfl, fun g => Nat.two_pow_pos _, hPx2, hPy2, hD3, hS⟩
end
section
set_option maxHeartbeats 4000000 in
theorem lw_walk (l : Launch) (b : Addr) (xs : List Int32) : MetFree l x (headSpec (Jvm.Cond.code x code maxLocals ret :: tables_1) room_1) (lw_P b xs) (fun _ _ _ _ _ => True) lw_Q := by
  refine MetFree.of_bodyS (code := code) (maxLocals := maxLocals) (ret := ret) (by decide) ?_ ?_
  · intro args s m h hn
    obtain ⟨meth, c, h1, h2, h3, h4, h5, h6, -, -⟩ := Cond.code_spec hn (atoms_spec (ws := Jvm.Cond.code x code maxLocals ret :: tables_1) h _ List.mem_cons_self)
    exact ⟨meth, c, h1, h2, h3, h4, h5, h6⟩
  · intro p e s m args below meth c s₁ B hml0 hP _
    obtain ⟨rfl, hx, hbd, hgv⟩ := hP
    obtain ⟨scr, harrAt, hlist, hof, hsmall⟩ := hx
    obtain ⟨hcb, hkn, -, -⟩ := State.arrayAt?_spec harrAt
    have hown : s.vm.findClass R_law = some m.cls := findClass_of_methodNamed B.named
    have hts0 : ∀ c ∈ (Jvm.Cond.code x code maxLocals ret :: tables_1), c.before #[Value.ref b] s = true := atoms_spec (ws := Jvm.Cond.code x code maxLocals ret :: tables_1) B.pre
    have hts : ∀ w ∈ lw_tbl, w.before #[Value.ref b] s = true := k2_hts_sels lw_privs (fun w hw => hts0 w (List.mem_cons_of_mem _ hw)) lw_privs_ok
    have hml : c.maxLocals = 4 := B.maxLocals_eq (hts0 _ List.mem_cons_self)
    have X₀ : Stand p l e room_1 s m #[Value.ref b] below meth c s₁ [] 0 0 := Stand.of_body B
    have hh0 : s₁.heap = s.heap := by rw [B.state]; rfl
    have hsz : scr.slots.size = xs.length := by rw [← Array.length_toList, hlist, List.length_map]
    have hval : ∀ j : Nat, j < xs.length → scr.slots[j]? = some (.int (xs.getD j 0)) := fun j hj => by
      rw [← Array.getElem?_toList, hlist]
      simp [hj]
    have hbl : b < s.heap.size := (Array.getElem?_eq_some_iff.mp hcb).1
    have hX : va_X b xs.length (fun j => xs.getD j 0) s s.heap := ⟨scr, hcb, hof, hkn, hsz, hval⟩
    have K : W p l e room_1 s m #[Value.ref b] below meth c s₁.heap [] 0 0 (lw_Z below #[Value.ref b] s) (entryFrame m ([Value.ref b] : List Value).toArray 4) := by
      rw [hh0]
      exact whole_start l hbd ⟨B.exec, B.bytes, B.returns, hml, hown, hts, hX, hbl, B.notSynchronized, hgv⟩
    obtain ⟨t, a1, o, b1, b2, b3⟩ := K s₁ rfl X₀
    exact ⟨t, o, a1, b1, b2, b3⟩
theorem lw_pre_spec {args : Array Value} {s : State} (h : (Jvm.Cond.and given_1 narrow_1).before args s = true) (hr : rest_1_c.before args s = true) : ∃ (b : Addr) (xs : List Int32), lw_P b xs args s := by
  have hs := flat_of_before _ h
  have hq := flat_of_before _ hr
  have hc : (Cond.count 1).before args s = true := hs _ (by decide +kernel)
  have harr : (Cond.arrayOf (.arg 0) .int).before args s = true := hs _ (by decide +kernel)
  have hle : (Cond.le (.length (.arg 0)) (.int 258)).before args s = true := hs _ (by decide +kernel)
  have hlen : (Cond.isInt (.length (.arg 0))).before args s = true := hq _ (by decide +kernel)
  have hall : (Cond.all (.arg 0) (.isInt (.elem (.arg 0) (.index 0)))).before args s = true := hq _ (by decide +kernel)
  obtain ⟨b, xs, hb, hx⟩ := State.ints_of_pre rfl harr hlen hall
  have hsm : xs.length < 2 ^ 31 := hx.choose_spec.2.2.2
  have hev : (Term.length (.arg 0)).eval args s none [] s = some (.int xs.length.toInt32) := hx.length_eval hb
  have hv := Cond.le_ints hev (show (Term.int 258).eval args s none [] s = some (.int 258) from rfl)
  have hd : xs.length.toInt32 ≤ 258 := by
    simpa [Cond.before, Cond.holds, hv] using hle
  have hN : xs.length ≤ 258 := (Int32.ofNat_le_ofNat hsm (by decide)).mp (show Int32.ofNat xs.length ≤ Int32.ofNat 258 from hd)
  exact ⟨b, xs, Cond.one_arg hc (show args[0]? = some (.ref b) from hb), hx, hN, h⟩
theorem lw_comes (l : Launch) : Comes l x (Jvm.Cond.code x code maxLocals ret :: tables_1) room_1 (fun tb e args s => Calls_1 tb e args s ∧ rest_1 tb e args s ∧ Pre_1 tb e args s)
    (fun _ _ args s o t => lw_Q args s o t) := by
  intro p e ha hc hk s m args below hf hfit hheap happ hpre
  obtain ⟨b, xs, hP⟩ := lw_pre_spec hpre.2.2 hpre.2.1
  obtain ⟨k, o, h1, h2, h3, hQ⟩ := lw_walk l b xs p e ha hc hk s m args below hf ((Spec.applies_iff_loose hf).mp happ).1 hP trivial
  exact ⟨k, o, h1, h2, h3, hQ⟩
theorem lw_frame {s t : State} {o : Outcome} {args : Array Value} (h : Framed s o t [] 600000 7290000) :
    Framed s o t (fieldLocs frame_1_writes args s ++ arrayLocs frame_1_arrays args s ++ staticLocs frame_1_statics s) 600000 7290000 := h
theorem lw_limb (L : Cond) (hL : ∀ (args : Array Value) (s t : State), L.after args s (.returned (some (.int 1))) t = true) :
    ArmFor flags0 classFile x code maxLocals ret World_1 tables_1 room_1 Calls_1 rest_1 Pre_1
      (fun tb e a s o t => postC L tb e a s o t ∧ Framed s o t (fieldLocs frame_1_writes a s ++ arrayLocs frame_1_arrays a s ++ staticLocs frame_1_statics s) 600000 7290000) := by
  intro l _ _ _ p e ha hc hk s m args below hf hfit hheap happ hpre
  obtain ⟨k, o, h1, h2, h3, rfl, hF⟩ := lw_comes l p e ha hc hk s m args below hf hfit hheap happ hpre
  exact ⟨k, _, h1, h2, h3, hL args s _, lw_frame hF⟩
theorem i_vc : Claimed_1_1 ∧ Claimed_1_2 := ⟨lw_limb limb_1_1 (fun args s t => by simp [limb_1_1, Cond.after, Cond.holds, Cond.value]), lw_limb limb_1_2 (fun args s t => Cond.after_iff.mpr (by
  first | (rw [show limb_1_2 = Cond.eq .result (.int 1) from rfl, Cond.eq_ints (x := 1) (y := 1) rfl rfl]; simp; done) | (simp [limb_1_2, Cond.value, Term.eval]; done)))⟩
end
