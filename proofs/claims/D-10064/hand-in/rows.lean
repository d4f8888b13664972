section
/-- how many x < n have p -/
noncomputable def cg_cnt (p : Nat → Prop) : Nat → Nat
  | 0 => 0
  | k + 1 => cg_cnt p k + @ite Nat (p k) (Classical.propDecidable _) 1 0
theorem cg_cnt_t {p : Nat → Prop} {k : Nat} (h : p k) : cg_cnt p (k + 1) = cg_cnt p k + 1 := by
  show cg_cnt p k + @ite Nat (p k) (Classical.propDecidable _) 1 0 = _
  rw [if_pos h]
theorem cg_cnt_f {p : Nat → Prop} {k : Nat} (h : ¬ p k) : cg_cnt p (k + 1) = cg_cnt p k := by
  show cg_cnt p k + @ite Nat (p k) (Classical.propDecidable _) 1 0 = _
  rw [if_neg h, Nat.add_zero]
theorem cg_cnt_mono {p q : Nat → Prop} : ∀ (n : Nat), (∀ x, x < n → p x → q x) → cg_cnt p n ≤ cg_cnt q n := by
  intro n
  induction n with
  | zero => intro _; exact Nat.le_refl _
  | succ n ih =>
    intro h
    have i := ih (fun x hx => h x (by omega))
    by_cases hp : p n
    · rw [cg_cnt_t hp, cg_cnt_t (h n (by omega) hp)]; omega
    · rw [cg_cnt_f hp]
      by_cases hq : q n
      · rw [cg_cnt_t hq]; omega
      · rw [cg_cnt_f hq]; exact i
theorem cg_cnt_congr {p q : Nat → Prop} (n : Nat) (h : ∀ x, x < n → (p x ↔ q x)) : cg_cnt p n = cg_cnt q n :=
  Nat.le_antisymm (cg_cnt_mono n (fun x hx => (h x hx).mp)) (cg_cnt_mono n (fun x hx => (h x hx).mpr))
theorem cg_cnt_le (p : Nat → Prop) (n : Nat) : cg_cnt p n ≤ n := by
  induction n with
  | zero => exact Nat.le_refl _
  | succ n ih =>
    by_cases hp : p n
    · rw [cg_cnt_t hp]; omega
    · rw [cg_cnt_f hp]; omega
theorem cg_cnt_all {p : Nat → Prop} (n : Nat) (h : ∀ x, x < n → p x) : cg_cnt p n = n := by
  induction n with
  | zero => rfl
  | succ n ih => rw [cg_cnt_t (h n (by omega)), ih (fun x hx => h x (by omega))]
theorem cg_cnt_full {p : Nat → Prop} (n : Nat) (h : n ≤ cg_cnt p n) : ∀ x, x < n → p x := by
  induction n with
  | zero => intro x hx; omega
  | succ n ih =>
    by_cases hp : p n
    · rw [cg_cnt_t hp] at h
      intro x hx
      by_cases e : x = n
      · rw [e]; exact hp
      · exact ih (by omega) x (by omega)
    · rw [cg_cnt_f hp] at h
      have := cg_cnt_le p n
      omega
theorem cg_cnt_none {p : Nat → Prop} (n : Nat) (h : ∀ x, x < n → ¬ p x) : cg_cnt p n = 0 := by
  induction n with
  | zero => rfl
  | succ n ih => rw [cg_cnt_f (h n (by omega)), ih (fun x hx => h x (by omega))]
theorem cg_cnt_or {p q : Nat → Prop} (n : Nat) : cg_cnt (fun x => p x ∨ q x) n ≤ cg_cnt p n + cg_cnt q n := by
  induction n with
  | zero => exact Nat.le_refl _
  | succ n ih =>
    by_cases hp : p n
    · rw [cg_cnt_t (p := fun x => p x ∨ q x) (Or.inl hp), cg_cnt_t hp]
      by_cases hq : q n
      · rw [cg_cnt_t hq]; omega
      · rw [cg_cnt_f hq]; omega
    · rw [cg_cnt_f hp]
      by_cases hq : q n
      · rw [cg_cnt_t (p := fun x => p x ∨ q x) (Or.inr hq), cg_cnt_t hq]; omega
      · rw [cg_cnt_f (p := fun x => p x ∨ q x) (fun h => h.elim hp hq), cg_cnt_f hq]; exact ih
theorem cg_cnt_dis {p q : Nat → Prop} (n : Nat) (h : ∀ x, x < n → p x → ¬ q x) : cg_cnt p n + cg_cnt q n ≤ cg_cnt (fun x => p x ∨ q x) n := by
  induction n with
  | zero => exact Nat.le_refl _
  | succ n ih =>
    have i := ih (fun x hx => h x (by omega))
    by_cases hp : p n
    · rw [cg_cnt_t (p := fun x => p x ∨ q x) (Or.inl hp), cg_cnt_t hp, cg_cnt_f (h n (by omega) hp)]; omega
    · rw [cg_cnt_f hp]
      by_cases hq : q n
      · rw [cg_cnt_t (p := fun x => p x ∨ q x) (Or.inr hq), cg_cnt_t hq]; omega
      · rw [cg_cnt_f (p := fun x => p x ∨ q x) (fun h => h.elim hp hq), cg_cnt_f hq]; exact i
theorem cg_cnt_eq1 {a : Nat} (n : Nat) : a < n → cg_cnt (fun x => x = a) n = 1 := by
  induction n with
  | zero => intro h; omega
  | succ n ih =>
    intro h
    by_cases e : n = a
    · rw [cg_cnt_t (p := fun x => x = a) e, cg_cnt_none n (fun x hx z => by omega)]
    · rw [cg_cnt_f (p := fun x => x = a) e, ih (by omega)]
theorem cg_cnt_1 {p : Nat → Prop} {a n : Nat} (ha : a < n) (hp : p a) : 1 ≤ cg_cnt p n := by
  rw [← cg_cnt_eq1 n ha]
  exact cg_cnt_mono n (fun x _ e => by rw [e]; exact hp)
theorem cg_cnt_2 {p : Nat → Prop} {a b n : Nat} (ha : a < n) (hb : b < n) (hab : a ≠ b) (pa : p a) (pb : p b) : 2 ≤ cg_cnt p n := by
  have h1 := cg_cnt_dis (p := fun x => x = a) (q := fun x => x = b) n (fun x _ e z => hab (by rw [← e, ← z]))
  rw [cg_cnt_eq1 n ha, cg_cnt_eq1 n hb] at h1
  refine Nat.le_trans h1 (cg_cnt_mono n (fun x _ e => ?_))
  rcases e with e | e
  · rw [e]; exact pa
  · rw [e]; exact pb
/-- of a set of at most two, two are known: any other is one of them -/
theorem cg_cnt_3 {p : Nat → Prop} {a b c n : Nat} (h : cg_cnt p n ≤ 2) (ha : a < n) (hb : b < n) (hc : c < n) (hab : a ≠ b) (pa : p a) (pb : p b) (pc : p c) : c = a ∨ c = b := by
  rcases Classical.em (c = a ∨ c = b) with z | z
  · exact z
  exfalso
  have h1 : 2 ≤ cg_cnt (fun x => x = a ∨ x = b) n := cg_cnt_2 ha hb hab (Or.inl rfl) (Or.inr rfl)
  have h2 := cg_cnt_dis (p := fun x => x = a ∨ x = b) (q := fun x => x = c) n (fun x _ e y => z (by rw [← y]; exact e))
  rw [cg_cnt_eq1 n hc] at h2
  have h3 : cg_cnt (fun x => (x = a ∨ x = b) ∨ x = c) n ≤ cg_cnt p n := cg_cnt_mono n (fun x _ e => by
    rcases e with (e | e) | e
    · rw [e]; exact pa
    · rw [e]; exact pb
    · rw [e]; exact pc)
  omega
/-- one more -/
theorem cg_cnt_more {p q : Nat → Prop} {a n : Nat} (ha : a < n) (pa : ¬ p a) (qa : q a) (h : ∀ x, x < n → p x → q x) : cg_cnt p n + 1 ≤ cg_cnt q n := by
  have h1 := cg_cnt_dis (p := p) (q := fun x => x = a) n (fun x _ e y => pa (by rw [← y]; exact e))
  rw [cg_cnt_eq1 n ha] at h1
  refine Nat.le_trans h1 (cg_cnt_mono n (fun x hx e => ?_))
  rcases e with e | e
  · exact h x hx e
  · rw [e]; exact qa
/-- slots a+1 .. a+d of at most c tasks each -/
theorem cg_slots_le {t : Nat → Nat} {n a c : Nat} {D : Nat → Prop} (h : ∀ j, cg_cnt (fun x => D x ∧ t x = j) n ≤ c) : ∀ d, cg_cnt (fun x => D x ∧ a < t x ∧ t x ≤ a + d) n ≤ c * d := by
  intro d
  induction d with
  | zero => rw [cg_cnt_none n (fun x _ z => by have := z.2; omega)]; exact Nat.zero_le _
  | succ d ih =>
    have h1 : cg_cnt (fun x => D x ∧ a < t x ∧ t x ≤ a + (d + 1)) n ≤ cg_cnt (fun x => (D x ∧ a < t x ∧ t x ≤ a + d) ∨ (D x ∧ t x = a + (d + 1))) n :=
      cg_cnt_mono n (fun x _ z => by
        rcases Nat.lt_or_ge (t x) (a + (d + 1)) with g | g
        · exact Or.inl ⟨z.1, z.2.1, by omega⟩
        · exact Or.inr ⟨z.1, by have := z.2.2; omega⟩)
    have h2 := cg_cnt_or (p := fun x => D x ∧ a < t x ∧ t x ≤ a + d) (q := fun x => D x ∧ t x = a + (d + 1)) n
    have h3 := h (a + (d + 1))
    rw [Nat.mul_succ]
    omega
/-- slots a+1 .. a+d of at least c tasks each -/
theorem cg_slots_ge {t : Nat → Nat} {n a c : Nat} {D : Nat → Prop} : ∀ d, (∀ j, a < j → j ≤ a + d → c ≤ cg_cnt (fun x => D x ∧ t x = j) n) → c * d ≤ cg_cnt (fun x => D x ∧ a < t x ∧ t x ≤ a + d) n := by
  intro d
  induction d with
  | zero => intro _; rw [Nat.mul_zero]; exact Nat.zero_le _
  | succ d ih =>
    intro h
    have i := ih (fun j h1 h2 => h j h1 (by omega))
    have h1 := cg_cnt_dis (p := fun x => D x ∧ a < t x ∧ t x ≤ a + d) (q := fun x => D x ∧ t x = a + (d + 1)) n (fun x _ z y => by have := z.2.2; have := y.2; omega)
    have h2 : cg_cnt (fun x => (D x ∧ a < t x ∧ t x ≤ a + d) ∨ (D x ∧ t x = a + (d + 1))) n ≤ cg_cnt (fun x => D x ∧ a < t x ∧ t x ≤ a + (d + 1)) n :=
      cg_cnt_mono n (fun x _ z => by
        rcases z with z | z
        · exact ⟨z.1, z.2.1, by have := z.2.2; omega⟩
        · exact ⟨z.1, by have := z.2; omega, by have := z.2; omega⟩)
    have h3 := h (a + (d + 1)) (by omega) (by omega)
    rw [Nat.mul_succ]
    omega
/-- a set of naturals below n that isn't empty has an element of greatest f -/
theorem cg_max {p : Nat → Prop} (f : Nat → Nat) (n : Nat) (h : ∃ x, x < n ∧ p x) : ∃ x, x < n ∧ p x ∧ ∀ y, y < n → p y → f y ≤ f x := by
  induction n with
  | zero => obtain ⟨x, hx, _⟩ := h; omega
  | succ n ih =>
    by_cases g : ∃ x, x < n ∧ p x
    · obtain ⟨x, hx, px, hm⟩ := ih g
      by_cases e : p n ∧ f x < f n
      · refine ⟨n, by omega, e.1, fun y hy py => ?_⟩
        by_cases ey : y = n
        · rw [ey]; exact Nat.le_refl _
        · have := hm y (by omega) py
          have := e.2
          omega
      · refine ⟨x, by omega, px, fun y hy py => ?_⟩
        by_cases ey : y = n
        · rw [ey] at py ⊢
          rcases Nat.lt_or_ge (f x) (f n) with z | z
          · exact absurd ⟨py, z⟩ e
          · exact z
        · exact hm y (by omega) py
    · obtain ⟨x, hx, px⟩ := h
      have ex : x = n := by
        rcases Nat.lt_or_ge x n with z | z
        · exact absurd ⟨x, z, px⟩ g
        · omega
      refine ⟨x, hx, px, fun y hy py => ?_⟩
      by_cases ey : y = n
      · rw [ey, ex]; exact Nat.le_refl _
      · exact absurd ⟨y, by omega, py⟩ g
end
section
/-- immediate successors -/
def cg_N (R : Nat → Nat → Prop) (u x : Nat) : Prop := R u x ∧ ∀ z, R u z → ¬ R z x
/-- labels of Coffman and Graham -/
def cg_L (n : Nat) (R : Nat → Nat → Prop) (lab : Nat → Nat) : Prop :=
  (∀ u v, u < n → v < n → lab u = lab v → u = v) ∧ (∀ u v, R u v → lab v < lab u) ∧
  (∀ u v x, u < n → v < n → lab u < lab v → cg_N R u x → ¬ cg_N R v x → ∃ y, cg_N R v y ∧ ¬ cg_N R u y ∧ lab x < lab y)
/-- a schedule on two processors: t x is the slot of x, slots 1 .. len -/
def cg_T (n : Nat) (R : Nat → Nat → Prop) (t : Nat → Nat) (len : Nat) : Prop :=
  (∀ x, x < n → 1 ≤ t x ∧ t x ≤ len) ∧ (∀ u v, R u v → t u < t v) ∧ (∀ j, cg_cnt (fun x => x < n ∧ t x = j) n ≤ 2)
/-- two tasks of slot j have labels above l -/
def cg_two (n : Nat) (lab t : Nat → Nat) (l j : Nat) : Prop := ∃ p q, p < n ∧ q < n ∧ p ≠ q ∧ t p = j ∧ t q = j ∧ l < lab p ∧ l < lab q
/-- the schedule is a list schedule by labels -/
def cg_E (n : Nat) (R : Nat → Nat → Prop) (lab t : Nat → Nat) : Prop :=
  ∀ x s, x < n → 1 ≤ s → s < t x → (∃ u, R u x ∧ s ≤ t u) ∨ cg_two n lab t (lab x) s
def cg_blk (n : Nat) (lab t : Nat → Nat) (V s1 : Nat) : Prop := s1 < t V ∧ (s1 = 0 ∨ ¬ cg_two n lab t (lab V) s1) ∧ ∀ j, s1 < j → j < t V → cg_two n lab t (lab V) j
def cg_inb (n : Nat) (t : Nat → Nat) (V s1 x : Nat) : Prop := x < n ∧ ((s1 < t x ∧ t x < t V) ∨ x = V)
def cg_Q (n : Nat) (lab t : Nat → Nat) (V : Nat) : Prop := ∀ x, x < n → t V ≤ t x → x ≠ V → lab x < lab V
theorem cg_two_mono {n : Nat} {lab t : Nat → Nat} {l l' j : Nat} (h : l' ≤ l) (z : cg_two n lab t l j) : cg_two n lab t l' j := by
  obtain ⟨p, q, a, b, c, d, e, f, g⟩ := z
  exact ⟨p, q, a, b, c, d, e, by omega, by omega⟩
theorem cg_exblk (P : Nat → Prop) : ∀ s, 1 ≤ s → ∃ s1, s1 < s ∧ (s1 = 0 ∨ ¬ P s1) ∧ ∀ j, s1 < j → j < s → P j := by
  intro s
  induction s with
  | zero => intro h; omega
  | succ s ih =>
    intro _
    by_cases h0 : s = 0
    · exact ⟨0, by omega, Or.inl rfl, fun j h1 h2 => by omega⟩
    · by_cases hP : P s
      · obtain ⟨s1, h1, h2, h3⟩ := ih (by omega)
        refine ⟨s1, by omega, h2, fun j g1 g2 => ?_⟩
        by_cases e : j = s
        · rw [e]; exact hP
        · exact h3 j g1 (by omega)
      · exact ⟨s, by omega, Or.inr hP, fun j h1 h2 => by omega⟩
theorem cg_inb_lab {n : Nat} {R : Nat → Nat → Prop} {lab t : Nat → Nat} {len V s1 x : Nat} (hT : cg_T n R t len) (hb : cg_blk n lab t V s1) (hx : cg_inb n t V s1 x) : x = V ∨ lab V < lab x := by
  obtain ⟨xn, h | h⟩ := hx
  · obtain ⟨p, q, pn, qn, pq, tp, tq, lp, lq⟩ := hb.2.2 (t x) h.1 h.2
    have c := cg_cnt_3 (p := fun y => y < n ∧ t y = t x) (hT.2.2 (t x)) pn qn xn pq ⟨pn, tp⟩ ⟨qn, tq⟩ ⟨xn, rfl⟩
    rcases c with c | c
    · rw [c]; exact Or.inr lp
    · rw [c]; exact Or.inr lq
  · exact Or.inl h
theorem cg_inb_t {n : Nat} {lab t : Nat → Nat} {V s1 x : Nat} (hb : cg_blk n lab t V s1) (hx : cg_inb n t V s1 x) : s1 < t x ∧ t x ≤ t V := by
  obtain ⟨_, h | h⟩ := hx
  · exact ⟨h.1, by omega⟩
  · rw [h]; exact ⟨hb.1, Nat.le_refl _⟩
/-- the one task V1 of slot s1 above V's label precedes all of V's block -/
theorem cg_step1 {n : Nat} {R : Nat → Nat → Prop} {lab t : Nat → Nat} {len V s1 : Nat} (hR : ∀ u v, R u v → u < n ∧ v < n) (tr : ∀ u v w, R u v → R v w → R u w)
    (hL : cg_L n R lab) (hT : cg_T n R t len) (hE : cg_E n R lab t) (hV : V < n) (hb : cg_blk n lab t V s1) (h1 : 1 ≤ s1) :
    ∃ V1, V1 < n ∧ t V1 = s1 ∧ lab V < lab V1 ∧ (∀ x, x < n → t x = s1 → lab V < lab x → x = V1) ∧ (∀ x, cg_inb n t V s1 x → R V1 x) := by
  have nt : ¬ cg_two n lab t (lab V) s1 := by
    rcases hb.2.1 with z | z
    · omega
    · exact z
  have ll : ∀ x, cg_inb n t V s1 x → lab V ≤ lab x := fun x hx => by
    rcases cg_inb_lab hT hb hx with z | z
    · rw [z]; exact Nat.le_refl _
    · omega
  have C : ∀ m x, t x ≤ m → cg_inb n t V s1 x → ∃ u, u < n ∧ t u = s1 ∧ lab V < lab u ∧ R u x := by
    intro m
    induction m with
    | zero => intro x h hx; have := (cg_inb_t hb hx).1; omega
    | succ m ih =>
      intro x h hx
      have ht := cg_inb_t hb hx
      have l1 := ll x hx
      rcases hE x s1 hx.1 h1 ht.1 with ⟨u, ru, su⟩ | z
      · have tu := hT.2.1 u x ru
        have lu := hL.2.1 u x ru
        by_cases e : t u = s1
        · exact ⟨u, (hR u x ru).1, e, by omega, ru⟩
        · obtain ⟨w, a, b, c, d⟩ := ih u (by omega) ⟨(hR u x ru).1, Or.inl ⟨by omega, by omega⟩⟩
          exact ⟨w, a, b, c, tr w u x d ru⟩
      · exact absurd (cg_two_mono l1 z) nt
  obtain ⟨V1, a, b, c, d⟩ := C (t V) V (Nat.le_refl _) ⟨hV, Or.inr rfl⟩
  have uq : ∀ x, x < n → t x = s1 → lab V < lab x → x = V1 := by
    intro x hx tx lx
    rcases Classical.em (x = V1) with z | z
    · exact z
    · exact absurd ⟨x, V1, hx, a, z, tx, b, lx, c⟩ nt
  refine ⟨V1, a, b, c, uq, fun x hx => ?_⟩
  obtain ⟨u, ua, ub, uc, ud⟩ := C (t x) x (Nat.le_refl _) hx
  rw [← uq u ua ub uc]
  exact ud
theorem cg_Q1 {n : Nat} {R : Nat → Nat → Prop} {lab t : Nat → Nat} {V s1 V1 : Nat}
    (hL : cg_L n R lab) (hV : V < n) (hQ : cg_Q n lab t V)
    (tV : t V1 = s1) (lV : lab V < lab V1) (uq : ∀ x, x < n → t x = s1 → lab V < lab x → x = V1) (pr : ∀ x, cg_inb n t V s1 x → R V1 x) : cg_Q n lab t V1 := by
  intro x hx tx ne
  by_cases e1 : t x = s1
  · rcases Nat.lt_or_ge (lab V) (lab x) with z | z
    · exact absurd (uq x hx e1 z) ne
    · omega
  · rcases Nat.lt_or_ge (t x) (t V) with z | z
    · exact hL.2.1 V1 x (pr x ⟨hx, Or.inl ⟨by omega, z⟩⟩)
    · by_cases e : x = V
      · exact hL.2.1 V1 x (pr x ⟨hx, Or.inr e⟩)
      · have := hQ x hx z e
        omega
/-- every task of V1's block precedes every task of V's block -/
theorem cg_step2 {n : Nat} {R : Nat → Nat → Prop} {lab t : Nat → Nat} {len V s1 V1 s2 : Nat} (hR : ∀ u v, R u v → u < n ∧ v < n) (tr : ∀ u v w, R u v → R v w → R u w)
    (hL : cg_L n R lab) (hT : cg_T n R t len) (hV : V < n) (hQ : cg_Q n lab t V) (hb : cg_blk n lab t V s1) (n1 : V1 < n)
    (tV : t V1 = s1) (uq : ∀ x, x < n → t x = s1 → lab V < lab x → x = V1) (pr : ∀ x, cg_inb n t V s1 x → R V1 x) (hb2 : cg_blk n lab t V1 s2) :
    ∀ m T', lab T' ≤ m → cg_inb n t V1 s2 T' → ∀ T, cg_inb n t V s1 T → R T' T := by
  have ll : ∀ x, cg_inb n t V s1 x → lab V ≤ lab x := fun x hx => by
    rcases cg_inb_lab hT hb hx with z | z
    · rw [z]; exact Nat.le_refl _
    · omega
  intro m
  induction m using Nat.strongRecOn with
  | ind m ih =>
  intro T' hm hT'
  by_cases e1 : T' = V1
  · rw [e1]; exact pr
  have l1 : lab V1 < lab T' := by
    rcases cg_inb_lab hT hb2 hT' with z | z
    · exact absurd z e1
    · exact z
  have t1 : s2 < t T' ∧ t T' < s1 := by
    obtain ⟨_, h | h⟩ := hT'
    · rw [← tV]; exact h
    · exact absurd h e1
  by_cases hs : ∃ T'', cg_inb n t V1 s2 T'' ∧ R T' T''
  · obtain ⟨T'', i2, r2⟩ := hs
    have l2 := hL.2.1 _ _ r2
    intro T iT
    exact tr _ _ _ r2 (ih (lab T'') (by omega) T'' (Nat.le_refl _) i2 T iT)
  intro T0 iT0
  rcases Classical.em (R T' T0) with z | nr0
  · exact z
  exfalso
  obtain ⟨T, Tn, ⟨iT, nrT⟩, mx⟩ := cg_max (p := fun x => cg_inb n t V s1 x ∧ ¬ R T' x) lab n ⟨T0, iT0.1, iT0, nr0⟩
  have up : ∀ z, cg_inb n t V s1 z → lab T < lab z → R T' z := by
    intro z iz lz
    rcases Classical.em (R T' z) with g | g
    · exact g
    · have := mx z iz.1 ⟨iz, g⟩
      omega
  have hmin : ∀ z, cg_inb n t V s1 z → ¬ R z T := fun z iz rz => nrT (tr _ _ _ (up z iz (hL.2.1 _ _ rz)) rz)
  have tT := cg_inb_t hb iT
  have hNT : cg_N R V1 T := ⟨pr T iT, fun z rz rz2 => hmin z ⟨(hR _ _ rz).2, Or.inl ⟨by have := hT.2.1 _ _ rz; omega, by have := hT.2.1 _ _ rz2; omega⟩⟩ rz2⟩
  obtain ⟨y, ny, nv, ly⟩ := hL.2.2 V1 T' T n1 hT'.1 l1 hNT (fun z => nrT z.1)
  have yn := (hR _ _ ny.1).2
  have ty := hT.2.1 _ _ ny.1
  have lT := ll T iT
  have iy : cg_inb n t V s1 y := by
    rcases Nat.lt_trichotomy (t y) s1 with g | g | g
    · exact absurd ⟨y, ⟨yn, Or.inl ⟨by omega, by omega⟩⟩, ny.1⟩ hs
    · have e := uq y yn g (by omega)
      exact absurd ⟨y, ⟨yn, Or.inr e⟩, ny.1⟩ hs
    · rcases Nat.lt_or_ge (t y) (t V) with k | k
      · exact ⟨yn, Or.inl ⟨g, k⟩⟩
      · refine ⟨yn, Or.inr ?_⟩
        rcases Classical.em (y = V) with w | w
        · exact w
        · have := hQ y yn k w
          omega
  have tiy := cg_inb_t hb iy
  refine nv ⟨pr y iy, fun z rz rzy => ?_⟩
  have iz : cg_inb n t V s1 z := ⟨(hR _ _ rz).2, Or.inl ⟨by have := hT.2.1 _ _ rz; omega, by have := hT.2.1 _ _ rzy; omega⟩⟩
  exact ny.2 z (up z iz (by have := hL.2.1 _ _ rzy; omega)) rzy
theorem cg_pig {n : Nat} {R : Nat → Nat → Prop} {lab t t' : Nat → Nat} {len' V s1 : Nat} (hT' : cg_T n R t' len') (hV : V < n) (hb : cg_blk n lab t V s1) (h : ∀ y, cg_inb n t V s1 y → s1 < t' y) :
    ∃ y, cg_inb n t V s1 y ∧ t V ≤ t' y := by
  rcases Classical.em (∃ y, cg_inb n t V s1 y ∧ t V ≤ t' y) with z | z
  · exact z
  exfalso
  have z' : ∀ y, cg_inb n t V s1 y → t' y < t V := fun y iy => by
    rcases Nat.lt_or_ge (t' y) (t V) with g | g
    · exact g
    · exact absurd ⟨y, iy, g⟩ z
  have b1 := hb.1
  have h1 : cg_cnt (cg_inb n t V s1) n ≤ cg_cnt (fun x => x < n ∧ s1 < t' x ∧ t' x ≤ s1 + (t V - s1 - 1)) n :=
    cg_cnt_mono n (fun x hx ix => ⟨hx, h x ix, by have := z' x ix; omega⟩)
  have h2 := cg_slots_le (a := s1) hT'.2.2 (t V - s1 - 1)
  have h3 : 2 * (t V - s1 - 1) ≤ cg_cnt (fun x => x < n ∧ s1 < t x ∧ t x ≤ s1 + (t V - s1 - 1)) n :=
    cg_slots_ge (t V - s1 - 1) (fun j g1 g2 => by
      obtain ⟨p, q, pn, qn, pq, tp, tq, _, _⟩ := hb.2.2 j g1 (by omega)
      exact cg_cnt_2 (p := fun x => x < n ∧ t x = j) pn qn pq ⟨pn, tp⟩ ⟨qn, tq⟩)
  have h4 : cg_cnt (fun x => x < n ∧ s1 < t x ∧ t x ≤ s1 + (t V - s1 - 1)) n + 1 ≤ cg_cnt (cg_inb n t V s1) n :=
    cg_cnt_more (a := V) hV (fun g => by have := g.2.2; omega) ⟨hV, Or.inr rfl⟩ (fun x hx g => ⟨hx, Or.inl ⟨g.2.1, by have := g.2.2; omega⟩⟩)
  omega
theorem cg_main {n : Nat} {R : Nat → Nat → Prop} {lab t t' : Nat → Nat} {len len' : Nat} (hR : ∀ u v, R u v → u < n ∧ v < n) (tr : ∀ u v w, R u v → R v w → R u w)
    (hL : cg_L n R lab) (hT : cg_T n R t len) (hE : cg_E n R lab t) (hT' : cg_T n R t' len') :
    ∀ m V s1, t V ≤ m → V < n → cg_Q n lab t V → cg_blk n lab t V s1 → ∃ y, cg_inb n t V s1 y ∧ t V ≤ t' y := by
  intro m
  induction m with
  | zero => intro V s1 h _ _ hb; have := hb.1; omega
  | succ m ih =>
    intro V s1 h hV hQ hb
    by_cases h0 : s1 = 0
    · exact cg_pig hT' hV hb (fun y iy => by have := (hT'.1 y iy.1).1; omega)
    · obtain ⟨V1, n1, tV, lV, uq, pr⟩ := cg_step1 hR tr hL hT hE hV hb (by omega)
      have b1 := hb.1
      obtain ⟨s2, hb2⟩ := cg_exblk (cg_two n lab t (lab V1)) (t V1) (by omega)
      obtain ⟨y1, i1, g1⟩ := ih V1 s2 (by omega) n1 (cg_Q1 hL hV hQ tV lV uq pr) hb2
      refine cg_pig hT' hV hb (fun y iy => ?_)
      have r := cg_step2 hR tr hL hT hV hQ hb n1 tV uq pr hb2 (lab y1) y1 (Nat.le_refl _) i1 y iy
      have := hT'.2.1 _ _ r
      omega
/-- the theorem of Coffman and Graham -/
theorem cg_opt {n : Nat} {R : Nat → Nat → Prop} {lab t t' : Nat → Nat} {len len' : Nat} (hR : ∀ u v, R u v → u < n ∧ v < n) (tr : ∀ u v w, R u v → R v w → R u w)
    (hL : cg_L n R lab) (hT : cg_T n R t len) (hE : cg_E n R lab t) (hne : 1 ≤ len → ∃ x, x < n ∧ t x = len) (hT' : cg_T n R t' len') : len ≤ len' := by
  by_cases h0 : len = 0
  · omega
  obtain ⟨V, Vn, tV, mx⟩ := cg_max (p := fun x => t x = len) lab n (hne (by omega))
  have tV' : t V = len := tV
  have hQ : cg_Q n lab t V := by
    intro x hx tx ne
    have := (hT.1 x hx).2
    have l1 := mx x hx (show t x = len by omega)
    rcases Nat.lt_or_ge (lab x) (lab V) with z | z
    · exact z
    · exact absurd (hL.1 x V hx Vn (by omega)) ne
  obtain ⟨s1, hb⟩ := cg_exblk (cg_two n lab t (lab V)) (t V) (by omega)
  obtain ⟨y, iy, gy⟩ := cg_main hR tr hL hT hE hT' (t V) V s1 (Nat.le_refl _) Vn hQ hb
  have := (hT'.1 y iy.1).2
  omega
/-- what shortest(2) answers: the length of a list schedule by such labels -/
def cg_S (n : Nat) (R : Nat → Nat → Prop) (len : Nat) : Prop := ∃ lab t, cg_L n R lab ∧ cg_T n R t len ∧ cg_E n R lab t ∧ (1 ≤ len → ∃ x, x < n ∧ t x = len)
theorem cg_S_le {n : Nat} {R R' : Nat → Nat → Prop} {len len' : Nat} (hR : ∀ u v, R u v → u < n ∧ v < n) (tr : ∀ u v w, R u v → R v w → R u w)
    (h : cg_S n R len) (h' : cg_S n R' len') (hs : ∀ u v, R u v → R' u v) : len ≤ len' := by
  obtain ⟨lab, t, a, b, c, d⟩ := h
  obtain ⟨_, t', _, b', _, _⟩ := h'
  exact cg_opt hR tr a b c d ⟨b'.1, fun u v r => b'.2.1 u v (hs u v r), b'.2.2⟩
theorem cg_S_half {n : Nat} {R : Nat → Nat → Prop} {len : Nat} (h : cg_S n R len) : n ≤ 2 * len := by
  obtain ⟨lab, t, a, b, c, d⟩ := h
  have h2 := cg_slots_le (a := 0) b.2.2 len
  have h1 : cg_cnt (fun x => x < n ∧ 0 < t x ∧ t x ≤ 0 + len) n = n := cg_cnt_all n (fun x hx => ⟨hx, by have := (b.1 x hx).1; omega, by have := (b.1 x hx).2; omega⟩)
  omega
end
section
/-- bit i of x is set -/
def cg_b (x : Int32) (i : Nat) : Prop := x.toBitVec.getLsbD i = true
theorem cg_b_lt {x : Int32} {i : Nat} (h : cg_b x i) : i < 32 := by
  rcases Nat.lt_or_ge i 32 with z | z
  · exact z
  · have e : x.toBitVec.getLsbD i = false := BitVec.getLsbD_of_ge _ _ z
    unfold cg_b at h
    rw [e] at h
    exact absurd h (by decide)
theorem cg_b_ext {x y : Int32} (h : ∀ i, i < 32 → (cg_b x i ↔ cg_b y i)) : x = y :=
  Int32.toBitVec_inj.mp (BitVec.eq_of_getLsbD_eq (fun i hi => Bool.eq_iff_iff.mpr (h i hi)))
theorem cg_b_or {x y : Int32} {i : Nat} : cg_b (x ||| y) i ↔ cg_b x i ∨ cg_b y i := by
  unfold cg_b
  rw [Int32.toBitVec_or, BitVec.getLsbD_or, Bool.or_eq_true]
theorem cg_b_and {x y : Int32} {i : Nat} : cg_b (x &&& y) i ↔ cg_b x i ∧ cg_b y i := by
  unfold cg_b
  rw [Int32.toBitVec_and, BitVec.getLsbD_and, Bool.and_eq_true]
theorem cg_b_m1 : ∀ i, i < 32 → (-1 : Int32).toBitVec.getLsbD i = true := by decide +kernel
theorem cg_b_xm {y : Int32} {i : Nat} (hi : i < 32) : cg_b (y ^^^ (-1)) i ↔ ¬ cg_b y i := by
  unfold cg_b
  rw [Int32.toBitVec_xor, BitVec.getLsbD_xor, cg_b_m1 i hi]
  cases y.toBitVec.getLsbD i <;> decide
/-- x and not y -/
theorem cg_b_an {x y : Int32} {i : Nat} : cg_b (x &&& (y ^^^ (-1))) i ↔ cg_b x i ∧ ¬ cg_b y i := by
  rw [cg_b_and]
  constructor
  · intro h
    exact ⟨h.1, (cg_b_xm (cg_b_lt h.1)).mp h.2⟩
  · intro h
    exact ⟨h.1, (cg_b_xm (cg_b_lt h.1)).mpr h.2⟩
theorem cg_b_0 {i : Nat} : ¬ cg_b 0 i := by
  intro h
  have e : (0 : Int32).toBitVec.getLsbD i = false := BitVec.getLsbD_zero
  unfold cg_b at h
  rw [e] at h
  exact absurd h (by decide)
theorem cg_b_shl0 : ∀ k, k < 32 → ∀ i, i < 32 → ((1 : Int32) <<< (nI k &&& 31)).toBitVec.getLsbD i = decide (i = k) := by decide +kernel
theorem cg_b_shl {k i : Nat} (hk : k < 32) : cg_b ((1 : Int32) <<< (nI k &&& 31)) i ↔ i = k := by
  constructor
  · intro h
    have e := cg_b_shl0 k hk i (cg_b_lt h)
    unfold cg_b at h
    rw [e] at h
    exact of_decide_eq_true h
  · intro h
    unfold cg_b
    rw [cg_b_shl0 k hk i (by omega)]
    exact decide_eq_true h
theorem cg_b_part0 : ∀ n, n < 10 → ∀ i, i < 32 → (((1 : Int32) <<< (nI n &&& 31)) - 1).toBitVec.getLsbD i = decide (i < n) := by decide +kernel
theorem cg_b_part {n i : Nat} (hn : n ≤ 9) : cg_b (((1 : Int32) <<< (nI n &&& 31)) - 1) i ↔ i < n := by
  constructor
  · intro h
    have e := cg_b_part0 n (by omega) i (cg_b_lt h)
    unfold cg_b at h
    rw [e] at h
    exact of_decide_eq_true h
  · intro h
    unfold cg_b
    rw [cg_b_part0 n (by omega) i (by omega)]
    exact decide_eq_true h
theorem cg_s_l : ∀ n, n < 32 → ((nI n &&& 31).toBitVec.smod 32).toNat = n := by decide +kernel
theorem cg_b_shr {n : Nat} (hn : n < 32) {x : Int32} {i : Nat} (hi : n + i < 32) : cg_b (x >>> (nI n &&& 31)) i ↔ cg_b x (n + i) := by
  unfold cg_b
  rw [Int32.toBitVec_shiftRight]
  show (x.toBitVec.sshiftRight ((nI n &&& 31).toBitVec.smod 32).toNat).getLsbD i = true ↔ _
  rw [cg_s_l n hn, BitVec.getLsbD_sshiftRight, BitVec.msb_eq_getLsbD_last]
  have h32 : i < 32 := by omega
  simp [hi, h32]
theorem cg_b_one {i : Nat} : cg_b 1 i ↔ i = 0 := by
  have h : ∀ i, i < 32 → (1 : Int32).toBitVec.getLsbD i = decide (i = 0) := by decide +kernel
  constructor
  · intro g
    have e := h i (cg_b_lt g)
    unfold cg_b at g
    rw [e] at g
    exact of_decide_eq_true g
  · intro g
    unfold cg_b
    rw [h i (by omega)]
    exact decide_eq_true g
/-- the test 'bit k of x' -/
theorem cg_tst_t {x : Int32} {k : Nat} (hk : k < 32) (h : cg_b x k) : (x >>> (nI k &&& 31)) &&& 1 = 1 := by
  refine cg_b_ext (fun i hi => ?_)
  rw [cg_b_and, cg_b_one]
  constructor
  · exact fun z => z.2
  · intro z
    rw [z]
    exact ⟨(cg_b_shr hk (by omega)).mpr h, rfl⟩
theorem cg_tst_f {x : Int32} {k : Nat} (hk : k < 32) (h : ¬ cg_b x k) : (x >>> (nI k &&& 31)) &&& 1 = 0 := by
  refine cg_b_ext (fun i hi => ?_)
  rw [cg_b_and, cg_b_one]
  constructor
  · intro z
    rw [z.2] at z
    exact absurd ((cg_b_shr hk (by omega)).mp z.1) h
  · intro z
    exact absurd z cg_b_0
theorem cg_tst {x : Int32} {k : Nat} (hk : k < 32) : (x >>> (nI k &&& 31)) &&& 1 = 0 ↔ ¬ cg_b x k := by
  constructor
  · intro h g
    rw [cg_tst_t hk g] at h
    exact absurd h (by decide)
  · exact cg_tst_f hk
/-- a branch on bit k of x -/
theorem cg_br {x : Int32} {A B : Prop} (k : Nat) (hk : k < 32) (f : ¬ cg_b x k → A) (g : cg_b x k → B) : ((x >>> (nI k &&& 31)) &&& 1 = 0 → A) ∧ (¬ (x >>> (nI k &&& 31)) &&& 1 = 0 → B) :=
  ⟨fun h => f ((cg_tst hk).mp h), fun h => g (Classical.byContradiction (fun z => h ((cg_tst hk).mpr z)))⟩
theorem cg_z {x : Int32} : x = 0 ↔ ∀ i, ¬ cg_b x i := by
  constructor
  · intro h i
    rw [h]
    exact cg_b_0
  · intro h
    exact cg_b_ext (fun i _ => ⟨fun z => absurd z (h i), fun z => absurd z cg_b_0⟩)
theorem cg_nz {x : Int32} (h : ¬ x = 0) : ∃ i, cg_b x i :=
  Classical.byContradiction (fun z => h (cg_z.mpr (fun i hi => z ⟨i, hi⟩)))
theorem cg_sub {a b : Nat} (h : ∀ j, b.testBit j = true → a.testBit j = true) : b ≤ a := by
  have e : b &&& a = b := by
    apply Nat.eq_of_testBit_eq
    intro j
    rw [Nat.testBit_and]
    cases hb : b.testBit j with
    | false => rfl
    | true => rw [h j hb]; rfl
  rw [← e]
  exact Nat.and_le_right
theorem cg_nlex : ∀ (i a b : Nat), a.testBit i = true → b.testBit i = false → (∀ j, i < j → b.testBit j = true → a.testBit j = true) → b < a := by
  intro i
  induction i with
  | zero =>
    intro a b ha hb h
    rw [Nat.testBit_zero] at ha hb
    have ha := of_decide_eq_true ha
    have hb := of_decide_eq_false hb
    have := cg_sub (a := a / 2) (b := b / 2) (fun j hj => by rw [← Nat.testBit_succ] at hj ⊢; exact h (j + 1) (by omega) hj)
    omega
  | succ i ih =>
    intro a b ha hb h
    rw [Nat.testBit_succ] at ha hb
    have := ih (a / 2) (b / 2) ha hb (fun j hj g => by rw [← Nat.testBit_succ] at g ⊢; exact h (j + 1) (by omega) g)
    omega
theorem cg_toInt {x : Int32} (h : ¬ cg_b x 31) : x.toInt = (x.toBitVec.toNat : Int) := by
  have m : x.toBitVec.msb = false := by
    rw [BitVec.msb_eq_getLsbD_last]
    exact Bool.eq_false_iff.mpr h
  show x.toBitVec.toInt = _
  rw [BitVec.toInt_eq_msb_cond, m]
  rfl
theorem cg_pos {x : Int32} (h : ¬ cg_b x 31) : ¬ x < 0 := by
  rw [Int32.lt_iff_toInt_lt, cg_toInt h]
  have : (0 : Int32).toInt = 0 := by decide
  omega
/-- of two lists the lesser, as numbers, is the lesser lexicographically -/
theorem cg_lex {x y : Int32} (hx : ¬ cg_b x 31) (hy : ¬ cg_b y 31) (h : ¬ y < x) {i : Nat} (xi : cg_b x i) (yi : ¬ cg_b y i) : ∃ j, i < j ∧ cg_b y j ∧ ¬ cg_b x j := by
  refine Classical.byContradiction (fun z => h ?_)
  rw [Int32.lt_iff_toInt_lt, cg_toInt hx, cg_toInt hy]
  have := cg_nlex i x.toBitVec.toNat y.toBitVec.toNat xi (Bool.eq_false_iff.mpr yi) (fun j hj g => Classical.byContradiction (fun w => z ⟨j, hj, g, w⟩))
  omega
end
section
/-- a strict order on the tasks below n -/
def cg_O (n : Nat) (R : Nat → Nat → Prop) : Prop := (∀ u v, R u v → u < n ∧ v < n) ∧ (∀ u v w, R u v → R v w → R u w) ∧ (∀ u, ¬ R u u)
/-- how many tasks are after u -/
noncomputable def cg_f (n : Nat) (R : Nat → Nat → Prop) (u : Nat) : Nat := cg_cnt (R u) n
theorem cg_f_lt {n : Nat} {R : Nat → Nat → Prop} (h : cg_O n R) {u v : Nat} (r : R u v) : cg_f n R v < cg_f n R u :=
  cg_cnt_more (a := v) (h.1 u v r).2 (h.2.2 v) r (fun x _ g => h.2.1 u v x r g)
/-- a last one of a set: none after it is in the set -/
theorem cg_last {n : Nat} {R : Nat → Nat → Prop} (h : cg_O n R) {p : Nat → Prop} (e : ∃ x, x < n ∧ p x) : ∃ x, x < n ∧ p x ∧ ∀ y, p y → ¬ R x y := by
  obtain ⟨x, hx, px, mx⟩ := cg_max (p := p) (fun x => n - cg_f n R x) n e
  refine ⟨x, hx, px, fun y py r => ?_⟩
  have h1 := cg_f_lt h r
  have h2 := mx y (h.1 x y r).2 py
  have h3 : cg_f n R x ≤ n := cg_cnt_le _ _
  have h4 : n - cg_f n R y ≤ n - cg_f n R x := h2
  omega
/-- a first one of a set: none before it is in the set -/
theorem cg_first {n : Nat} {R : Nat → Nat → Prop} (h : cg_O n R) {p : Nat → Prop} (e : ∃ x, x < n ∧ p x) : ∃ x, x < n ∧ p x ∧ ∀ y, p y → ¬ R y x := by
  obtain ⟨x, hx, px, mx⟩ := cg_max (p := p) (cg_f n R) n e
  refine ⟨x, hx, px, fun y py r => ?_⟩
  have h1 := cg_f_lt h r
  have h2 := mx y (h.1 y x r).1 py
  omega
/-- labels 1 .. k have been given -/
def cg_LI (n : Nat) (R : Nat → Nat → Prop) (lab : Nat → Nat) (k : Nat) : Prop :=
  (∀ v, v < n → lab v ≤ k) ∧
  (∀ u v, u < n → v < n → lab u = lab v → lab u ≠ 0 → u = v) ∧
  (∀ v x, v < n → lab v ≠ 0 → cg_N R v x → lab x ≠ 0 ∧ lab x < lab v) ∧
  (∀ u v x, u < n → v < n → lab u ≠ 0 → (lab v = 0 ∨ lab u < lab v) → cg_N R u x → ¬ cg_N R v x → ∃ y, cg_N R v y ∧ ¬ cg_N R u y ∧ (lab y = 0 ∨ lab x < lab y)) ∧
  (k ≤ cg_cnt (fun x => lab x ≠ 0) n ∨ ∀ x, x < n → lab x ≠ 0)
theorem cg_LI_0 {n : Nat} {R : Nat → Nat → Prop} {lab : Nat → Nat} (h : ∀ v, v < n → lab v = 0) : cg_LI n R lab 0 :=
  ⟨fun v hv => by rw [h v hv]; exact Nat.le_refl _, fun u v hu _ _ g => absurd (h u hu) g, fun v x hv g => absurd (h v hv) g, fun u v x hu _ g => absurd (h u hu) g, Or.inl (Nat.zero_le _)⟩
/-- v can get a label -/
def cg_cand (R : Nat → Nat → Prop) (lab : Nat → Nat) (v : Nat) : Prop := lab v = 0 ∧ ∀ x, cg_N R v x → lab x ≠ 0
/-- v's list isn't less than b's -/
def cg_lle (R : Nat → Nat → Prop) (lab : Nat → Nat) (b v : Nat) : Prop := ∀ x, cg_N R b x → ¬ cg_N R v x → ∃ y, cg_N R v y ∧ ¬ cg_N R b y ∧ lab x < lab y
theorem cg_LI_no {n : Nat} {R : Nat → Nat → Prop} {lab : Nat → Nat} {k : Nat} (hO : cg_O n R) (h : cg_LI n R lab k) (hc : ∀ v, v < n → ¬ cg_cand R lab v) : cg_LI n R lab (k + 1) := by
  obtain ⟨h1, h2, h3, h4, h5⟩ := h
  refine ⟨fun v hv => Nat.le_succ_of_le (h1 v hv), h2, h3, h4, Or.inr (fun x hx z => ?_)⟩
  obtain ⟨v, vn, lv, hl⟩ := cg_last hO (p := fun x => lab x = 0) ⟨x, hx, z⟩
  exact hc v vn ⟨lv, fun y ny ly => hl y ly ny.1⟩
theorem cg_LI_put {n : Nat} {R : Nat → Nat → Prop} {lab lab' : Nat → Nat} {k b : Nat} (h : cg_LI n R lab k) (bn : b < n) (hb : cg_cand R lab b)
    (hm : ∀ v, v < n → v ≠ b → cg_cand R lab v → cg_lle R lab b v) (hR : ∀ u v, R u v → u < n ∧ v < n)
    (e1 : lab' b = k + 1) (e2 : ∀ x, x ≠ b → lab' x = lab x) : cg_LI n R lab' (k + 1) := by
  obtain ⟨h1, h2, h3, h4, h5⟩ := h
  refine ⟨fun v hv => ?_, fun u v hu hv => ?_, fun v x hv lv nv => ?_, fun u v x hu hv lu lv nu nv => ?_, ?_⟩
  · by_cases e : v = b
    · rw [e, e1]; exact Nat.le_refl _
    · rw [e2 v e]; exact Nat.le_succ_of_le (h1 v hv)
  · intro z g
    by_cases eu : u = b
    · by_cases ev : v = b
      · rw [eu, ev]
      · rw [eu, e1, e2 v ev] at z
        have := h1 v hv
        omega
    · by_cases ev : v = b
      · rw [ev, e1, e2 u eu] at z
        have := h1 u hu
        omega
      · rw [e2 u eu, e2 v ev] at z
        rw [e2 u eu] at g
        exact h2 u v hu hv z g
  · have xn := (hR v x nv.1).2
    by_cases ev : v = b
    · rw [ev] at nv ⊢
      have lx := hb.2 x nv
      have ex : x ≠ b := fun z => lx (by rw [z]; exact hb.1)
      rw [e2 x ex, e1]
      exact ⟨lx, by have := h1 x xn; omega⟩
    · rw [e2 v ev] at lv ⊢
      have g := h3 v x hv lv nv
      have ex : x ≠ b := fun z => g.1 (by rw [z]; exact hb.1)
      rw [e2 x ex]
      exact g
  · have xn := (hR u x nu.1).2
    by_cases eu : u = b
    · rw [eu] at nu lv
      rw [eu]
      have ev : v ≠ b := fun z => nv (by rw [z]; exact nu)
      rw [e2 v ev, e1] at lv
      have l0 : lab v = 0 := by
        rcases lv with z | z
        · exact z
        · have := h1 v hv
          omega
      have lx := hb.2 x nu
      have ex : x ≠ b := fun z => lx (by rw [z]; exact hb.1)
      by_cases hc : ∀ y, cg_N R v y → lab y ≠ 0
      · obtain ⟨y, y1, y2, y3⟩ := hm v hv ev ⟨l0, hc⟩ x nu nv
        refine ⟨y, y1, y2, Or.inr ?_⟩
        have ey : y ≠ b := fun z => hc y y1 (by rw [z]; exact hb.1)
        rw [e2 x ex, e2 y ey]
        exact y3
      · refine Classical.byContradiction (fun hn => hc (fun y ny ly => hn ⟨y, ny, fun z => hb.2 y z ly, ?_⟩))
        by_cases ey : y = b
        · rw [ey, e1, e2 x ex]
          exact Or.inr (by have := h1 x xn; omega)
        · rw [e2 y ey]
          exact Or.inl ly
    · rw [e2 u eu] at lu lv
      have lx := h3 u x hu lu nu
      have ex : x ≠ b := fun z => lx.1 (by rw [z]; exact hb.1)
      have lv' : lab v = 0 ∨ lab u < lab v := by
        by_cases ev : v = b
        · rw [ev]; exact Or.inl hb.1
        · rw [e2 v ev] at lv
          exact lv
      obtain ⟨y, y1, y2, y3⟩ := h4 u v x hu hv lu lv' nu nv
      refine ⟨y, y1, y2, ?_⟩
      by_cases ey : y = b
      · rw [ey, e1, e2 x ex]
        exact Or.inr (by have := h1 x xn; omega)
      · rw [e2 y ey, e2 x ex]
        exact y3
  · rcases h5 with h5 | h5
    · refine Or.inl (Nat.le_trans (Nat.succ_le_succ h5) (cg_cnt_more (a := b) bn (fun z => z hb.1) ?_ (fun x hx g => ?_)))
      · show lab' b ≠ 0
        rw [e1]; omega
      · show lab' x ≠ 0
        rw [e2 x (fun z => g (by rw [z]; exact hb.1))]
        exact g
    · exact absurd hb.1 (h5 b bn)
/-- a law of immediate successors is a law of successors -/
theorem cg_mono {n : Nat} {R : Nat → Nat → Prop} (hO : cg_O n R) {lab : Nat → Nat} (h : ∀ u v, cg_N R u v → lab v < lab u) : ∀ u v, R u v → lab v < lab u := by
  have A : ∀ m u v, cg_cnt (fun z => R u z ∧ R z v) n ≤ m → R u v → lab v < lab u := by
    intro m
    induction m using Nat.strongRecOn with
    | ind m ih =>
    intro u v hm r
    by_cases g : ∃ z, R u z ∧ R z v
    · obtain ⟨z, r1, r2⟩ := g
      have zn := (hO.1 u z r1).2
      have a1 : cg_cnt (fun w => R u w ∧ R w z) n + 1 ≤ cg_cnt (fun w => R u w ∧ R w v) n :=
        cg_cnt_more (a := z) zn (fun k => hO.2.2 z k.2) ⟨r1, r2⟩ (fun x _ k => ⟨k.1, hO.2.1 _ _ _ k.2 r2⟩)
      have a2 : cg_cnt (fun w => R z w ∧ R w v) n + 1 ≤ cg_cnt (fun w => R u w ∧ R w v) n :=
        cg_cnt_more (a := z) zn (fun k => hO.2.2 z k.1) ⟨r1, r2⟩ (fun x _ k => ⟨hO.2.1 _ _ _ r1 k.1, k.2⟩)
      have b1 := ih _ (by omega) u z (Nat.le_refl _) r1
      have b2 := ih _ (by omega) z v (Nat.le_refl _) r2
      omega
    · exact h u v ⟨r, fun z r1 r2 => g ⟨z, r1, r2⟩⟩
  exact fun u v r => A _ u v (Nat.le_refl _) r
theorem cg_LI_end {n : Nat} {R : Nat → Nat → Prop} {lab : Nat → Nat} (hn : n ≤ 9) (hO : cg_O n R) (h : cg_LI n R lab 9) : cg_L n R lab ∧ ∀ x, x < n → lab x ≤ 9 := by
  obtain ⟨h1, h2, h3, h4, h5⟩ := h
  have al : ∀ x, x < n → lab x ≠ 0 := by
    rcases h5 with z | z
    · exact cg_cnt_full n (by omega)
    · exact z
  refine ⟨⟨fun u v hu hv e => h2 u v hu hv e (al u hu), cg_mono hO (fun u v r => (h3 u v (hO.1 u v r.1).1 (al u (hO.1 u v r.1).1) r).2), fun u v x hu hv l nu nv => ?_⟩, h1⟩
  obtain ⟨y, y1, y2, y3⟩ := h4 u v x hu hv (al u hu) (Or.inr l) nu nv
  refine ⟨y, y1, y2, ?_⟩
  rcases y3 with z | z
  · exact absurd z (al y (hO.1 v y y1.1).2)
  · exact z
/-- the schedule so far: D done, in slots 1 .. len -/
def cg_SI (n : Nat) (R : Nat → Nat → Prop) (lab : Nat → Nat) (D : Nat → Prop) (t : Nat → Nat) (len : Nat) : Prop :=
  (∀ x, D x → x < n ∧ 1 ≤ t x ∧ t x ≤ len) ∧
  (∀ u v, R u v → D v → D u ∧ t u < t v) ∧
  (∀ j, cg_cnt (fun x => D x ∧ t x = j) n ≤ 2) ∧
  (∀ j, 1 ≤ j → j ≤ len → ∃ x, D x ∧ t x = j) ∧
  (∀ x s, x < n → 1 ≤ s → s ≤ len → (D x → s < t x) → (∃ u, R u x ∧ (D u → s ≤ t u)) ∨ ∃ p q, D p ∧ D q ∧ p ≠ q ∧ t p = s ∧ t q = s ∧ lab x < lab p ∧ lab x < lab q)
theorem cg_SI_0 {n : Nat} {R : Nat → Nat → Prop} {lab t : Nat → Nat} {D : Nat → Prop} (h : ∀ x, ¬ D x) : cg_SI n R lab D t 0 :=
  ⟨fun x z => absurd z (h x), fun u v _ z => absurd z (h v), fun j => by rw [cg_cnt_none n (fun x _ z => h x z.1)]; exact Nat.zero_le _, fun j h1 h2 => by omega, fun x s _ h1 h2 => by omega⟩
/-- x can be taken: it is not done and no task that is not done precedes it -/
def cg_rdy (n : Nat) (R : Nat → Nat → Prop) (D : Nat → Prop) (x : Nat) : Prop := x < n ∧ ¬ D x ∧ ∀ u, u < n → ¬ D u → ¬ R u x
theorem cg_rdy_ex {n : Nat} {R : Nat → Nat → Prop} (hO : cg_O n R) {D : Nat → Prop} (h : ∃ x, x < n ∧ ¬ D x) : ∃ x, cg_rdy n R D x := by
  obtain ⟨x, xn, nx, hx⟩ := cg_first hO (p := fun x => ¬ D x) h
  exact ⟨x, xn, nx, fun u _ nu => hx u nu⟩
theorem cg_SI_put {n : Nat} {R : Nat → Nat → Prop} {lab t t' : Nat → Nat} {D D' : Nat → Prop} {len p q : Nat} (hO : cg_O n R) (hj : ∀ u v, u < n → v < n → lab u = lab v → u = v)
    (h : cg_SI n R lab D t len) (hp : cg_rdy n R D p) (hq : cg_rdy n R D q) (mp : ∀ x, cg_rdy n R D x → lab x ≤ lab p)
    (mq : (q = p ∧ ∀ x, cg_rdy n R D x → x = p) ∨ (q ≠ p ∧ ∀ x, cg_rdy n R D x → x ≠ p → lab x ≤ lab q))
    (hD : ∀ x, D' x ↔ D x ∨ x = p ∨ x = q) (ht : ∀ x, D x → t' x = t x) (tp : t' p = len + 1) (tq : t' q = len + 1) : cg_SI n R lab D' t' (len + 1) := by
  obtain ⟨h1, h2, h3, h4, h5⟩ := h
  have new : ∀ x, D' x → D x ∨ (¬ D x ∧ t' x = len + 1 ∧ cg_rdy n R D x ∧ (x = p ∨ x = q)) := by
    intro x dx
    rcases (hD x).mp dx with z | z | z
    · exact Or.inl z
    · rw [z]; exact Or.inr ⟨hp.2.1, tp, hp, Or.inl rfl⟩
    · rw [z]; exact Or.inr ⟨hq.2.1, tq, hq, Or.inr rfl⟩
  have old : ∀ x, D x → D' x := fun x z => (hD x).mpr (Or.inl z)
  refine ⟨fun x dx => ?_, fun u v r dv => ?_, fun j => ?_, fun j j1 j2 => ?_, fun x s xn s1 s2 hs => ?_⟩
  · rcases new x dx with z | z
    · have := h1 x z
      rw [ht x z]
      exact ⟨this.1, this.2.1, by omega⟩
    · exact ⟨z.2.2.1.1, by omega, by omega⟩
  · rcases new v dv with z | z
    · have g := h2 u v r z
      refine ⟨old u g.1, ?_⟩
      rw [ht u g.1, ht v z]
      exact g.2
    · have un := (hO.1 u v r).1
      have du : D u := Classical.byContradiction (fun k => z.2.2.1.2.2 u un k r)
      refine ⟨old u du, ?_⟩
      rw [ht u du, z.2.1]
      have := (h1 u du).2.2
      omega
  · by_cases e : j = len + 1
    · have a1 : cg_cnt (fun x => D' x ∧ t' x = j) n ≤ cg_cnt (fun x => x = p ∨ x = q) n := cg_cnt_mono n (fun x _ z => by
        rcases new x z.1 with k | k
        · have := (h1 x k).2.2
          have e2 := z.2
          rw [ht x k] at e2
          omega
        · exact k.2.2.2)
      have a2 := cg_cnt_or (p := fun x => x = p) (q := fun x => x = q) n
      rw [cg_cnt_eq1 n hp.1, cg_cnt_eq1 n hq.1] at a2
      omega
    · refine Nat.le_trans (cg_cnt_mono n (fun x _ z => ?_)) (h3 j)
      rcases new x z.1 with k | k
      · exact ⟨k, by rw [← ht x k]; exact z.2⟩
      · have := z.2
        have := k.2.1
        omega
  · by_cases e : j = len + 1
    · exact ⟨p, (hD p).mpr (Or.inr (Or.inl rfl)), by rw [tp, e]⟩
    · obtain ⟨x, dx, tx⟩ := h4 j j1 (by omega)
      exact ⟨x, old x dx, by rw [ht x dx, tx]⟩
  · by_cases e : s = len + 1
    · have nx : ¬ D' x := fun dx => by
        have g := hs dx
        rcases new x dx with k | k
        · have := (h1 x k).2.2
          rw [ht x k] at g
          omega
        · have := k.2.1
          omega
      have xp : x ≠ p := fun z => nx ((hD x).mpr (Or.inr (Or.inl z)))
      have xq : x ≠ q := fun z => nx ((hD x).mpr (Or.inr (Or.inr z)))
      by_cases rx : cg_rdy n R D x
      · rcases mq with k | k
        · exact absurd (k.2 x rx) xp
        · refine Or.inr ⟨p, q, (hD p).mpr (Or.inr (Or.inl rfl)), (hD q).mpr (Or.inr (Or.inr rfl)), fun z => k.1 z.symm, by rw [tp, e], by rw [tq, e], ?_, ?_⟩
          · have a := mp x rx
            rcases Nat.lt_or_ge (lab x) (lab p) with w | w
            · exact w
            · exact absurd (hj x p xn hp.1 (by omega)) xp
          · have a := k.2 x rx xp
            rcases Nat.lt_or_ge (lab x) (lab q) with w | w
            · exact w
            · exact absurd (hj x q xn hq.1 (by omega)) xq
      · refine Or.inl (Classical.byContradiction (fun z => rx ⟨xn, fun k => nx (old x k), fun u un nu r => z ⟨u, r, fun du => ?_⟩⟩))
        rcases new u du with k | k
        · exact absurd k nu
        · rw [k.2.1, e]
          exact Nat.le_refl _
    · rcases h5 x s xn s1 (by omega) (fun dx => by have g := hs (old x dx); rw [ht x dx] at g; exact g) with ⟨u, r, g⟩ | ⟨a, b, da, db, ab, ta, tb, la, lb⟩
      · refine Or.inl ⟨u, r, fun du => ?_⟩
        rcases new u du with k | k
        · rw [ht u k]; exact g k
        · rw [k.2.1]; omega
      · exact Or.inr ⟨a, b, old a da, old b db, ab, by rw [ht a da, ta], by rw [ht b db, tb], la, lb⟩
theorem cg_SI_cnt {n : Nat} {R : Nat → Nat → Prop} {lab t : Nat → Nat} {D : Nat → Prop} {len : Nat} (h : cg_SI n R lab D t len) : len ≤ cg_cnt D n := by
  have h1 : 1 * len ≤ cg_cnt (fun x => D x ∧ 0 < t x ∧ t x ≤ 0 + len) n := cg_slots_ge len (fun j j1 j2 => by
    obtain ⟨x, dx, tx⟩ := h.2.2.2.1 j (by omega) (by omega)
    exact cg_cnt_1 (p := fun x => D x ∧ t x = j) (h.1 x dx).1 ⟨dx, tx⟩)
  have h2 : cg_cnt (fun x => D x ∧ 0 < t x ∧ t x ≤ 0 + len) n ≤ cg_cnt D n := cg_cnt_mono n (fun x _ z => z.1)
  omega
theorem cg_SI_end {n : Nat} {R : Nat → Nat → Prop} {lab t : Nat → Nat} {D : Nat → Prop} {len : Nat} (hO : cg_O n R) (hL : cg_L n R lab) (h : cg_SI n R lab D t len) (hD : ∀ x, x < n → D x) : cg_S n R len := by
  obtain ⟨h1, h2, h3, h4, h5⟩ := h
  refine ⟨lab, t, hL, ⟨fun x hx => (h1 x (hD x hx)).2, fun u v r => (h2 u v r (hD v (hO.1 u v r).2)).2, fun j => ?_⟩, fun x s xn s1 s2 => ?_, fun l1 => ?_⟩
  · refine Nat.le_trans (cg_cnt_mono n (fun x hx z => ?_)) (h3 j)
    exact ⟨hD x hx, z.2⟩
  · rcases h5 x s xn s1 (by have := (h1 x (hD x xn)).2.2; omega) (fun _ => s2) with ⟨u, r, g⟩ | ⟨a, b, da, db, ab, ta, tb, la, lb⟩
    · exact Or.inl ⟨u, r, g (hD u (hO.1 u x r).1)⟩
    · exact Or.inr ⟨a, b, (h1 a da).1, (h1 b db).1, ab, ta, tb, la, lb⟩
  · obtain ⟨x, dx, tx⟩ := h4 len l1 (Nat.le_refl _)
    exact ⟨x, (h1 x dx).1, tx⟩
end
section
/-- immediate(u, set) -/
theorem cg_imm {post : Int32 → Prop} {n : Nat} {pt : Int32} {a1 a2 a3 a4 : Nat → Int32} {p0 p1 : Int32} (hn : n ≤ 9)
    (H : ∀ r, (∀ v, cg_b r v ↔ cg_b p1 v ∧ ∀ w, w < n → cg_b p1 w → ¬ cg_b (a2 w) v) → post r) :
    wpX_immediate post (nI n, pt, a1, a2, a3, a4) p0 p1 := by
  unfold wpX_immediate
  refine pk_loop (fun f i s => wX_immediate_5 post p1 (nI n) pt a1 a2 a3 a4 f s (nI i)) (fun i s => ∀ v, cg_b s v ↔ cg_b p1 v ∧ ∀ w, w < i → cg_b p1 w → ¬ cg_b (a2 w) v) n 0 p1 (by omega) ?_ ?_ ?_
  · intro v
    exact ⟨fun h => ⟨h, fun w hw => absurd hw (by omega)⟩, fun h => h.1⟩
  · intro f s h
    exact pk_le n n (fun _ => H s h) (fun z => absurd z (by omega))
  · intro f i s hi h hw
    refine pk_le n i (fun z => absurd z (by omega)) (fun _ => cg_br i (by omega) (fun b => nm_r (nI_1 i) (hw _ (fun v => ?_))) (fun b => ⟨pk_in i 9 (by omega), ?_⟩))
    · rw [h v]
      exact ⟨fun g => ⟨g.1, fun w wi bw => if e : w = i then absurd (by rw [← e]; exact bw) b else g.2 w (by omega) bw⟩, fun g => ⟨g.1, fun w wi bw => g.2 w (by omega) bw⟩⟩
    · rw [nI_clamp (show i < 2 ^ 31 by omega)]
      refine nm_e (nm_r (nI_1 i) (hw _ (fun v => ?_)))
      rw [cg_b_an, h v]
      constructor
      · intro g
        refine ⟨g.1.1, fun w wi bw => ?_⟩
        by_cases e : w = i
        · rw [e]; exact g.2
        · exact g.1.2 w (by omega) bw
      · intro g
        exact ⟨⟨g.1, fun w wi bw => g.2 w (by omega) bw⟩, g.2 i (by omega) b⟩
/-- bitsIn(set) -/
theorem cg_bits {post : Int32 → Prop} {n : Int32} {pt : Int32} {a1 a2 a3 a4 : Nat → Int32} {p0 : Int32}
    (H : post (nI (cg_cnt (cg_b p0) 9))) : wpX_bitsIn post (n, pt, a1, a2, a3, a4) p0 := by
  unfold wpX_bitsIn
  refine pk_loop (fun f i s => wX_bitsIn_4 post p0 n pt a1 a2 a3 a4 f s (nI i)) (fun i s => s = nI (cg_cnt (cg_b p0) i)) 9 0 0 (by omega) rfl ?_ ?_
  · intro f s h
    rw [h]
    exact pk_le 9 9 (fun _ => H) (fun z => absurd z (by omega))
  · intro f i s hi h hw
    refine pk_le 9 i (fun z => absurd z (by omega)) (fun _ => nm_e (nm_r (nI_1 i) (hw _ ?_)))
    by_cases b : cg_b p0 i
    · rw [cg_tst_t (by omega) b, cg_cnt_t b, h, nI_1]
    · rw [cg_tst_f (by omega) b, cg_cnt_f b, h, ← nI_0, nI_add, Nat.add_zero]
/-- the orders that stand between n tasks -/
def cg_R (n : Nat) (a : Nat → Int32) (u v : Nat) : Prop := u < n ∧ v < n ∧ cg_b (a u) v
noncomputable def cg_sum (f : Nat → Nat) : Nat → Nat
  | 0 => 0
  | k + 1 => cg_sum f k + f k
/-- what superfluous() answers -/
noncomputable def cg_sup (n : Nat) (a1 a2 : Nat → Int32) : Nat :=
  cg_sum (fun u => cg_cnt (fun v => cg_b (a1 u) v ∧ ¬ (cg_b (a2 u) v ∧ ∀ w, w < n → cg_b (a2 u) w → ¬ cg_b (a2 w) v)) 9) n
theorem cg_supf {post : Int32 → Prop} {n : Nat} {pt : Int32} {a1 a2 a3 a4 : Nat → Int32} (hn : n ≤ 9)
    (H : post (nI (cg_sup n a1 a2))) : wpX_superfluous post (nI n, pt, a1, a2, a3, a4) := by
  unfold wpX_superfluous
  refine pk_loop (fun f i s => wX_superfluous_4 post (nI n) pt a1 a2 a3 a4 f s (nI i)) (fun i s => s = nI (cg_sum (fun u => cg_cnt (fun v => cg_b (a1 u) v ∧ ¬ (cg_b (a2 u) v ∧ ∀ w, w < n → cg_b (a2 u) w → ¬ cg_b (a2 w) v)) 9) i)) n 0 0 (by omega) rfl ?_ ?_
  · intro f s h
    rw [h]
    exact pk_le n n (fun _ => H) (fun z => absurd z (by omega))
  · intro f i s hi h hw
    refine pk_le n i (fun z => absurd z (by omega)) (fun _ => ⟨pk_in i 9 (by omega), cg_imm hn (fun r hr => ⟨pk_in i 9 (by omega), cg_bits (nm_e (nm_r (nI_1 i) (hw _ ?_)))⟩)⟩)
    rw [nI_clamp (show i < 2 ^ 31 by omega)] at hr ⊢
    rw [h, nI_add]
    refine congrArg nI ?_
    show _ = cg_sum _ i + cg_cnt _ 9
    refine congrArg (fun z => _ + z) (cg_cnt_congr 9 (fun v hv => ?_))
    rw [cg_b_an, hr v]
/-- isTask(v) -/
theorem cg_task {post : Int32 → Prop} {n : Nat} {pt : Int32} {a1 a2 a3 a4 : Nat → Int32} {v : Nat} (hn : n ≤ 9) (hv : v ≤ 9)
    (H1 : v < n → post 1) (H0 : n ≤ v → post 0) : wpX_isTask post (nI n, pt, a1, a2, a3, a4) (nI v) :=
  br_f (nI_pos (by omega)) (pk_le n v (fun z => H0 z) (fun z => H1 z))
/-- after(u, v) -/
theorem cg_aft {post : Int32 → Prop} {n : Nat} {pt : Int32} {a1 a2 a3 a4 : Nat → Int32} {u v : Nat} (hn : n ≤ 9) (hu : u ≤ 9) (hv : v ≤ 9)
    (H1 : cg_R n a2 u v → post 1) (H0 : ¬ cg_R n a2 u v → post 0) : wpX_after post (nI n, pt, a1, a2, a3, a4) (nI u) (nI v) := by
  unfold wpX_after
  refine cg_task hn hu (fun un => br_f (by decide) (cg_task hn hv (fun vn => br_f (by decide) ⟨pk_in u 9 (by omega), ?_⟩) (fun vn => br_t rfl (H0 (fun z => by have := z.2.1; omega))))) (fun un => br_t rfl (H0 (fun z => by have := z.1; omega)))
  rw [nI_clamp (show u < 2 ^ 31 by omega)]
  exact cg_br v (by omega) (fun b => H0 (fun z => b z.2.2)) (fun b => H1 ⟨un, vn, b⟩)
/-- isReady(v, rest) -/
theorem cg_isr {post : Int32 → Prop} {n : Nat} {pt : Int32} {a1 a2 a3 a4 : Nat → Int32} {v : Nat} {op : Int32} (hn : n ≤ 9) (hv : v ≤ 9)
    (H1 : (∀ u, u < n → cg_b op u → ¬ cg_b (a2 u) v) → post 1) (H0 : (∃ u, u < n ∧ cg_b op u ∧ cg_b (a2 u) v) → post 0) : wpX_isReady post (nI n, pt, a1, a2, a3, a4) (nI v) op := by
  unfold wpX_isReady
  refine pk_loop (σ := Unit) (fun f i _ => wX_isReady_2 post (nI v) op (nI n) pt a1 a2 a3 a4 f (nI i)) (fun i _ => ∀ u, u < i → cg_b op u → ¬ cg_b (a2 u) v) n 0 () (by omega) (fun u hu => absurd hu (by omega)) ?_ ?_
  · intro f s h
    exact pk_le n n (fun _ => H1 h) (fun z => absurd z (by omega))
  · intro f i s hi h hw
    refine pk_le n i (fun z => absurd z (by omega)) (fun _ => cg_br i (by omega) (fun b => nm_r (nI_1 i) (hw () (lt_s h (fun z => absurd z b)))) (fun b => ⟨pk_in i 9 (by omega), ?_⟩))
    rw [nI_clamp (show i < 2 ^ 31 by omega)]
    exact cg_br v (by omega) (fun c => nm_r (nI_1 i) (hw () (lt_s h (fun _ => c)))) (fun c => H0 ⟨i, hi, b, c⟩)
/-- x can be taken -/
def cg_rd (n : Nat) (a2 : Nat → Int32) (op sl : Int32) (x : Nat) : Prop := cg_b op x ∧ ¬ cg_b sl x ∧ ∀ u, u < n → cg_b op u → ¬ cg_b (a2 u) x
/-- bestReady(done, slot) -/
theorem cg_best {post : Int32 → Prop} {n : Nat} {pt : Int32} {a1 a2 a3 a4 : Nat → Int32} {lab : Nat → Nat} {dn sl : Int32} (hn : n ≤ 9) (hl : ∀ x, x < n → a4 x = nI (lab x) ∧ lab x ≤ 9)
    (H0 : (∀ x, x < n → ¬ cg_rd n a2 (pt &&& (dn ^^^ (-1))) sl x) → post (-1))
    (H1 : ∀ b, b < n → cg_rd n a2 (pt &&& (dn ^^^ (-1))) sl b → (∀ x, x < n → cg_rd n a2 (pt &&& (dn ^^^ (-1))) sl x → lab x ≤ lab b) → post (nI b)) :
    wpX_bestReady post (nI n, pt, a1, a2, a3, a4) dn sl := by
  unfold wpX_bestReady
  refine nm_e ?_
  generalize pt &&& (dn ^^^ (-1)) = op at H0 H1 ⊢
  refine pk_loop (fun f i s => wX_bestReady_15 post sl op (nI n) pt a1 a2 a3 a4 f s (nI i)) (fun i s => (s = -1 ∧ ∀ x, x < i → ¬ cg_rd n a2 op sl x) ∨ ∃ b, b < i ∧ s = nI b ∧ cg_rd n a2 op sl b ∧ ∀ x, x < i → cg_rd n a2 op sl x → lab x ≤ lab b) n 0 (-1) (by omega) (Or.inl ⟨rfl, fun x hx => absurd hx (by omega)⟩) ?_ ?_
  · intro f s h
    refine pk_le n n (fun _ => ?_) (fun z => absurd z (by omega))
    rcases h with ⟨e, h⟩ | ⟨b, bn, e, rb, mb⟩
    · rw [e]; exact H0 h
    · rw [e]; exact H1 b bn rb mb
  · intro f i s hi h hw
    have no : ¬ cg_rd n a2 op sl i → wX_bestReady_15 post sl op (nI n) pt a1 a2 a3 a4 f s (nI (i + 1)) := fun nr => hw s (by
      rcases h with ⟨e, h⟩ | ⟨b, bn, e, rb, mb⟩
      · exact Or.inl ⟨e, lt_s h nr⟩
      · exact Or.inr ⟨b, by omega, e, rb, lt_s mb (fun z => absurd z nr)⟩)
    refine pk_le n i (fun z => absurd z (by omega)) (fun _ => cg_br i (by omega) (fun b => nm_r (nI_1 i) (no (fun z => b z.1))) (fun b1 => cg_br i (by omega) (fun b2 => ?_) (fun b2 => nm_r (nI_1 i) (no (fun z => z.2.1 b2)))))
    refine cg_isr hn (by omega) (fun r => br_f (by decide) ?_) (fun r => br_t rfl (nm_r (nI_1 i) (no (fun z => by
      obtain ⟨u, un, ou, au⟩ := r
      exact z.2.2 u un ou au))))
    have ri : cg_rd n a2 op sl i := ⟨b1, b2, r⟩
    rcases h with ⟨e, h⟩ | ⟨b, bn, e, rb, mb⟩
    · rw [e]
      refine br_t (by decide) (nm_r (nI_1 i) (hw (nI i) (Or.inr ⟨i, by omega, rfl, ri, fun x hx rx => ?_⟩)))
      by_cases ex : x = i
      · rw [ex]; exact Nat.le_refl _
      · exact absurd rx (h x (by omega))
    · rw [e]
      refine br_f (nI_pos (by omega)) ⟨pk_in i 9 (by omega), pk_in b 9 (by omega), ?_⟩
      rw [nI_clamp (show i < 2 ^ 31 by omega), nI_clamp (show b < 2 ^ 31 by omega), (hl i hi).1, (hl b (by omega)).1]
      have l1 := (hl i hi).2
      have l2 := (hl b (by omega)).2
      refine pk_le (lab i) (lab b) (fun g => nm_r (nI_1 i) (hw (nI b) (Or.inr ⟨b, by omega, rfl, rb, lt_s mb (fun _ => g)⟩))) (fun g => nm_r (nI_1 i) (hw (nI i) (Or.inr ⟨i, by omega, rfl, ri, fun x hx rx => ?_⟩)))
      by_cases ex : x = i
      · rw [ex]; exact Nat.le_refl _
      · have := mb x (by omega) rx
        omega
end
section
/-- heightOf(u) isn't more than the length of any schedule -/
theorem cg_hof {post : Int32 → Prop} {n : Nat} {pt : Int32} {a1 a2 a3 a4 : Nat → Int32} {p : Nat} {t : Nat → Nat} {len : Nat} (hn : n ≤ 9) (hp : p < n) (hb2 : ∀ u, u < n → ∀ i, cg_b (a2 u) i → i < n)
    (ht : ∀ x, x < n → 1 ≤ t x ∧ t x ≤ len) (hR : ∀ u v, cg_R n a2 u v → t u < t v) (H : ∀ h, h ≤ len → h ≤ 10 → post (nI h)) : wpX_heightOf post (nI n, pt, a1, a2, a3, a4) (nI p) := by
  unfold wpX_heightOf
  refine ⟨pk_in p 9 (by omega), nm_e ?_⟩
  rw [nI_clamp (show p < 2 ^ 31 by omega)]
  refine pk_loop (fun f i s => wX_heightOf_12 post (nI n) pt a1 a2 a3 a4 f s (nI (i + 1)) (nI i)) (fun i s => (∀ x, cg_b s x → cg_R n a2 p x ∧ t x + i ≤ len) ∧ i + 1 ≤ len) 9 0 (a2 p) (by omega) ?_ ?_ ?_
  · refine ⟨fun x hx => ⟨⟨hp, hb2 p hp x hx, hx⟩, ?_⟩, ?_⟩
    · exact (ht x (hb2 p hp x hx)).2
    · have := ht p hp
      omega
  · intro f s h
    exact pk_le 9 9 (fun _ => H 10 h.2 (by omega)) (fun z => absurd z (by omega))
  · intro f i s hi h hw
    refine pk_le 9 i (fun z => absurd z (by omega)) (fun _ => br_c (fun _ => H (i + 1) h.2 (by omega)) (fun nz => ?_))
    obtain ⟨x0, hx0⟩ := cg_nz nz
    have r0 := h.1 x0 hx0
    have t0 := hR p x0 r0.1
    have tp := (ht p hp).1
    refine pk_loop (fun g j m => wX_heightOf_29 post (wX_heightOf_12 post (nI n) pt a1 a2 a3 a4 f) s (nI (i + 1)) (nI i) (nI n) pt a1 a2 a3 a4 g m (nI j)) (fun j m => ∀ x, cg_b m x → cg_b s x ∧ ∃ y, cg_b (a2 x) y ∧ cg_b s y) n 0 0 (by omega) (fun x hx => absurd hx cg_b_0) ?_ ?_
    · intro g m hm
      refine pk_le n n (fun _ => nm_r (nI_1 (i + 1)) (nm_r (nI_1 i) (hw m ⟨fun x hx => ?_, by omega⟩))) (fun z => absurd z (by omega))
      obtain ⟨sx, y, ay, sy⟩ := hm x hx
      have rx := h.1 x sx
      have ry := h.1 y sy
      refine ⟨rx.1, ?_⟩
      have := hR x y ⟨rx.1.2.1, ry.1.2.1, ay⟩
      omega
    · intro g j m hj hm hv
      refine pk_le n j (fun z => absurd z (by omega)) (fun _ => cg_br j (by omega) (fun _ => nm_r (nI_1 j) (hv m hm)) (fun b => ⟨pk_in j 9 (by omega), ?_⟩))
      rw [nI_clamp (show j < 2 ^ 31 by omega)]
      refine br_c (fun _ => nm_r (nI_1 j) (hv m hm)) (fun nz2 => nm_e (nm_r (nI_1 j) (hv _ (fun x hx => ?_))))
      rcases cg_b_or.mp hx with z | z
      · exact hm x z
      · rw [(cg_b_shl (by omega)).mp z]
        obtain ⟨y, hy⟩ := cg_nz nz2
        have hy2 := cg_b_and.mp hy
        exact ⟨b, y, hy2.1, hy2.2⟩
/-- height(w) for a task w -/
theorem cg_hgt {post : Int32 → Prop} {n : Nat} {pt : Int32} {a1 a2 a3 a4 : Nat → Int32} {p : Nat} {t : Nat → Nat} {len : Nat} (hn : n ≤ 9) (hp : p < n) (hb2 : ∀ u, u < n → ∀ i, cg_b (a2 u) i → i < n)
    (ht : ∀ x, x < n → 1 ≤ t x ∧ t x ≤ len) (hR : ∀ u v, cg_R n a2 u v → t u < t v) (H : ∀ h, h ≤ len → h ≤ 10 → post (nI h)) : wpX_height post (nI n, pt, a1, a2, a3, a4) (nI p) := by
  unfold wpX_height
  exact cg_task hn (by omega) (fun _ => br_f (by decide) (cg_hof hn hp hb2 ht hR H)) (fun z => absurd z (by omega))
/-- labelList(set) -/
theorem cg_ll {post : Int32 → Prop} {n : Nat} {pt : Int32} {a1 a2 a3 a4 : Nat → Int32} {lab : Nat → Nat} {set : Int32} (hn : n ≤ 9) (hl : ∀ x, x < n → a4 x = nI (lab x) ∧ lab x ≤ 9)
    (H0 : (∃ w, w < n ∧ cg_b set w ∧ lab w = 0) → post (-1))
    (H1 : ∀ r, (∀ w, w < n → cg_b set w → lab w ≠ 0) → (∀ j, cg_b r j ↔ ∃ w, w < n ∧ cg_b set w ∧ lab w = j) → post r) : wpX_labelList post (nI n, pt, a1, a2, a3, a4) set := by
  unfold wpX_labelList
  refine pk_loop (fun f i s => wX_labelList_4 post set (nI n) pt a1 a2 a3 a4 f s (nI i)) (fun i s => (∀ w, w < i → cg_b set w → lab w ≠ 0) ∧ ∀ j, cg_b s j ↔ ∃ w, w < i ∧ cg_b set w ∧ lab w = j) n 0 0 (by omega) ?_ ?_ ?_
  · refine ⟨fun w hw => absurd hw (by omega), fun j => ⟨fun z => absurd z cg_b_0, fun z => ?_⟩⟩
    obtain ⟨w, hw, _⟩ := z
    omega
  · intro f s h
    exact pk_le n n (fun _ => H1 s h.1 h.2) (fun z => absurd z (by omega))
  · intro f i s hi h hw
    refine pk_le n i (fun z => absurd z (by omega)) (fun _ => cg_br i (by omega) (fun b => nm_r (nI_1 i) (hw s ⟨lt_s h.1 (fun z => absurd z b), fun j => ?_⟩)) (fun b => ⟨pk_in i 9 (by omega), ?_⟩))
    · rw [h.2 j]
      constructor
      · intro z
        obtain ⟨w, w1, w2, w3⟩ := z
        exact ⟨w, by omega, w2, w3⟩
      · intro z
        obtain ⟨w, w1, w2, w3⟩ := z
        by_cases e : w = i
        · rw [e] at w2
          exact absurd w2 b
        · exact ⟨w, by omega, w2, w3⟩
    · rw [nI_clamp (show i < 2 ^ 31 by omega), (hl i hi).1]
      have l9 := (hl i hi).2
      refine pk_eq (lab i) 0 (fun z => H0 ⟨i, hi, b, z⟩) (fun z => ⟨pk_in i 9 (by omega), nm_e (nm_r (nI_1 i) (hw _ ⟨lt_s h.1 (fun _ => z), fun j => ?_⟩))⟩)
      rw [cg_b_or, h.2 j, cg_b_shl (by omega)]
      constructor
      · intro z
        rcases z with z | z
        · obtain ⟨w, w1, w2, w3⟩ := z
          exact ⟨w, by omega, w2, w3⟩
        · exact ⟨i, by omega, b, z.symm⟩
      · intro z
        obtain ⟨w, w1, w2, w3⟩ := z
        by_cases e : w = i
        · rw [e] at w3
          exact Or.inr w3.symm
        · exact Or.inl ⟨w, by omega, w2, w3⟩
/-- l is v's list of labels as a number -/
def cg_isl (R : Nat → Nat → Prop) (lab : Nat → Nat) (l : Int32) (v : Nat) : Prop := ¬ cg_b l 31 ∧ ∀ j, cg_b l j ↔ ∃ w, cg_N R v w ∧ lab w = j
theorem cg_isl_le {n : Nat} {R : Nat → Nat → Prop} {lab : Nat → Nat} {k c v : Nat} {l lv : Int32} (hR : ∀ u v, R u v → u < n ∧ v < n) (h : cg_LI n R lab k) (hc : cg_cand R lab c)
    (h1 : cg_isl R lab l c) (h2 : cg_isl R lab lv v) (hlt : ¬ lv < l) : cg_lle R lab c v := by
  intro x nc nv
  have lx := hc.2 x nc
  have n1 : ¬ cg_b lv (lab x) := fun z => by
    obtain ⟨w, w1, w2⟩ := (h2.2 _).mp z
    have e := h.2.1 x w (hR _ _ nc.1).2 (hR _ _ w1.1).2 w2.symm lx
    rw [← e] at w1
    exact nv w1
  obtain ⟨j, j1, j2, j3⟩ := cg_lex h1.1 h2.1 hlt ((h1.2 _).mpr ⟨x, nc, rfl⟩) n1
  obtain ⟨w, w1, w2⟩ := (h2.2 j).mp j2
  exact ⟨w, w1, fun z => j3 ((h1.2 j).mpr ⟨w, z, w2⟩), by omega⟩
theorem cg_by : ∀ k, k < 10 → (nI k).toInt8.toInt32 = nI k := by decide +kernel
/-- one label -/
theorem cg_l65 {post : St2 → Prop} {J : Int32 → (Nat → Int32) → (Nat → Int32) → (Nat → Int32) → (Nat → Int32) → Prop} {n : Nat} {pt : Int32} {a1 a2 a3 a4 : Nat → Int32} {lab : Nat → Nat} {k : Nat} (hn : n ≤ 9) (hk : k < 9)
    (hpt : ∀ i, cg_b pt i ↔ i < n) (hO : cg_O n (cg_R n a2)) (h3 : ∀ v, v < n → ∀ x, cg_b (a3 v) x ↔ cg_N (cg_R n a2) v x) (hl : ∀ x, x < n → a4 x = nI (lab x)) (hI : cg_LI n (cg_R n a2) lab k)
    (H : ∀ lab' a4', (∀ x, x < n → a4' x = nI (lab' x)) → cg_LI n (cg_R n a2) lab' (k + 1) → J (nI (k + 2)) a1 a2 a3 a4') :
    ∃ f, wX_labelByLists_65 post J (nI (k + 1)) (nI n) pt a1 a2 a3 a4 f (-1) 0 0 := by
  have hl9 : ∀ x, x < n → a4 x = nI (lab x) ∧ lab x ≤ 9 := fun x hx => ⟨hl x hx, by have := hI.1 x hx; omega⟩
  refine pk_loop (fun f i s => wX_labelByLists_65 post J (nI (k + 1)) (nI n) pt a1 a2 a3 a4 f s.1 s.2 (nI i))
    (fun i s => (s.1 = -1 ∧ ∀ v, v < i → ¬ cg_cand (cg_R n a2) lab v) ∨ ∃ c, c < i ∧ s.1 = nI c ∧ cg_cand (cg_R n a2) lab c ∧ cg_isl (cg_R n a2) lab s.2 c ∧ ∀ v, v < i → cg_cand (cg_R n a2) lab v → ∃ lv, cg_isl (cg_R n a2) lab lv v ∧ ¬ lv < s.2)
    n 0 (-1, 0) (by omega) (Or.inl ⟨rfl, fun v hv => absurd hv (by omega)⟩) ?_ ?_
  · intro f s h
    obtain ⟨b, l⟩ := s
    refine pk_le n n (fun _ => ?_) (fun z => absurd z (by omega))
    rcases h with ⟨e, h⟩ | ⟨c, cn, e, cc, lc, mc⟩
    · have e' : b = -1 := e
      rw [e']
      exact br_t (show (-1 : Int32) < 0 by decide) (nm_r (nI_1 (k + 1)) (H lab a4 hl (cg_LI_no hO hI h)))
    · have e' : b = nI c := e
      rw [e']
      refine br_f (nI_pos (by omega)) ⟨pk_in c 9 (by omega), ?_⟩
      rw [nI_clamp (show c < 2 ^ 31 by omega), cg_by (k + 1) (by omega)]
      refine nm_e (nm_r (nI_1 (k + 1)) (H (fun x => if x = c then k + 1 else lab x) _ (fun x hx => ?_) (cg_LI_put hI cn cc (fun v hv ne hc => ?_) hO.1 (if_pos rfl) (fun x hx => if_neg hx))))
      · by_cases ex : x = c
        · rw [ex, pk_us]
          show _ = nI (if c = c then k + 1 else lab c)
          rw [if_pos rfl]
        · rw [pk_un ex, hl x hx]
          show _ = nI (if x = c then k + 1 else lab x)
          rw [if_neg ex]
      · obtain ⟨lv, l1, l2⟩ := mc v hv hc
        exact cg_isl_le hO.1 hI cc lc l1 l2
  · intro f i s hi h hw
    obtain ⟨b, l⟩ := s
    have no : ¬ cg_cand (cg_R n a2) lab i → wX_labelByLists_65 post J (nI (k + 1)) (nI n) pt a1 a2 a3 a4 f b l (nI (i + 1)) := fun nr => hw (b, l) (by
      rcases h with ⟨e, h⟩ | ⟨c, cn, e, cc, lc, mc⟩
      · exact Or.inl ⟨e, lt_s h nr⟩
      · exact Or.inr ⟨c, by omega, e, cc, lc, lt_s mc (fun z => absurd z nr)⟩)
    refine pk_le n i (fun z => absurd z (by omega)) (fun _ => cg_br i (by omega) (fun g => absurd ((hpt i).mpr hi) g) (fun _ => ⟨pk_in i 9 (by omega), ?_⟩))
    rw [nI_clamp (show i < 2 ^ 31 by omega), hl i hi]
    have l9 := (hl9 i hi).2
    refine pk_eq (lab i) 0 (fun l0 => ⟨pk_in i 9 (by omega), ?_⟩) (fun l0 => nm_r (nI_1 i) (no (fun z => l0 z.1)))
    refine cg_ll hn hl9 (fun hz => br_t (by decide) (nm_r (nI_1 i) (no (fun z => ?_)))) (fun r r1 r2 => ?_)
    · obtain ⟨w, _, w2, w3⟩ := hz
      exact z.2 w ((h3 i hi w).mp w2) w3
    · have ci : cg_cand (cg_R n a2) lab i := ⟨l0, fun x nx => r1 x (hO.1 _ _ nx.1).2 ((h3 i hi x).mpr nx)⟩
      have li : cg_isl (cg_R n a2) lab r i := by
        refine ⟨fun z => ?_, fun j => ?_⟩
        · obtain ⟨w, w1, _, w3⟩ := (r2 31).mp z
          have := (hl9 w w1).2
          omega
        · rw [r2 j]
          constructor
          · intro z
            obtain ⟨w, w1, w2, w3⟩ := z
            exact ⟨w, (h3 i hi w).mp w2, w3⟩
          · intro z
            obtain ⟨w, w1, w2⟩ := z
            exact ⟨w, (hO.1 _ _ w1.1).2, (h3 i hi w).mpr w1, w2⟩
      have irr : ¬ r < r := fun z => by rw [Int32.lt_iff_toInt_lt] at z; omega
      refine br_f (cg_pos li.1) ?_
      rcases h with ⟨e, h⟩ | ⟨c, cn, e, cc, lc, mc⟩
      · have e' : b = -1 := e
        rw [e']
        refine br_t (show (-1 : Int32) < 0 by decide) (nm_r (nI_1 i) (hw (nI i, r) (Or.inr ⟨i, by omega, rfl, ci, li, fun v hv cv => ?_⟩)))
        by_cases ev : v = i
        · rw [ev]; exact ⟨r, li, irr⟩
        · exact absurd cv (h v (by omega))
      · have e' : b = nI c := e
        rw [e']
        refine br_f (nI_pos (by omega)) (br_c (fun g => nm_r (nI_1 i) (hw (nI i, r) (Or.inr ⟨i, by omega, rfl, ci, li, fun v hv cv => ?_⟩))) (fun g => nm_r (nI_1 i) (hw (nI c, l) (Or.inr ⟨c, by omega, rfl, cc, lc, fun v hv cv => ?_⟩))))
        · by_cases ev : v = i
          · rw [ev]; exact ⟨r, li, irr⟩
          · obtain ⟨lv, l1, l2⟩ := mc v (by omega) cv
            refine ⟨lv, l1, fun z => l2 ?_⟩
            have g' : r < l := g
            have z' : lv < r := z
            show lv < l
            rw [Int32.lt_iff_toInt_lt] at *
            omega
        · by_cases ev : v = i
          · rw [ev]; exact ⟨r, li, g⟩
          · exact mc v (by omega) cv
end
section
/-- labelByLists() -/
theorem cg_lbl {post : St2 → Prop} {n : Nat} {pt : Int32} {a1 a2 a3 a4 : Nat → Int32} (hn : n ≤ 9) (hpt : ∀ i, cg_b pt i ↔ i < n) (hO : cg_O n (cg_R n a2))
    (H : ∀ lab a3' a4', (∀ x, x < n → a4' x = nI (lab x) ∧ lab x ≤ 9) → cg_L n (cg_R n a2) lab → post (nI n, pt, a1, a2, a3', a4')) : wpX_labelByLists post (nI n, pt, a1, a2, a3, a4) := by
  unfold wpX_labelByLists
  refine pk_loop (fun f i s => wX_labelByLists_2 post (nI n) pt f (nI i) a1 a2 s.1 s.2) (fun i s => (∀ v, v < i → ∀ x, cg_b (s.1 v) x ↔ cg_N (cg_R n a2) v x) ∧ ∀ v, v < i → s.2 v = 0) n 0 (a3, a4) (by omega) ⟨fun v hv => absurd hv (by omega), fun v hv => absurd hv (by omega)⟩ ?_ ?_
  · intro f s h
    obtain ⟨b3, b4⟩ := s
    refine pk_le n n (fun _ => ?_) (fun z => absurd z (by omega))
    have h0 : ∃ lab : Nat → Nat, (∀ x, x < n → b4 x = nI (lab x)) ∧ cg_LI n (cg_R n a2) lab 0 := ⟨fun _ => 0, fun x hx => h.2 x hx, cg_LI_0 (fun _ _ => rfl)⟩
    refine pk_loop (fun g i s => wX_labelByLists_52 post (nI n) pt g (nI (i + 1)) a1 a2 b3 s) (fun i s => ∃ lab : Nat → Nat, (∀ x, x < n → s x = nI (lab x)) ∧ cg_LI n (cg_R n a2) lab i) 9 0 b4 (by omega) h0 ?_ ?_
    · intro g s hs
      obtain ⟨lab, l1, l2⟩ := hs
      have e := cg_LI_end hn hO l2
      exact pk_lt 9 (9 + 1) (fun _ => H lab b3 s (fun x hx => ⟨l1 x hx, e.2 x hx⟩) e.1) (fun z => absurd z (by omega))
    · intro g i s hi hs hw
      obtain ⟨lab, l1, l2⟩ := hs
      exact pk_lt 9 (i + 1) (fun z => absurd z (by omega)) (fun _ => cg_l65 hn hi hpt hO h.1 l1 l2 (fun lab' a4' k1 k2 => hw a4' ⟨lab', k1, k2⟩))
  · intro f i s hi h hw
    obtain ⟨b3, b4⟩ := s
    refine pk_le n i (fun z => absurd z (by omega)) (fun _ => ⟨pk_in i 9 (by omega), nm_e ⟨pk_in i 9 (by omega), ?_⟩⟩)
    rw [nI_clamp (show i < 2 ^ 31 by omega)]
    refine cg_imm hn (fun r hr => ⟨pk_in i 9 (by omega), nm_e (nm_r (nI_1 i) (hw (upd b3 i (r &&& pt), upd b4 i 0) ⟨fun v hv x => ?_, fun v hv => ?_⟩))⟩)
    · show cg_b (upd b3 i (r &&& pt) v) x ↔ _
      by_cases e : v = i
      · rw [e, pk_us, cg_b_and, hr x, hpt x, cg_b_and, hpt x]
        constructor
        · intro g
          refine ⟨⟨hi, g.2, g.1.1.1⟩, fun z rz rx => ?_⟩
          exact g.1.2 z rz.2.1 (cg_b_and.mpr ⟨rz.2.2, (hpt z).mpr rz.2.1⟩) rx.2.2
        · intro g
          exact ⟨⟨⟨g.1.2.2, g.1.2.1⟩, fun w wn bw bx => g.2 w ⟨hi, wn, (cg_b_and.mp bw).1⟩ ⟨wn, g.1.2.1, bx⟩⟩, g.1.2.1⟩
      · rw [pk_un e]
        exact h.1 v (by omega) x
    · show upd b4 i 0 v = 0
      by_cases e : v = i
      · rw [e, pk_us]
      · rw [pk_un e]
        exact h.2 v (by omega)
theorem cg_rd_iff {n : Nat} {pt dn sl : Int32} {a2 : Nat → Int32} (hpt : ∀ i, cg_b pt i ↔ i < n) {x : Nat} : cg_rd n a2 (pt &&& (dn ^^^ (-1))) sl x ↔ cg_rdy n (cg_R n a2) (cg_b dn) x ∧ ¬ cg_b sl x := by
  have e : ∀ y, cg_b (pt &&& (dn ^^^ (-1))) y ↔ y < n ∧ ¬ cg_b dn y := fun y => by rw [cg_b_an, hpt y]
  constructor
  · intro g
    have g1 := (e x).mp g.1
    exact ⟨⟨g1.1, g1.2, fun u un nu r => g.2.2 u un ((e u).mpr ⟨un, nu⟩) r.2.2⟩, g.2.1⟩
  · intro g
    exact ⟨(e x).mpr ⟨g.1.1, g.1.2.1⟩, g.2, fun u un ou au => g.1.2.2 u un ((e u).mp ou).2 ⟨un, g.1.1, au⟩⟩
/-- lengthOnList(2) -/
theorem cg_lol {post : Int32 → Prop} {n : Nat} {pt : Int32} {a1 a2 a3 a4 : Nat → Int32} {lab : Nat → Nat} (hn : n ≤ 9) (hpt : ∀ i, cg_b pt i ↔ i < n) (hO : cg_O n (cg_R n a2))
    (hl : ∀ x, x < n → a4 x = nI (lab x) ∧ lab x ≤ 9) (hL : cg_L n (cg_R n a2) lab) (H : ∀ len, len ≤ 9 → cg_S n (cg_R n a2) len → post (nI len)) : wpX_lengthOnList post (nI n, pt, a1, a2, a3, a4) 2 := by
  unfold wpX_lengthOnList
  refine pk_loop (fun f i s => wX_lengthOnList_4 post 2 (nI n) pt a1 a2 a3 a4 f s (nI i)) (fun i s => ∃ t, cg_SI n (cg_R n a2) lab (cg_b s) t i) 9 0 0 (by omega) ⟨fun _ => 0, cg_SI_0 (fun x => cg_b_0)⟩ ?_ ?_
  · intro f s h
    obtain ⟨t, ht⟩ := h
    have c := cg_SI_cnt ht
    have g := H 9 (by omega) (cg_SI_end hO hL ht (cg_cnt_full n (by omega)))
    exact br_c (fun _ => g) (fun _ => pk_le 9 9 (fun _ => g) (fun z => absurd z (by omega)))
  · intro f i s hi h hw
    obtain ⟨t, ht⟩ := h
    refine br_c (fun e => H i (by omega) (cg_SI_end hO hL ht (fun x hx => by rw [e]; exact (hpt x).mpr hx))) (fun ne => pk_le 9 i (fun z => absurd z (by omega)) (fun _ => ⟨3, ?_⟩))
    have op : ∃ x, x < n ∧ ¬ cg_b s x := Classical.byContradiction (fun z => ne (cg_b_ext (fun x _ => by
      rw [hpt x]
      exact ⟨fun g => (ht.1 x g).1, fun g => Classical.byContradiction (fun k => z ⟨x, g, k⟩)⟩)))
    obtain ⟨x0, r0⟩ := cg_rdy_ex hO op
    refine pk_le 2 0 (fun z => absurd z (by omega)) (fun _ => cg_best hn hl (fun z => absurd ((cg_rd_iff hpt).mpr ⟨r0, cg_b_0⟩) (z x0 r0.1)) (fun p pn rp mp => ?_))
    have rp' := ((cg_rd_iff hpt).mp rp).1
    have mp' : ∀ x, cg_rdy n (cg_R n a2) (cg_b s) x → lab x ≤ lab p := fun x rx => mp x rx.1 ((cg_rd_iff hpt).mpr ⟨rx, cg_b_0⟩)
    have sp : ∀ x, cg_b (0 ||| ((1 : Int32) <<< (nI p &&& 31))) x ↔ x = p := fun x => by
      rw [cg_b_or, cg_b_shl (by omega)]
      exact ⟨fun z => z.elim (fun k => absurd k cg_b_0) id, Or.inr⟩
    have go : ∀ (q : Nat) (sl : Int32), cg_rdy n (cg_R n a2) (cg_b s) q → ((q = p ∧ ∀ x, cg_rdy n (cg_R n a2) (cg_b s) x → x = p) ∨ (q ≠ p ∧ ∀ x, cg_rdy n (cg_R n a2) (cg_b s) x → x ≠ p → lab x ≤ lab q)) →
        (∀ x, cg_b sl x ↔ x = p ∨ x = q) → wX_lengthOnList_4 post 2 (nI n) pt a1 a2 a3 a4 f (s ||| sl) (nI (i + 1)) := by
      intro q sl rq mq hsl
      refine hw (s ||| sl) ⟨fun x => if x = p ∨ x = q then i + 1 else t x, cg_SI_put hO hL.1 ht rp' rq mp' mq (fun x => ?_) (fun x dx => ?_) ?_ ?_⟩
      · rw [cg_b_or, hsl x]
      · show (if x = p ∨ x = q then i + 1 else t x) = t x
        refine if_neg (fun z => ?_)
        rcases z with z | z
        · rw [z] at dx; exact rp'.2.1 dx
        · rw [z] at dx; exact rq.2.1 dx
      · exact if_pos (Or.inl rfl)
      · exact if_pos (Or.inr rfl)
    refine br_f (nI_pos (by omega)) (nm_e (nm_r (show (0 : Int32) + 1 = nI 1 by rfl) ?_))
    refine pk_le 2 1 (fun z => absurd z (by omega)) (fun _ => cg_best hn hl (fun z => ?_) (fun q qn rq mq => ?_))
    · refine br_t (by decide) (nm_r (nI_1 1) (pk_le 2 2 (fun _ => nm_e (nm_r (nI_1 i) (go p _ rp' (Or.inl ⟨rfl, fun x rx => ?_⟩) (fun x => ?_)))) (fun z => absurd z (by omega))))
      · refine Classical.byContradiction (fun ne => z x rx.1 ((cg_rd_iff hpt).mpr ⟨rx, fun k => ne ((sp x).mp k)⟩))
      · rw [sp x]
        exact ⟨Or.inl, fun k => k.elim id id⟩
    · have rq' := (cg_rd_iff hpt).mp rq
      have nq : q ≠ p := fun k => rq'.2 ((sp q).mpr k)
      refine br_f (nI_pos (by omega)) (nm_e (nm_r (nI_1 1) (pk_le 2 2 (fun _ => nm_e (nm_r (nI_1 i) (go q _ rq'.1 (Or.inr ⟨nq, fun x rx xp => ?_⟩) (fun x => ?_)))) (fun z => absurd z (by omega)))))
      · exact mq x rx.1 ((cg_rd_iff hpt).mpr ⟨rx, fun k => xp ((sp x).mp k)⟩)
      · rw [cg_b_or, sp x, cg_b_shl (by omega)]
/-- shortest(2) -/
theorem cg_sh2 {post : Int32 → St2 → Prop} {n : Nat} {pt : Int32} {a1 a2 a3 a4 : Nat → Int32} (hn : n ≤ 9) (hO : cg_O n (cg_R n a2))
    (H : ∀ len pt' a3' a4', len ≤ 9 → cg_S n (cg_R n a2) len → post (nI len) (nI n, pt', a1, a2, a3', a4')) : wpX_shortest post (nI n, pt, a1, a2, a3, a4) 2 := by
  unfold wpX_shortest
  refine br_f (by decide) (br_t (by decide) (nm_e (br_f (by decide) (br_t rfl (cg_lbl hn (fun i => cg_b_part hn) hO (fun lab a3' a4' hl hL => ?_))))))
  exact cg_lol hn (fun i => cg_b_part hn) hO hl hL (fun len h9 hS => H len _ a3' a4' h9 hS)
/-- shortest(1) -/
theorem cg_sh1 {post : Int32 → St2 → Prop} {n : Nat} {pt : Int32} {a1 a2 a3 a4 : Nat → Int32}
    (H : ∀ pt', post (nI n) (nI n, pt', a1, a2, a3, a4)) : wpX_shortest post (nI n, pt, a1, a2, a3, a4) 1 := by
  unfold wpX_shortest
  exact br_f (by decide) (br_t (by decide) (nm_e (br_t rfl (H _))))
end
section
/-- the two tables: orders as given (a1), orders closed (a2) -/
def cg_ok (n : Nat) (a1 a2 : Nat → Int32) : Prop :=
  n ≤ 9 ∧ (∀ u, u < n → ∀ i, cg_b (a1 u) i → i < n) ∧ (∀ u, u < n → ∀ i, cg_b (a2 u) i → i < n) ∧ cg_O n (cg_R n a2) ∧
  (∀ u v, cg_R n a1 u v → cg_R n a2 u v) ∧ (∀ u v, cg_R n a2 u v → ¬ cg_R n a1 u v → ∃ w, cg_R n a2 u w ∧ cg_R n a2 w v)
/-- Warshall: middles below m are done -/
def cg_WI (F T R : Nat → Nat → Prop) (m : Nat) : Prop :=
  (∀ u v, F u v → R u v) ∧ (∀ u v, R u v → T u v) ∧ (∀ u w v, w < m → R u w → R w v → R u v) ∧ (∀ u v, R u v → ¬ F u v → ∃ w, R u w ∧ R w v)
theorem cg_WI_step {F T R R' : Nat → Nat → Prop} {m : Nat} (tT : ∀ u v w, T u v → T v w → T u w) (h : cg_WI F T R m) (e : ∀ u v, R' u v ↔ R u v ∨ (R u m ∧ R m v)) : cg_WI F T R' (m + 1) := by
  obtain ⟨h1, h2, h3, h4⟩ := h
  have up : ∀ u v, R u v → R' u v := fun u v r => (e u v).mpr (Or.inl r)
  refine ⟨fun u v f => up u v (h1 u v f), fun u v r => ?_, fun u w v hw r1 r2 => ?_, fun u v r nf => ?_⟩
  · rcases (e u v).mp r with z | z
    · exact h2 u v z
    · exact tT _ _ _ (h2 _ _ z.1) (h2 _ _ z.2)
  · by_cases ew : w = m
    · rw [ew] at r1 r2
      refine (e u v).mpr (Or.inr ⟨?_, ?_⟩)
      · rcases (e u m).mp r1 with z | z
        · exact z
        · exact z.1
      · rcases (e m v).mp r2 with z | z
        · exact z
        · exact z.2
    · have hw' : w < m := by omega
      rcases (e u w).mp r1 with z1 | z1
      · rcases (e w v).mp r2 with z2 | z2
        · exact up u v (h3 u w v hw' z1 z2)
        · exact (e u v).mpr (Or.inr ⟨h3 u w m hw' z1 z2.1, z2.2⟩)
      · rcases (e w v).mp r2 with z2 | z2
        · exact (e u v).mpr (Or.inr ⟨z1.1, h3 m w v hw' z1.2 z2⟩)
        · exact (e u v).mpr (Or.inr ⟨z1.1, z2.2⟩)
  · rcases (e u v).mp r with z | z
    · obtain ⟨w, w1, w2⟩ := h4 u v z nf
      exact ⟨w, up _ _ w1, up _ _ w2⟩
    · exact ⟨m, up _ _ z.1, up _ _ z.2⟩
/-- closeOrders() -/
theorem cg_close {post : St2 → Prop} {n : Nat} {pt : Int32} {a1 a2 a3 a4 : Nat → Int32} {T : Nat → Nat → Prop} (hn : n ≤ 9) (hb1 : ∀ u, u < n → ∀ i, cg_b (a1 u) i → i < n) (hT : cg_O n T) (hF : ∀ u v, cg_R n a1 u v → T u v)
    (H : ∀ a2', cg_ok n a1 a2' → post (nI n, pt, a1, a2', a3, a4)) : wpX_closeOrders post (nI n, pt, a1, a2, a3, a4) := by
  unfold wpX_closeOrders
  refine pk_loop (fun f i s => wX_closeOrders_2 post (nI n) pt f (nI i) a1 s a3 a4) (fun i s => ∀ v, v < i → s v = a1 v) n 0 a2 (by omega) (fun v hv => absurd hv (by omega)) ?_ ?_
  · intro f s0 h0
    refine pk_le n n (fun _ => ?_) (fun z => absurd z (by omega))
    have start : (∀ u, u < n → ∀ i, cg_b (s0 u) i → i < n) ∧ cg_WI (cg_R n a1) T (cg_R n s0) 0 := by
      have e : ∀ u v, cg_R n s0 u v ↔ cg_R n a1 u v := fun u v => ⟨fun z => ⟨z.1, z.2.1, by rw [← h0 u z.1]; exact z.2.2⟩, fun z => ⟨z.1, z.2.1, by rw [h0 u z.1]; exact z.2.2⟩⟩
      refine ⟨fun u hu i hi => hb1 u hu i (by rw [← h0 u hu]; exact hi), fun u v z => (e u v).mpr z, fun u v z => hF u v ((e u v).mp z), fun u w v hw => absurd hw (by omega), fun u v z nz => absurd ((e u v).mp z) nz⟩
    refine pk_loop (fun f i s => wX_closeOrders_30 post (nI n) pt f (nI i) a1 s a3 a4) (fun i s => (∀ u, u < n → ∀ j, cg_b (s u) j → j < n) ∧ cg_WI (cg_R n a1) T (cg_R n s) i) n 0 s0 (by omega) start ?_ ?_
    · intro f s h
      obtain ⟨hb, w1, w2, w3, w4⟩ := h
      refine pk_le n n (fun _ => H s ⟨hn, hb1, hb, ⟨fun u v r => ⟨r.1, r.2.1⟩, fun u v w r1 r2 => w3 u v w r1.2.1 r1 r2, fun u r => hT.2.2 u (w2 u u r)⟩, w1, w4⟩) (fun z => absurd z (by omega))
    · intro f m s hm h hw
      refine pk_le n m (fun z => absurd z (by omega)) (fun _ => ?_)
      refine pk_loop (fun g i q => wX_closeOrders_40 post (wX_closeOrders_30 post (nI n) pt f) (nI m) (nI n) pt g (nI i) a1 q a3 a4) (fun i q => ∀ v, v < n → ∀ x, cg_b (q v) x ↔ cg_b (s v) x ∨ (v < i ∧ cg_b (s v) m ∧ cg_b (s m) x)) n 0 s (by omega) (fun v hv x => ⟨Or.inl, fun z => z.elim id (fun k => absurd k.1 (by omega))⟩) ?_ ?_
      · intro g q hq
        refine pk_le n n (fun _ => nm_r (nI_1 m) (hw q ⟨fun u hu j hj => ?_, cg_WI_step hT.2.1 h.2 (fun u v => ?_)⟩)) (fun z => absurd z (by omega))
        · rcases (hq u hu j).mp hj with z | z
          · exact h.1 u hu j z
          · exact h.1 m hm j z.2.2
        · constructor
          · intro z
            rcases (hq u z.1 v).mp z.2.2 with k | k
            · exact Or.inl ⟨z.1, z.2.1, k⟩
            · exact Or.inr ⟨⟨z.1, hm, k.2.1⟩, ⟨hm, z.2.1, k.2.2⟩⟩
          · intro z
            rcases z with k | k
            · exact ⟨k.1, k.2.1, (hq u k.1 v).mpr (Or.inl k.2.2)⟩
            · exact ⟨k.1.1, k.2.2.1, (hq u k.1.1 v).mpr (Or.inr ⟨k.1.1, k.1.2.2, k.2.2.2⟩)⟩
      · intro g i q hi hq hv
        refine pk_le n i (fun z => absurd z (by omega)) (fun _ => ⟨pk_in i 9 (by omega), ?_⟩)
        rw [nI_clamp (show i < 2 ^ 31 by omega), nI_clamp (show m < 2 ^ 31 by omega)]
        have qi : ∀ x, cg_b (q i) x ↔ cg_b (s i) x := fun x => by
          rw [hq i hi x]
          exact ⟨fun z => z.elim id (fun k => absurd k.1 (by omega)), Or.inl⟩
        have qm : ∀ x, cg_b (q m) x ↔ cg_b (s m) x := fun x => by
          rw [hq m hm x]
          exact ⟨fun z => z.elim id (fun k => k.2.2), Or.inl⟩
        refine cg_br m (by omega) (fun b => nm_r (nI_1 i) (hv q (fun v vn x => ?_))) (fun b => ⟨pk_in i 9 (by omega), pk_in m 9 (by omega), pk_in i 9 (by omega), nm_e (nm_r (nI_1 i) (hv _ (fun v vn x => ?_)))⟩)
        · rw [hq v vn x]
          constructor
          · intro z
            exact z.elim Or.inl (fun k => Or.inr ⟨by omega, k.2⟩)
          · intro z
            rcases z with z | z
            · exact Or.inl z
            · by_cases e : v = i
              · rw [e] at z
                exact absurd ((qi m).mpr z.2.1) b
              · exact Or.inr ⟨by omega, z.2⟩
        · by_cases e : v = i
          · rw [e, pk_us, cg_b_or, qi x, qm x]
            constructor
            · intro z
              exact z.elim Or.inl (fun k => Or.inr ⟨by omega, (qi m).mp b, k⟩)
            · intro z
              exact z.elim Or.inl (fun k => Or.inr k.2.2)
          · rw [pk_un e, hq v vn x]
            constructor
            · intro z
              exact z.elim Or.inl (fun k => Or.inr ⟨by omega, k.2⟩)
            · intro z
              exact z.elim Or.inl (fun k => Or.inr ⟨by omega, k.2⟩)
  · intro f i s hi h hw
    refine pk_le n i (fun z => absurd z (by omega)) (fun _ => ⟨pk_in i 9 (by omega), pk_in i 9 (by omega), ?_⟩)
    rw [nI_clamp (show i < 2 ^ 31 by omega)]
    refine nm_e (nm_r (nI_1 i) (hw _ (fun v hv => ?_)))
    by_cases e : v = i
    · rw [e, pk_us]
    · rw [pk_un e]
      exact h v (by omega)
/-- addTask() -/
theorem cg_addt {post : Int32 → St2 → Prop} {n : Nat} {pt : Int32} {a1 a2 a3 a4 : Nat → Int32} (ok : cg_ok n a1 a2)
    (H : ∀ r n' a1' a2', cg_ok n' a1' a2' → post r (nI n', pt, a1', a2', a3, a4)) : wpX_addTask post (nI n, pt, a1, a2, a3, a4) := by
  have ok' := ok
  obtain ⟨hn, b1, b2, hO, hF, _⟩ := ok'
  unfold wpX_addTask
  refine pk_lt n 9 (fun n9 => ⟨pk_in n 9 n9, ?_⟩) (fun _ => H _ n a1 a2 ok)
  rw [nI_clamp (show n < 2 ^ 31 by omega)]
  have hb : ∀ u, u < n + 1 → ∀ i, cg_b (upd a1 n 0 u) i → u < n ∧ i < n ∧ cg_b (a1 u) i := fun u hu i hi => by
    by_cases e : u = n
    · rw [e, pk_us] at hi
      exact absurd hi cg_b_0
    · rw [pk_un e] at hi
      exact ⟨by omega, b1 u (by omega) i hi, hi⟩
  refine nm_e (nm_r (nI_1 n) (cg_close (T := cg_R n a2) (by omega) (fun u hu i hi => by have := hb u hu i hi; omega) ⟨fun u v r => by have := hO.1 u v r; omega, hO.2.1, hO.2.2⟩ (fun u v r => ?_) (fun a2' k => H _ (n + 1) _ a2' k)))
  have z := hb u r.1 v r.2.2
  exact hF u v ⟨z.1, z.2.1, z.2.2⟩
/-- removeOrder(u, v) -/
theorem cg_remo {post : Int32 → St2 → Prop} {n : Nat} {pt : Int32} {a1 a2 a3 a4 : Nat → Int32} {u v : Nat} (hu : u ≤ 9) (hv : v ≤ 9) (ok : cg_ok n a1 a2)
    (H : ∀ r n' a1' a2', cg_ok n' a1' a2' → post r (nI n', pt, a1', a2', a3, a4)) : wpX_removeOrder post (nI n, pt, a1, a2, a3, a4) (nI u) (nI v) := by
  have ok' := ok
  obtain ⟨hn, b1, b2, hO, hF, _⟩ := ok'
  unfold wpX_removeOrder
  refine cg_task hn hu (fun un => br_f (by decide) (cg_task hn hv (fun vn => br_f (by decide) ⟨pk_in u 9 (by omega), ?_⟩) (fun _ => br_t rfl (H _ n a1 a2 ok)))) (fun _ => br_t rfl (H _ n a1 a2 ok))
  rw [nI_clamp (show u < 2 ^ 31 by omega)]
  refine cg_br v (by omega) (fun _ => H _ n a1 a2 ok) (fun b => ⟨pk_in u 9 (by omega), pk_in u 9 (by omega), nm_e ?_⟩)
  have hb : ∀ w, w < n → ∀ i, cg_b (upd a1 u (a1 u &&& (((1 : Int32) <<< (nI v &&& 31)) ^^^ (-1))) w) i → cg_b (a1 w) i := fun w hw i hi => by
    by_cases e : w = u
    · rw [e, pk_us] at hi
      rw [e]
      exact (cg_b_an.mp hi).1
    · rw [pk_un e] at hi
      exact hi
  exact cg_close (T := cg_R n a2) hn (fun w hw i hi => b1 w hw i (hb w hw i hi)) hO (fun x y r => hF x y ⟨r.1, r.2.1, hb x r.1 y r.2.2⟩) (fun a2' k => H _ n _ a2' k)
end
section
theorem cg_sum_le {f g : Nat → Nat} (n : Nat) (h : ∀ x, x < n → f x ≤ g x) : cg_sum f n ≤ cg_sum g n := by
  induction n with
  | zero => exact Nat.le_refl _
  | succ n ih =>
    have := ih (fun x hx => h x (by omega))
    have := h n (by omega)
    show cg_sum f n + f n ≤ cg_sum g n + g n
    omega
theorem cg_sum_lt {f g : Nat → Nat} {u : Nat} (n : Nat) (h : ∀ x, x < n → f x ≤ g x) (hu : u < n) (hl : f u < g u) : cg_sum f n < cg_sum g n := by
  induction n with
  | zero => omega
  | succ n ih =>
    show cg_sum f n + f n < cg_sum g n + g n
    have a := h n (by omega)
    by_cases e : u = n
    · rw [e] at hl
      have := cg_sum_le n (fun x hx => h x (by omega))
      omega
    · have := ih (fun x hx => h x (by omega)) (by omega)
      omega
theorem cg_sum_b {f : Nat → Nat} {c : Nat} (n : Nat) (h : ∀ x, f x ≤ c) : cg_sum f n ≤ c * n := by
  induction n with
  | zero => exact Nat.le_refl _
  | succ n ih =>
    show cg_sum f n + f n ≤ c * (n + 1)
    have := h n
    rw [Nat.mul_succ]
    omega
theorem cg_sup_b {n : Nat} {a1 a2 : Nat → Int32} (hn : n ≤ 9) : cg_sup n a1 a2 ≤ 81 := by
  have := cg_sum_b (f := fun u => cg_cnt (fun v => cg_b (a1 u) v ∧ ¬ (cg_b (a2 u) v ∧ ∀ w, w < n → cg_b (a2 u) w → ¬ cg_b (a2 w) v)) 9) (c := 9) n (fun x => cg_cnt_le _ _)
  unfold cg_sup
  omega
/-- addOrder(u, v) -/
theorem cg_addo {post : Int32 → St2 → Prop} {n : Nat} {pt : Int32} {a1 a2 a3 a4 : Nat → Int32} {u v : Nat} (hu : u ≤ 9) (hv : v ≤ 9) (ok : cg_ok n a1 a2)
    (H0 : ∀ r, ¬ r = 1 → post r (nI n, pt, a1, a2, a3, a4))
    (H1 : ∀ a1' a2', cg_ok n a1' a2' → (∀ x y, cg_R n a2 x y → cg_R n a2' x y) → (cg_R n a2 u v → (∀ x y, cg_R n a2' x y → cg_R n a2 x y) ∧ cg_sup n a1 a2 < cg_sup n a1' a2') → post 1 (nI n, pt, a1', a2', a3, a4)) :
    wpX_addOrder post (nI n, pt, a1, a2, a3, a4) (nI u) (nI v) := by
  obtain ⟨hn, b1, b2, hO, hF, hI⟩ := ok
  unfold wpX_addOrder
  refine cg_task hn hu (fun un => br_f (by decide) (cg_task hn hv (fun vn => br_f (by decide) (pk_eq u v (fun _ => H0 _ (by decide)) (fun uv => ⟨pk_in v 9 (by omega), ?_⟩))) (fun _ => br_t rfl (H0 _ (by decide))))) (fun _ => br_t rfl (H0 _ (by decide)))
  rw [nI_clamp (show u < 2 ^ 31 by omega), nI_clamp (show v < 2 ^ 31 by omega)]
  refine cg_br u (by omega) (fun vu => ⟨pk_in u 9 (by omega), cg_br v (by omega) (fun nf => ⟨pk_in u 9 (by omega), pk_in u 9 (by omega), nm_e ⟨pk_in v 9 (by omega), nm_e ?_⟩⟩) (fun _ => H0 _ (by decide))⟩) (fun _ => H0 _ (by decide))
  have gx : ∀ x, cg_b (a2 v ||| ((1 : Int32) <<< (nI v &&& 31))) x ↔ x = v ∨ cg_b (a2 v) x := fun x => by
    rw [cg_b_or, cg_b_shl (by omega)]
    exact ⟨Or.symm, Or.symm⟩
  have fx : ∀ w, w < n → ∀ x, cg_b (upd a1 u (a1 u ||| ((1 : Int32) <<< (nI v &&& 31))) w) x ↔ cg_b (a1 w) x ∨ (w = u ∧ x = v) := fun w hw x => by
    by_cases e : w = u
    · rw [e, pk_us, cg_b_or, cg_b_shl (by omega)]
      exact ⟨fun z => z.elim Or.inl (fun k => Or.inr ⟨rfl, k⟩), fun z => z.elim Or.inl (fun k => Or.inr k.2)⟩
    · rw [pk_un e]
      exact ⟨Or.inl, fun z => z.elim id (fun k => absurd k.1 e)⟩
  generalize upd a1 u (a1 u ||| ((1 : Int32) <<< (nI v &&& 31))) = a1' at fx ⊢
  generalize a2 v ||| ((1 : Int32) <<< (nI v &&& 31)) = g at gx ⊢
  refine pk_loop (fun f i s => wX_addOrder_80 post (nI u) g (nI n) pt f (nI i) a1' s a3 a4) (fun i s => ∀ w, w < n → ∀ x, cg_b (s w) x ↔ cg_b (a2 w) x ∨ (w < i ∧ (w = u ∨ cg_b (a2 w) u) ∧ cg_b g x)) n 0 a2 (by omega) (fun w hw x => ⟨Or.inl, fun z => z.elim id (fun k => absurd k.1 (by omega))⟩) ?_ ?_
  · intro f s h
    refine pk_le n n (fun _ => ?_) (fun z => absurd z (by omega))
    have nvu : ¬ cg_R n a2 v u := fun z => vu z.2.2
    have rx : ∀ x y, cg_R n s x y ↔ cg_R n a2 x y ∨ ((x = u ∨ cg_R n a2 x u) ∧ (y = v ∨ cg_R n a2 v y)) := by
      intro x y
      constructor
      · intro z
        rcases (h x z.1 y).mp z.2.2 with k | k
        · exact Or.inl ⟨z.1, z.2.1, k⟩
        · refine Or.inr ⟨k.2.1.elim Or.inl (fun j => Or.inr ⟨z.1, un, j⟩), ?_⟩
          exact ((gx y).mp k.2.2).elim Or.inl (fun j => Or.inr ⟨vn, z.2.1, j⟩)
      · intro z
        rcases z with k | k
        · exact ⟨k.1, k.2.1, (h x k.1 y).mpr (Or.inl k.2.2)⟩
        · have xn : x < n := k.1.elim (fun j => by rw [j]; exact un) (fun j => j.1)
          have yn : y < n := k.2.elim (fun j => by rw [j]; exact vn) (fun j => j.2.1)
          exact ⟨xn, yn, (h x xn y).mpr (Or.inr ⟨xn, k.1.elim Or.inl (fun j => Or.inr j.2.2), (gx y).mpr (k.2.elim Or.inl (fun j => Or.inr j.2.2))⟩)⟩
    have fr : ∀ x y, cg_R n a1' x y ↔ cg_R n a1 x y ∨ (x = u ∧ y = v) := by
      intro x y
      constructor
      · intro z
        exact ((fx x z.1 y).mp z.2.2).elim (fun k => Or.inl ⟨z.1, z.2.1, k⟩) Or.inr
      · intro z
        rcases z with k | k
        · exact ⟨k.1, k.2.1, (fx x k.1 y).mpr (Or.inl k.2.2)⟩
        · have xn : x < n := by rw [k.1]; exact un
          exact ⟨xn, by rw [k.2]; exact vn, (fx x xn y).mpr (Or.inr k)⟩
    have up : ∀ x y, cg_R n a2 x y → cg_R n s x y := fun x y r => (rx x y).mpr (Or.inl r)
    have tr := hO.2.1
    have bs : ∀ w, w < n → ∀ i, cg_b (s w) i → i < n := fun w hw i hi => by
      rcases (h w hw i).mp hi with z | z
      · exact b2 w hw i z
      · rcases (gx i).mp z.2.2 with k | k
        · rw [k]; exact vn
        · exact b2 v vn i k
    -- x before or at u, y at or after v
    have pu : ∀ x y, cg_R n a2 x y → (y = u ∨ cg_R n a2 y u) → cg_R n a2 x u := fun x y r z => z.elim (fun k => by rw [← k]; exact r) (fun k => tr _ _ _ r k)
    have pv : ∀ x y, (x = v ∨ cg_R n a2 v x) → cg_R n a2 x y → cg_R n a2 v y := fun x y z r => z.elim (fun k => by rw [← k]; exact r) (fun k => tr _ _ _ k r)
    have bad : ∀ x, (x = v ∨ cg_R n a2 v x) → (x = u ∨ cg_R n a2 x u) → False := by
      intro x z1 z2
      rcases z1 with k | k
      · rcases z2 with j | j
        · exact uv (by rw [← j, ← k])
        · rw [k] at j; exact nvu j
      · exact nvu (pu v x k z2)
    have O' : cg_O n (cg_R n s) := by
      refine ⟨fun x y r => ⟨r.1, r.2.1⟩, fun x y z r1 r2 => ?_, fun x r => ?_⟩
      · rcases (rx x y).mp r1 with k1 | k1
        · rcases (rx y z).mp r2 with k2 | k2
          · exact up _ _ (tr _ _ _ k1 k2)
          · exact (rx x z).mpr (Or.inr ⟨Or.inr (pu x y k1 k2.1), k2.2⟩)
        · rcases (rx y z).mp r2 with k2 | k2
          · exact (rx x z).mpr (Or.inr ⟨k1.1, Or.inr (pv y z k1.2 k2)⟩)
          · exact absurd k2.1 (bad y k1.2)
      · rcases (rx x x).mp r with k | k
        · exact hO.2.2 x k
        · exact bad x k.2 k.1
    refine H1 a1' s ⟨hn, fun w hw i hi => ?_, bs, O', fun x y r => ?_, fun x y r nf' => ?_⟩ up (fun kn => ?_)
    · rcases (fx w hw i).mp hi with z | z
      · exact b1 w hw i z
      · rw [z.2]; exact vn
    · rcases (fr x y).mp r with k | k
      · exact up _ _ (hF x y k)
      · exact (rx x y).mpr (Or.inr ⟨Or.inl k.1, Or.inl k.2⟩)
    · have ruv : cg_R n s u v := (rx u v).mpr (Or.inr ⟨Or.inl rfl, Or.inl rfl⟩)
      rcases (rx x y).mp r with k | k
      · obtain ⟨w, w1, w2⟩ := hI x y k (fun z => nf' ((fr x y).mpr (Or.inl z)))
        exact ⟨w, up _ _ w1, up _ _ w2⟩
      · rcases k.1 with j | j
        · rcases k.2 with i | i
          · exact absurd ((fr x y).mpr (Or.inr ⟨j, i⟩)) nf'
          · refine ⟨v, ?_, up _ _ i⟩
            rw [j]; exact ruv
        · refine ⟨u, up _ _ j, (rx u y).mpr (Or.inr ⟨Or.inl rfl, k.2⟩)⟩
    · have down : ∀ x y, cg_R n s x y → cg_R n a2 x y := fun x y r => by
        rcases (rx x y).mp r with k | k
        · exact k
        · have xv : cg_R n a2 x v := k.1.elim (fun j => by rw [j]; exact kn) (fun j => tr _ _ _ j kn)
          exact k.2.elim (fun j => by rw [j]; exact xv) (fun j => tr _ _ _ xv j)
      refine ⟨down, ?_⟩
      have same : ∀ w, w < n → ∀ x, cg_b (s w) x ↔ cg_b (a2 w) x := fun w hw x => ⟨fun z => (down w x ⟨hw, bs w hw x z, z⟩).2.2, fun z => (up w x ⟨hw, b2 w hw x z, z⟩).2.2⟩
      have near : ∀ w, w < n → ∀ x, (cg_b (s w) x ∧ ∀ y, y < n → cg_b (s w) y → ¬ cg_b (s y) x) ↔ (cg_b (a2 w) x ∧ ∀ y, y < n → cg_b (a2 w) y → ¬ cg_b (a2 y) x) := by
        intro w hw x
        constructor
        · intro z
          exact ⟨(same w hw x).mp z.1, fun y hy k j => z.2 y hy ((same w hw y).mpr k) ((same y hy x).mpr j)⟩
        · intro z
          exact ⟨(same w hw x).mpr z.1, fun y hy k j => z.2 y hy ((same w hw y).mp k) ((same y hy x).mp j)⟩
      have mono : ∀ w, w < n → ∀ x, cg_b (a1 w) x ∧ ¬ (cg_b (a2 w) x ∧ ∀ y, y < n → cg_b (a2 w) y → ¬ cg_b (a2 y) x) → cg_b (a1' w) x ∧ ¬ (cg_b (s w) x ∧ ∀ y, y < n → cg_b (s w) y → ¬ cg_b (s y) x) := by
        intro w hw x z
        exact ⟨(fx w hw x).mpr (Or.inl z.1), fun k => z.2 ((near w hw x).mp k)⟩
      refine cg_sum_lt (u := u) n (fun w hw => cg_cnt_mono 9 (fun x _ z => mono w hw x z)) un ?_
      refine cg_cnt_more (a := v) (by omega) (fun z => nf z.1) ⟨(fx u un v).mpr (Or.inr ⟨rfl, rfl⟩), fun k => ?_⟩ (fun x _ z => mono u un x z)
      obtain ⟨w, w1, w2⟩ := hI u v kn (fun z => nf z.2.2)
      exact ((near u un v).mp k).2 w w1.2.1 w1.2.2 w2.2.2
  · intro f i s hi h hw
    have si : ∀ x, cg_b (s i) x ↔ cg_b (a2 i) x := fun x => by
      rw [h i hi x]
      exact ⟨fun z => z.elim id (fun k => absurd k.1 (by omega)), Or.inl⟩
    have yes : (i = u ∨ cg_b (a2 i) u) → wX_addOrder_109 post (wX_addOrder_80 post (nI u) g (nI n) pt f) (nI u) g (nI i) (nI n) pt a1' s a3 a4 := by
      intro c
      unfold wX_addOrder_109
      rw [nI_clamp (show i < 2 ^ 31 by omega)]
      refine ⟨pk_in i 9 (by omega), pk_in i 9 (by omega), nm_e (nm_r (nI_1 i) (hw _ (fun w wn x => ?_)))⟩
      by_cases e : w = i
      · rw [e, pk_us, cg_b_or, si x]
        exact ⟨fun z => z.elim Or.inl (fun k => Or.inr ⟨by omega, c, k⟩), fun z => z.elim Or.inl (fun k => Or.inr k.2.2)⟩
      · rw [pk_un e, h w wn x]
        exact ⟨fun z => z.elim Or.inl (fun k => Or.inr ⟨by omega, k.2⟩), fun z => z.elim Or.inl (fun k => Or.inr ⟨by omega, k.2⟩)⟩
    refine pk_le n i (fun z => absurd z (by omega)) (fun _ => pk_eq i u (fun e => yes (Or.inl e)) (fun ne => ⟨pk_in i 9 (by omega), ?_⟩))
    rw [nI_clamp (show i < 2 ^ 31 by omega)]
    refine cg_br u (by omega) (fun b => nm_r (nI_1 i) (hw s (fun w wn x => ?_))) (fun b => yes (Or.inr ((si u).mp b)))
    rw [h w wn x]
    constructor
    · exact fun z => z.elim Or.inl (fun k => Or.inr ⟨by omega, k.2⟩)
    · intro z
      rcases z with z | z
      · exact Or.inl z
      · by_cases e : w = i
        · rw [e] at z
          rcases z.2.1 with k | k
          · exact absurd k ne
          · exact absurd ((si u).mpr k) b
        · exact Or.inr ⟨by omega, z.2⟩
end
section
theorem cg_b_shr1 {x : Int32} (h : ∀ i, cg_b x i → i < 9) {i : Nat} : cg_b (x >>> ((1 : Int32) &&& 31)) i ↔ cg_b x (i + 1) := by
  have e : i < 31 → (cg_b (x >>> (nI 1 &&& 31)) i ↔ cg_b x (1 + i)) := fun hi => cg_b_shr (by omega) (by omega)
  by_cases hi : i < 31
  · rw [Nat.add_comm i 1]
    exact e hi
  · constructor
    · intro z
      have h32 := cg_b_lt z
      have e31 : i = 31 := by omega
      rw [e31] at z
      unfold cg_b at z
      rw [Int32.toBitVec_shiftRight] at z
      have z' : (x.toBitVec.sshiftRight ((nI 1 &&& 31).toBitVec.smod 32).toNat).getLsbD 31 = true := z
      rw [cg_s_l 1 (by omega), BitVec.getLsbD_sshiftRight, BitVec.msb_eq_getLsbD_last] at z'
      have z2 : cg_b x 31 := by
        simp at z'
        exact z'
      have := h 31 z2
      omega
    · intro z
      have := h _ z
      omega
/-- task u of the tasks without v, in the old numbers -/
def cg_sh (v u : Nat) : Nat := if u < v then u else u + 1
theorem cg_sh_lo {v u : Nat} (h : u < v) : cg_sh v u = u := if_pos h
theorem cg_sh_hi {v u : Nat} (h : v ≤ u) : cg_sh v u = u + 1 := if_neg (by omega)
theorem cg_sh_lt {v u m : Nat} (hv : v ≤ m) : cg_sh v u < m + 1 ↔ u < m := by
  rcases Nat.lt_or_ge u v with z | z
  · rw [cg_sh_lo z]; omega
  · rw [cg_sh_hi z]; omega
/-- the mask x without place v -/
def cg_drop (v : Nat) (x : Int32) : Int32 := (x &&& (((1 : Int32) <<< (nI v &&& 31)) - 1)) ||| ((x >>> ((1 : Int32) &&& 31)) &&& ((((1 : Int32) <<< (nI v &&& 31)) - 1) ^^^ (-1)))
theorem cg_drop_b {v : Nat} {x : Int32} (hv : v ≤ 9) (h : ∀ i, cg_b x i → i < 9) {i : Nat} : cg_b (cg_drop v x) i ↔ cg_b x (cg_sh v i) := by
  unfold cg_drop
  rw [cg_b_or, cg_b_and, cg_b_part hv, cg_b_an, cg_b_part hv, cg_b_shr1 h]
  rcases Nat.lt_or_ge i v with z | z
  · rw [cg_sh_lo z]
    exact ⟨fun k => k.elim (fun j => j.1) (fun j => absurd z j.2), fun k => Or.inl ⟨k, z⟩⟩
  · rw [cg_sh_hi z]
    exact ⟨fun k => k.elim (fun j => absurd j.2 (by omega)) (fun j => j.1), fun k => Or.inr ⟨k, by omega⟩⟩
/-- removeTask(v) -/
theorem cg_remt {post : Int32 → St2 → Prop} {n : Nat} {pt : Int32} {a1 a2 a3 a4 : Nat → Int32} {v : Nat} (hv : v ≤ 9) (ok : cg_ok n a1 a2)
    (H : ∀ r n' a1' a2', cg_ok n' a1' a2' → post r (nI n', pt, a1', a2', a3, a4)) : wpX_removeTask post (nI n, pt, a1, a2, a3, a4) (nI v) := by
  have ok' := ok
  obtain ⟨hn, b1, b2, hO, hF, _⟩ := ok'
  unfold wpX_removeTask
  refine cg_task hn hv (fun vn => br_f (by decide) ?_) (fun _ => br_t rfl (H _ n a1 a2 ok))
  obtain ⟨m, hm⟩ : ∃ m, n = m + 1 := ⟨n - 1, by omega⟩
  subst hm
  refine nm_r (nI_pred m) ?_
  refine pk_loop (fun f i s => wX_removeTask_22 post (nI v) (nI m) pt f (nI i) s a2 a3 a4) (fun i s => v ≤ i ∧ ∀ u, u < m + 1 → s u = if v ≤ u ∧ u < i then a1 (u + 1) else a1 u) m v a1 (by omega) ⟨Nat.le_refl _, fun u hu => (if_neg (by omega)).symm⟩ ?_ ?_
  · intro f s0 h0
    have h0 := h0.2
    refine pk_le m m (fun _ => nm_e ?_) (fun z => absurd z (by omega))
    have s1 : ∀ u, u < m → s0 u = a1 (cg_sh v u) := fun u hu => by
      rw [h0 u (by omega)]
      rcases Nat.lt_or_ge u v with z | z
      · rw [cg_sh_lo z, if_neg (by omega)]
      · rw [cg_sh_hi z, if_pos ⟨z, hu⟩]
    refine pk_loop (fun f i s => wX_removeTask_58 post (((1 : Int32) <<< (nI v &&& 31)) - 1) (nI m) pt f (nI i) s a2 a3 a4) (fun i s => ∀ u, u < m → s u = if u < i then cg_drop v (s0 u) else s0 u) m 0 s0 (by omega) (fun u hu => (if_neg (by omega)).symm) ?_ ?_
    · intro f s h
      refine pk_le m m (fun _ => ?_) (fun z => absurd z (by omega))
      have sb : ∀ u, u < m → ∀ i, cg_b (s u) i ↔ cg_b (a1 (cg_sh v u)) (cg_sh v i) := fun u hu i => by
        have su := (cg_sh_lt (u := u) (show v ≤ m by omega)).mpr hu
        rw [h u hu, if_pos hu, s1 u hu]
        exact cg_drop_b hv (fun j hj => by have := b1 _ su j hj; omega)
      refine cg_close (T := fun x y => x < m ∧ y < m ∧ cg_R (m + 1) a2 (cg_sh v x) (cg_sh v y)) (by omega) (fun u hu i hi => ?_) ⟨fun x y r => ⟨r.1, r.2.1⟩, fun x y z r1 r2 => ⟨r1.1, r2.2.1, hO.2.1 _ _ _ r1.2.2 r2.2.2⟩, fun x r => hO.2.2 _ r.2.2⟩ (fun x y r => ?_) (fun a2' k => H _ m s a2' k)
      · have su := (cg_sh_lt (u := u) (show v ≤ m by omega)).mpr hu
        exact (cg_sh_lt (show v ≤ m by omega)).mp (b1 _ su _ ((sb u hu i).mp hi))
      · refine ⟨r.1, r.2.1, hF _ _ ⟨(cg_sh_lt (show v ≤ m by omega)).mpr r.1, (cg_sh_lt (show v ≤ m by omega)).mpr r.2.1, (sb x r.1 y).mp r.2.2⟩⟩
    · intro f i s hi h hw
      refine pk_le m i (fun z => absurd z (by omega)) (fun _ => ⟨pk_in i 9 (by omega), pk_in i 9 (by omega), pk_in i 9 (by omega), ?_⟩)
      rw [nI_clamp (show i < 2 ^ 31 by omega)]
      refine nm_e (nm_r (nI_1 i) (hw _ (fun u hu => ?_)))
      by_cases e : u = i
      · rw [e, pk_us, if_pos (by omega), h i hi, if_neg (by omega)]
        rfl
      · rw [pk_un e, h u hu]
        by_cases g : u < i
        · rw [if_pos g, if_pos (by omega)]
        · rw [if_neg g, if_neg (by omega)]
  · intro f i s hi h hw
    obtain ⟨iv, h⟩ := h
    refine pk_le m i (fun z => absurd z (by omega)) (fun _ => ⟨pk_in (i + 1) 9 (by omega) (nI_1 i), pk_in i 9 (by omega), ?_⟩)
    rw [nI_1, nI_clamp (show i < 2 ^ 31 by omega), nI_clamp (show i + 1 < 2 ^ 31 by omega)]
    refine nm_e (nm_r rfl (hw _ ⟨by omega, fun u hu => ?_⟩))
    by_cases e : u = i
    · rw [e, pk_us, if_pos (by omega), h (i + 1) (by omega), if_neg (by omega)]
    · rw [pk_un e, h u hu]
      by_cases g : v ≤ u ∧ u < i
      · rw [if_pos g, if_pos (by omega)]
      · rw [if_neg g, if_neg (by omega)]
end
section
theorem cg_tk {post : Int32 → Prop} {n pt : Int32} {a1 a2 a3 a4 : Nat → Int32} (H : post n) : wpX_tasks post (n, pt, a1, a2, a3, a4) := H
theorem cg_mod (x : Int32) {n : Nat} (hn : n ≤ 9) : ∃ u, u ≤ n ∧ (x &&& 255) - (x &&& 255) / (nI n + 1) * (nI n + 1) = nI u := by
  obtain ⟨j, hj, e⟩ := pk_andE x (m := 255) 8 (by decide)
  rw [e, nI_1, pk_rem (by omega) (by omega) (by omega)]
  exact ⟨j % (n + 1), by have := Nat.mod_lt j (show 0 < n + 1 by omega); omega, rfl⟩
theorem cg_lim {L i : Nat} (hL : L ≤ 260) (hi : i ≤ 300) : (Int32.ofNat L - 3 < nI i) ↔ L < i + 3 := by
  have e : (Int32.ofNat L - 3).toInt = (L : Int) - 3 := pk_sub_toInt (a := L) (b := 3) (by omega) (by omega)
  rw [Int32.lt_iff_toInt_lt, e, nI_toInt (by omega)]
  omega
/-- the checks behind every call -/
theorem cg_205 {J : Int32 → Int32 → Int32 → (Nat → Int32) → (Nat → Int32) → (Nat → Int32) → (Nat → Int32) → Prop} {L : Nat} {xs : Nat → Int32} {kc ks i n : Nat} {pt : Int32} {a1 a2 a3 a4 : Nat → Int32} (ok : cg_ok n a1 a2)
    (HJ : ∀ pt' a3' a4', J (nI (i + 3)) (nI n) pt' a1 a2 a3' a4') : wL_law_205 (fun r => r = 1) L xs J (nI i) kc ks (nI n) pt a1 a2 a3 a4 := by
  obtain ⟨hn, b1, b2, hO, hF, _⟩ := ok
  unfold wL_law_205
  refine cg_tk (cg_sh2 hn hO (fun len pt1 c3 c4 l9 hS => cg_sh1 (fun pt2 => br_t rfl ?_)))
  have h2 := cg_S_half hS
  obtain ⟨lab, t, _, hT, _, _⟩ := hS
  refine pk_le n (2 * len) (fun _ => ?_) (fun z => absurd z (by omega)) rfl (pk_mul 2 len)
  refine pk_loop (σ := Unit) (fun f j _ => wL_law_239 (fun r => r = 1) L xs J (nI i) (nI n) (nI len) kc ks (nI n) pt2 a1 a2 c3 c4 f (nI j)) (fun _ _ => True) n 0 () (by omega) trivial ?_ ?_
  · intro f _ _
    exact pk_le n n (fun _ => nm_r (nI_add i 3) (HJ _ _ _)) (fun z => absurd z (by omega))
  · intro f j _ hj _ hw
    exact pk_le n j (fun z => absurd z (by omega)) (fun _ => cg_hgt hn hj b2 hT.1 hT.2.1 (fun h h1 h10 => pk_le h len (fun _ => nm_r (nI_1 j) (hw () trivial)) (fun z => absurd z (by omega))))
theorem cg_loop {L : Nat} {xs : Nat → Int32} {kc ks n : Nat} {pt : Int32} {a1 a2 a3 a4 : Nat → Int32} (hL : L ≤ 260) (ok : cg_ok n a1 a2) :
    ∃ f, wL_law_15 (fun r => r = 1) L xs kc ks f 1 (nI n) pt a1 a2 a3 a4 := by
  refine lp7 (wL_law_15 (fun r => r = 1) L xs kc ks) (fun x2 tc _ a1 a2 _ _ => ∃ i n, x2 = nI i ∧ i ≤ L + 1 ∧ tc = nI n ∧ cg_ok n a1 a2) (fun x2 _ _ _ _ _ _ => L + 1 - x2.toNatClampNeg) ?_ 1 (nI n) pt a1 a2 a3 a4 ⟨1, n, rfl, by omega, rfl, ok⟩
  intro f x2 tc pt a1 a2 a3 a4 hI hw
  obtain ⟨i, n, e1, hi, e2, ok⟩ := hI
  subst e1 e2
  by_cases hx : L < i + 3
  · exact br_t ((cg_lim hL (by omega)).mpr hx) rfl
  refine br_f (fun z => hx ((cg_lim hL (by omega)).mp z)) ?_
  have HJ : ∀ n' a1' a2', cg_ok n' a1' a2' → ∀ pt' a3' a4', wL_law_15 (fun r => r = 1) L xs kc ks f (nI (i + 3)) (nI n') pt' a1' a2' a3' a4' := by
    intro n' a1' a2' ok' pt' a3' a4'
    refine hw _ _ _ _ _ _ _ ⟨i + 3, n', rfl, by omega, rfl, ok'⟩ ?_
    rw [nI_clamp (show i + 3 < 2 ^ 31 by omega), nI_clamp (show i < 2 ^ 31 by omega)]
    omega
  have ok0 := ok
  obtain ⟨hn, b1, b2, hO, hF, hI⟩ := ok0
  have nz : ¬ nI n + 1 = 0 := by rw [nI_1]; exact nI_ne0 (by omega) (by omega)
  obtain ⟨u, hu, eu⟩ := cg_mod (xs (nI i + 1).toNatClampNeg) hn
  obtain ⟨v, hv, ev⟩ := cg_mod (xs (nI i + 2).toNatClampNeg) hn
  obtain ⟨k, hk, ek⟩ := pk_andE (xs (nI i).toNatClampNeg) (m := 7) 3 (by decide)
  refine cg_tk ⟨pk_in (i + 1) L (by omega) (nI_1 i), nz, nm_r eu ⟨pk_in (i + 2) L (by omega) (nI_add i 2), nz, nm_r ev ?_⟩⟩
  refine cg_sh2 hn hO (fun len pt1 c3 c4 l9 hS => cg_supf hn ⟨pk_in i L (by omega), nm_r ek (br_f (nI_pos (by omega)) ?_)⟩)
  refine pk_lt 2 k (fun _ => ?_) (fun _ => pk_eq k 0 (fun _ => cg_addt ok (fun r n' a1' a2' ok' => cg_205 ok' (HJ n' a1' a2' ok'))) (fun _ => pk_eq k 1 (fun _ => br_c (fun _ => cg_remt (by omega) ok (fun r n' a1' a2' ok' => cg_205 ok' (HJ n' a1' a2' ok'))) (fun _ => cg_205 ok (HJ n a1 a2 ok))) (fun _ => pk_eq k 2 (fun _ => cg_remo (by omega) (by omega) ok (fun r n' a1' a2' ok' => cg_205 ok' (HJ n' a1' a2' ok'))) (fun _ => trivial))))
  have tr := hO.2.1
  refine cg_aft hn (by omega) (by omega) (fun kn => cg_addo (by omega) (by omega) ok (fun r hr => ?_) (fun a1' a2' ok' up kd => ?_)) (fun nk => cg_addo (by omega) (by omega) ok (fun r hr => ?_) (fun a1' a2' ok' up kd => ?_))
  · refine cg_sh2 hn hO (fun len2 pt2 d3 d4 m9 hS2 => ?_)
    have g := cg_S_le hO.1 tr hS hS2 (fun _ _ r => r)
    exact pk_le len len2 (fun _ => br_f hr (cg_205 ok (HJ n a1 a2 ok))) (fun z => absurd z (by omega))
  · have O' := ok'.2.2.2.1
    obtain ⟨dn, sl⟩ := kd kn
    have s1 := cg_sup_b (n := n) (a1 := a1) (a2 := a2) hn
    have s2 := cg_sup_b (n := n) (a1 := a1') (a2 := a2') hn
    refine cg_sh2 hn O' (fun len2 pt2 d3 d4 m9 hS2 => ?_)
    have g := cg_S_le hO.1 tr hS hS2 up
    refine pk_le len len2 (fun _ => br_t rfl (br_f (by decide) ?_)) (fun z => absurd z (by omega))
    refine cg_sh2 hn O' (fun len3 pt3 q3 q4 n9 hS3 => ?_)
    have g1 := cg_S_le hO.1 tr hS hS3 up
    have g2 := cg_S_le O'.1 O'.2.1 hS3 hS dn
    refine pk_eq len3 len (fun _ => cg_supf hn ?_) (fun z => absurd (by omega) z)
    exact pk_lt (cg_sup n a1 a2) (cg_sup n a1' a2') (fun _ => cg_205 ok' (HJ n a1' a2' ok')) (fun z => absurd z (by omega))
  · refine cg_sh2 hn hO (fun len2 pt2 d3 d4 m9 hS2 => ?_)
    have g := cg_S_le hO.1 tr hS hS2 (fun _ _ r => r)
    exact pk_le len len2 (fun _ => br_f hr (cg_205 ok (HJ n a1 a2 ok))) (fun z => absurd z (by omega))
  · refine cg_sh2 hn ok'.2.2.2.1 (fun len2 pt2 d3 d4 m9 hS2 => ?_)
    have g := cg_S_le hO.1 tr hS hS2 up
    exact pk_le len len2 (fun _ => br_t rfl (br_t rfl (cg_205 ok' (HJ n a1' a2' ok')))) (fun z => absurd z (by omega))
theorem cg_ok0 {n : Nat} (hn : n ≤ 9) : cg_ok n (fun _ => 0) (fun _ => 0) :=
  ⟨hn, fun u _ i hi => absurd hi cg_b_0, fun u _ i hi => absurd hi cg_b_0, ⟨fun u v r => ⟨r.1, r.2.1⟩, fun u v w r => absurd r.2.2 cg_b_0, fun u r => cg_b_0 r.2.2⟩, fun u v r => absurd r.2.2 cg_b_0, fun u v r => absurd r.2.2 cg_b_0⟩
theorem i_vc (xs : Nat → Int32) (L : Nat) (hL : L ≤ 260) : wpL_law (fun r => r = 1) L xs := by
  have main : ∀ r : Int32, ∃ mc ms : Nat, 1 + mc ≤ 5 ∧ 6 + ms ≤ 42 ∧ (wpX_init (fun u => match u with | (tc, pt, a1, a2, a3, a4) => (∃ f : Nat, wL_law_15 (fun r => r = 1) L xs (1 + mc) (6 + ms) f 1 tc pt a1 a2 a3 a4)) mc ms (0, 0) r) := by
    intro r
    refine ⟨4, 36, by omega, by omega, by omega, by omega, by omega, by omega, by omega, by omega, by omega, by omega, ?_⟩
    rcases pk_ix r (n := 10) (by omega) with z | z | ⟨j, hj, z⟩
    · refine br_f (fun k => ?_) (cg_loop hL (cg_ok0 (n := 0) (by omega)))
      rw [Int32.lt_iff_toInt_lt] at z
      rw [Int32.le_iff_toInt_le] at k
      omega
    · have z10 : (nI 10).toInt = 10 := nI_toInt (by omega)
      have z9 : (9 : Int32).toInt = 9 := by decide
      have z0 : (0 : Int32).toInt = 0 := by decide
      rw [Int32.le_iff_toInt_le] at z
      refine br_t ?_ (br_f (fun k => ?_) (cg_loop hL (cg_ok0 (n := 9) (by omega))))
      · rw [Int32.le_iff_toInt_le]; omega
      · rw [Int32.le_iff_toInt_le] at k; omega
    · rw [z]
      exact br_t (nI_pos' (by omega)) (pk_le j 9 (fun g => cg_loop hL (cg_ok0 (n := j) g)) (fun g => absurd g (by omega)))
  unfold wpL_law wpL_cell
  exact pk_le L 0 (fun _ => main 0) (fun z => ⟨pk_in 0 L z, main _⟩)
end
