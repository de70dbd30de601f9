section
/-! lists, sorted by a falling relation -/
theorem ds_uniq {R : Nat → Nat → Prop} (as : ∀ a b, R a b → R b a → False) : ∀ {l1 l2 : List Nat}, l1.Pairwise R → l2.Pairwise R → (∀ x, x ∈ l1 ↔ x ∈ l2) → l1 = l2 := by
  intro l1
  induction l1 with
  | nil =>
    intro l2 _ _ h
    cases l2 with
    | nil => rfl
    | cons b l => exact absurd ((h b).mpr (List.mem_cons_self)) (List.not_mem_nil)
  | cons a l1 ih =>
    intro l2 h1 h2 h
    cases l2 with
    | nil => exact absurd ((h a).mp (List.mem_cons_self)) (List.not_mem_nil)
    | cons b l2 =>
      have p1 := List.pairwise_cons.mp h1
      have p2 := List.pairwise_cons.mp h2
      have e : a = b := by
        rcases List.mem_cons.mp ((h a).mp List.mem_cons_self) with z | z
        · exact z
        · rcases List.mem_cons.mp ((h b).mpr List.mem_cons_self) with y | y
          · exact y.symm
          · exact (as a b (p1.1 b y) (p2.1 a z)).elim
      subst e
      congr 1
      refine ih p1.2 p2.2 (fun x => ⟨fun hx => ?_, fun hx => ?_⟩)
      · rcases List.mem_cons.mp ((h x).mp (List.mem_cons_of_mem _ hx)) with z | z
        · subst z
          exact (as x x (p1.1 x hx) (p1.1 x hx)).elim
        · exact z
      · rcases List.mem_cons.mp ((h x).mpr (List.mem_cons_of_mem _ hx)) with z | z
        · subst z
          exact (as x x (p2.1 x hx) (p2.1 x hx)).elim
        · exact z
theorem ds_php : ∀ (M : Nat) (l : List Nat), l.Nodup → (∀ x, x ∈ l → x < M) → l.length ≤ M := by
  intro M
  induction M with
  | zero =>
    intro l _ h
    cases l with
    | nil => exact Nat.le_refl 0
    | cons a l => exact absurd (h a List.mem_cons_self) (by omega)
  | succ M ih =>
    intro l hn h
    have h1 := ih (l.erase M) (hn.erase M) (fun x hx => by
      have h2 := (hn.mem_erase_iff).mp hx
      have h3 := h x h2.2
      have h4 := h2.1
      omega)
    have h5 : l.length ≤ (l.erase M).length + 1 := by
      by_cases hm : M ∈ l
      · rw [List.length_erase_of_mem hm]; omega
      · rw [List.erase_of_not_mem hm]; omega
    omega
theorem ds_nodup {R : Nat → Nat → Prop} (as : ∀ a b, R a b → R b a → False) {l : List Nat} (h : l.Pairwise R) : l.Nodup := by
  refine List.Pairwise.imp (fun {a b} hab e => ?_) h
  subst e
  exact as _ _ hab hab
theorem ds_ins {R : Nat → Nat → Prop} {p s : List Nat} {r : Nat} (h : (p ++ s).Pairwise R) (h1 : ∀ x, x ∈ p → R x r) (h2 : ∀ x, x ∈ s → R r x) : (p ++ r :: s).Pairwise R := by
  rw [List.pairwise_append] at h ⊢
  refine ⟨h.1, List.pairwise_cons.mpr ⟨h2, h.2.1⟩, fun a ha b hb => ?_⟩
  rcases List.mem_cons.mp hb with z | z
  · subst z; exact h1 a ha
  · exact h.2.2 a ha b z
theorem ds_del {R : Nat → Nat → Prop} {p s : List Nat} {r : Nat} (h : (p ++ r :: s).Pairwise R) : (p ++ s).Pairwise R := by
  rw [List.pairwise_append] at h ⊢
  exact ⟨h.1, (List.pairwise_cons.mp h.2.1).2, fun a ha b hb => h.2.2 a ha b (List.mem_cons_of_mem _ hb)⟩
/-! counting -/
theorem ds_cp_up {p q : Nat → Bool} {j : Nat} : ∀ (M : Nat), j < M → p j = false → q j = true → (∀ i, i ≠ j → q i = p i) → (List.range M).countP q = (List.range M).countP p + 1 := by
  intro M
  induction M with
  | zero => intro h; omega
  | succ M ih =>
    intro hj h1 h2 h3
    rw [List.range_succ, List.countP_append, List.countP_append]
    by_cases e : j = M
    · subst e
      have h4 : (List.range j).countP q = (List.range j).countP p := by
        apply List.countP_congr
        intro x hx
        rw [h3 x (by have := List.mem_range.mp hx; omega)]
      rw [h4]
      simp [h1, h2]
    · rw [ih (by omega) h1 h2 h3]
      have h5 : q M = p M := h3 M (fun z => e z.symm)
      have h6 : List.countP q [M] = List.countP p [M] := by
        simp [h5]
      rw [h6]; omega
theorem ds_cp_eq {p q : Nat → Bool} (M : Nat) (h : ∀ i, i < M → q i = p i) : (List.range M).countP q = (List.range M).countP p := by
  apply List.countP_congr
  intro x hx
  rw [h x (List.mem_range.mp hx)]
theorem ds_cp_ext {p : Nat → Bool} (M : Nat) : ∀ N, M ≤ N → (∀ i, M ≤ i → i < N → p i = false) → (List.range N).countP p = (List.range M).countP p := by
  intro N
  induction N with
  | zero => intro h _; rw [show M = 0 by omega]
  | succ N ih =>
    intro h h1
    by_cases e : M = N + 1
    · rw [e]
    · rw [List.range_succ, List.countP_append, ih (by omega) (fun i hi hj => h1 i hi (by omega))]
      simp [h1 N (by omega) (by omega)]
theorem ds_cp_succ {p : Nat → Bool} (M : Nat) : (List.range (M + 1)).countP p = (List.range M).countP p + (if p M then 1 else 0) := by
  rw [List.range_succ, List.countP_append]
  by_cases h : p M
  · simp [h]
  · simp [h]
theorem ds_cp_le (p : Nat → Bool) (M : Nat) : (List.range M).countP p ≤ M := by
  have h := List.countP_le_length (p := p) (l := List.range M)
  rwa [List.length_range] at h
theorem ds_cp_0 {p : Nat → Bool} {M : Nat} : (List.range M).countP p = 0 ↔ ∀ i, i < M → p i = false := by
  rw [List.countP_eq_zero]
  constructor
  · intro h i hi
    have := h i (List.mem_range.mpr hi)
    simpa using this
  · intro h i hi
    rw [h i (List.mem_range.mp hi)]
    simp
/-- a list whose fibres over Q are small is small -/
theorem ds_fib {β : Type} [DecidableEq β] (f : Nat → β) (B : Nat) : ∀ (Q : List β) (l : List Nat), (∀ x, x ∈ l → f x ∈ Q) → (∀ q, q ∈ Q → l.countP (fun x => f x = q) ≤ B) → l.length ≤ B * Q.length := by
  intro Q
  induction Q with
  | nil =>
    intro l h _
    cases l with
    | nil => simp
    | cons a l => exact absurd (h a List.mem_cons_self) List.not_mem_nil
  | cons q Q ih =>
    intro l h hb
    have h1 := ih (l.filter (fun x => ¬ f x = q)) (fun x hx => by
        have h2 := List.mem_filter.mp hx
        rcases List.mem_cons.mp (h x h2.1) with z | z
        · exact absurd z (by simpa using h2.2)
        · exact z) (fun q' hq' => by
        refine Nat.le_trans ?_ (hb q' (List.mem_cons_of_mem _ hq'))
        exact List.Sublist.countP_le (List.filter_sublist))
    have h3 := hb q List.mem_cons_self
    have h4 : l.length = l.countP (fun x => f x = q) + (l.filter (fun x => ¬ f x = q)).length := by
      rw [← List.countP_eq_length_filter]
      have := List.length_eq_countP_add_countP (fun x => decide (f x = q)) (l := l)
      simpa using this
    rw [h4, List.length_cons, Nat.mul_add]
    omega
/-! two-place updates -/
def ds_u2 {α : Type} (f : Nat → Nat → α) (n d : Nat) (x : α) : Nat → Nat → α := fun n' d' => if n' = n ∧ d' = d then x else f n' d'
theorem ds_u2s {α : Type} {f : Nat → Nat → α} {n d : Nat} {x : α} : ds_u2 f n d x n d = x := by
  unfold ds_u2
  rw [if_pos ⟨rfl, rfl⟩]
theorem ds_u2n {α : Type} {f : Nat → Nat → α} {n d n' d' : Nat} {x : α} (h : ¬ (n' = n ∧ d' = d)) : ds_u2 f n d x n' d' = f n' d' := by
  unfold ds_u2
  rw [if_neg h]
/-! numbers -/
theorem ds_i8 (n d : Nat) : (8 * nI n) + nI d = nI (8 * n + d) := by
  rw [show (8 : Int32) = nI 8 from rfl, pk_mul, nI_add]
theorem ds_i80 (n d : Nat) : (80 * nI n) + nI d = nI (80 * n + d) := by
  rw [show (80 : Int32) = nI 80 from rfl, pk_mul, nI_add]
theorem ds_i3 (n d : Nat) : (3 * nI n) + nI d = nI (3 * n + d) := by
  rw [show (3 : Int32) = nI 3 from rfl, pk_mul, nI_add]
theorem ds_i640 (n d : Nat) : (640 * nI n) + (80 * nI d) = nI (640 * n + 80 * d) := by
  rw [show (640 : Int32) = nI 640 from rfl, show (80 : Int32) = nI 80 from rfl, pk_mul, pk_mul, nI_add]
/-- an optional number, none is -1 -/
def ds_o : Option Nat → Int32
  | none => -1
  | some p => nI p
theorem ds_nm {n : Nat} (h : n < 2 ^ 31) : ¬ nI n = (-1) := by
  intro e
  have h1 := nI_toInt h
  rw [e] at h1
  have h2 : (-1 : Int32).toInt = -1 := by decide
  omega
theorem ds_o_some {p : Nat} : ds_o (some p) = nI p := rfl
theorem ds_o_none : ds_o none = -1 := rfl
/-- i - 1 as an Int32 -/
def ds_pm : Nat → Int32
  | 0 => -1
  | i + 1 => nI i
theorem ds_pm_a (i : Nat) : nI i + (-1) = ds_pm i := by
  cases i with
  | zero => decide
  | succ i => exact pk_m1 i
theorem ds_pm_s (i : Nat) : nI i - 1 = ds_pm i := by
  cases i with
  | zero => decide
  | succ i => exact nI_pred i
end
section
/-! the table of revisions: document, parent, value, mark, generation, key -/
abbrev ds_N : Type := Nat × Option Nat × Nat × Nat × Nat × Nat
def ds_dc (rv : Nat → ds_N) (r : Nat) : Nat := (rv r).1
def ds_pa (rv : Nat → ds_N) (r : Nat) : Option Nat := (rv r).2.1
def ds_vl (rv : Nat → ds_N) (r : Nat) : Nat := (rv r).2.2.1
def ds_mk (rv : Nat → ds_N) (r : Nat) : Nat := (rv r).2.2.2.1
def ds_ge (rv : Nat → ds_N) (r : Nat) : Nat := (rv r).2.2.2.2.1
def ds_ky (rv : Nat → ds_N) (r : Nat) : Nat := (rv r).2.2.2.2.2
def ds_ad (rv : Nat → ds_N) (M : Nat) (e : ds_N) : Nat → ds_N := fun j => if j = M then e else rv j
theorem ds_ad_s {rv : Nat → ds_N} {M : Nat} {e : ds_N} : ds_ad rv M e M = e := by
  unfold ds_ad
  rw [if_pos rfl]
theorem ds_ad_n {rv : Nat → ds_N} {M j : Nat} {e : ds_N} (h : j ≠ M) : ds_ad rv M e j = rv j := by
  unfold ds_ad
  rw [if_neg h]
/-- one row of the table is right -/
def ds_row (rv : Nat → ds_N) (r : Nat) : Prop :=
  ds_dc rv r < 8 ∧ ds_vl rv r < 4 ∧ ds_mk rv r < 2 ∧
  (ds_pa rv r = none → ds_ge rv r = 1 ∧ ds_ky rv r = 8 + 2 * ds_vl rv r + ds_mk rv r) ∧
  (∀ p, ds_pa rv r = some p → p < r ∧ ds_dc rv p = ds_dc rv r ∧ ds_ge rv r = ds_ge rv p + 1 ∧ ds_ky rv r = 8 * ds_ky rv p + 2 * ds_vl rv r + ds_mk rv r)
def ds_PR (M : Nat) (rv : Nat → ds_N) : Prop :=
  M ≤ 80 ∧ (∀ r, r < M → ds_row rv r) ∧
  (∀ r s, r < M → s < M → ds_dc rv r = ds_dc rv s → ds_pa rv r = ds_pa rv s → ds_vl rv r = ds_vl rv s → ds_mk rv r = ds_mk rv s → r = s)
section
variable {M : Nat} {rv : Nat → ds_N}
theorem ds_bd (h : ds_PR M rv) : ∀ r, r < M → 1 ≤ ds_ge rv r ∧ ds_ge rv r ≤ r + 1 ∧ 8 ^ ds_ge rv r ≤ ds_ky rv r ∧ ds_ky rv r < 2 * 8 ^ ds_ge rv r := by
  intro r
  induction r using Nat.strongRecOn with
  | ind r ih =>
    intro hr
    obtain ⟨h1, h2, h3, h4, h5⟩ := h.2.1 r hr
    cases hp : ds_pa rv r with
    | none =>
      obtain ⟨g1, g2⟩ := h4 hp
      rw [g1, g2]
      refine ⟨Nat.le_refl 1, by omega, by omega, by omega⟩
    | some p =>
      obtain ⟨g1, g2, g3, g4⟩ := h5 p hp
      obtain ⟨i1, i2, i3, i4⟩ := ih p g1 (by omega)
      rw [g3, g4, Nat.pow_succ]
      refine ⟨by omega, by omega, by omega, by omega⟩
theorem ds_ky8 (h : ds_PR M rv) {r : Nat} (hr : r < M) : 8 ≤ ds_ky rv r := by
  obtain ⟨h1, h2, h3, h4⟩ := ds_bd h r hr
  have : 8 ^ 1 ≤ 8 ^ ds_ge rv r := Nat.pow_le_pow_right (by omega) h1
  omega
theorem ds_kyg (h : ds_PR M rv) {r s : Nat} (hr : r < M) (hs : s < M) (hg : ds_ge rv r < ds_ge rv s) : ds_ky rv r < ds_ky rv s := by
  obtain ⟨h1, h2, h3, h4⟩ := ds_bd h r hr
  obtain ⟨g1, g2, g3, g4⟩ := ds_bd h s hs
  have h5 : 8 ^ (ds_ge rv r + 1) ≤ 8 ^ ds_ge rv s := Nat.pow_le_pow_right (by omega) hg
  rw [Nat.pow_succ] at h5
  omega
theorem ds_kyi (h : ds_PR M rv) : ∀ r s, r < M → s < M → ds_dc rv r = ds_dc rv s → ds_ky rv r = ds_ky rv s → r = s := by
  intro r
  induction r using Nat.strongRecOn with
  | ind r ih =>
    intro s hr hs hd hk
    obtain ⟨h1, h2, h3, h4, h5⟩ := h.2.1 r hr
    obtain ⟨g1, g2, g3, g4, g5⟩ := h.2.1 s hs
    cases hp : ds_pa rv r with
    | none =>
      obtain ⟨_, e1⟩ := h4 hp
      cases hq : ds_pa rv s with
      | none =>
        obtain ⟨_, e2⟩ := g4 hq
        exact h.2.2 r s hr hs hd (by rw [hp, hq]) (by omega) (by omega)
      | some q =>
        obtain ⟨q1, q2, q3, q4⟩ := g5 q hq
        have := ds_ky8 h (show q < M by omega)
        omega
    | some p =>
      obtain ⟨p1, p2, p3, p4⟩ := h5 p hp
      have p5 := ds_ky8 h (show p < M by omega)
      cases hq : ds_pa rv s with
      | none =>
        obtain ⟨_, e2⟩ := g4 hq
        omega
      | some q =>
        obtain ⟨q1, q2, q3, q4⟩ := g5 q hq
        have e : p = q := ih p p1 q (by omega) (by omega) (by omega) (by omega)
        subst e
        exact h.2.2 r s hr hs hd (by rw [hp, hq]) (by omega) (by omega)
/-- the i-th ancestor -/
def ds_up (rv : Nat → ds_N) (r : Nat) : Nat → Nat
  | 0 => r
  | i + 1 => (ds_pa rv (ds_up rv r i)).getD 0
theorem ds_up_ok (h : ds_PR M rv) {r : Nat} (hr : r < M) : ∀ i, i < ds_ge rv r → ds_up rv r i < M ∧ ds_ge rv (ds_up rv r i) = ds_ge rv r - i ∧ ds_dc rv (ds_up rv r i) = ds_dc rv r ∧ (i + 1 < ds_ge rv r → ds_pa rv (ds_up rv r i) = some (ds_up rv r (i + 1))) ∧ (i + 1 = ds_ge rv r → ds_pa rv (ds_up rv r i) = none) := by
  intro i
  have key : ∀ x, x < M → (1 < ds_ge rv x → ∃ p, ds_pa rv x = some p ∧ p < M ∧ ds_ge rv p + 1 = ds_ge rv x ∧ ds_dc rv p = ds_dc rv x) ∧ (ds_ge rv x = 1 → ds_pa rv x = none) := by
    intro x hx
    obtain ⟨h1, h2, h3, h4, h5⟩ := h.2.1 x hx
    cases hp : ds_pa rv x with
    | none =>
      obtain ⟨e1, _⟩ := h4 hp
      exact ⟨fun z => by omega, fun _ => rfl⟩
    | some p =>
      obtain ⟨p1, p2, p3, p4⟩ := h5 p hp
      have p5 := ds_bd h p (by omega)
      exact ⟨fun _ => ⟨p, rfl, by omega, by omega, p2⟩, fun z => by omega⟩
  have fin : ∀ x j, x < M → ds_up rv r j = x → ds_ge rv x = ds_ge rv r - j → j < ds_ge rv r → (j + 1 < ds_ge rv r → ds_pa rv x = some (ds_up rv r (j + 1))) ∧ (j + 1 = ds_ge rv r → ds_pa rv x = none) := by
    intro x j hx e hg hj
    refine ⟨fun z => ?_, fun z => ?_⟩
    rotate_left
    · have y : ds_ge rv x = 1 := by clear key; omega
      exact (key x hx).2 y
    have y : 1 < ds_ge rv x := by clear key; omega
    obtain ⟨p, hp, _⟩ := (key x hx).1 y
    rw [hp]
    show some p = some ((ds_pa rv (ds_up rv r j)).getD 0)
    rw [e, hp]
    rfl
  induction i with
  | zero =>
    intro hi
    exact ⟨hr, by show ds_ge rv r = _; omega, rfl, fin r 0 hr rfl (by omega) hi⟩
  | succ i ih =>
    intro hi
    obtain ⟨i1, i2, i3, i4, i5⟩ := ih (by omega)
    have e := i4 hi
    have y : 1 < ds_ge rv (ds_up rv r i) := by clear key fin; omega
    obtain ⟨p, hp, p1, p2, p3⟩ := (key _ i1).1 y
    have e2 : ds_up rv r (i + 1) = p := by
      rw [e] at hp
      exact Option.some.inj hp
    have q1 : ds_ge rv p = ds_ge rv r - (i + 1) := by clear key fin; omega
    refine ⟨by rw [e2]; exact p1, by rw [e2]; exact q1, by rw [e2, p3, i3], ?_⟩
    exact fin (ds_up rv r (i + 1)) (i + 1) (by rw [e2]; exact p1) rfl (by rw [e2]; exact q1) hi
theorem ds_up_lt (h : ds_PR M rv) {a b : Nat} (ha : a < M) (hb : b < M) (hg : ds_ge rv a = ds_ge rv b) : ∀ i, i < ds_ge rv a → ds_ky rv (ds_up rv a i) < ds_ky rv (ds_up rv b i) → ds_ky rv a < ds_ky rv b := by
  intro i
  induction i with
  | zero => intro _ z; exact z
  | succ i ih =>
    intro hi z
    refine ih (by omega) ?_
    obtain ⟨a1, a2, a3, a4, a5⟩ := ds_up_ok h ha i (by omega)
    obtain ⟨b1, b2, b3, b4, b5⟩ := ds_up_ok h hb i (by omega)
    obtain ⟨_, _, c3, _, c5⟩ := h.2.1 _ a1
    obtain ⟨_, _, d3, _, d5⟩ := h.2.1 _ b1
    obtain ⟨_, c6, _, c7⟩ := c5 _ (a4 hi)
    obtain ⟨_, d6, _, d7⟩ := d5 _ (b4 (by omega))
    have c8 := (h.2.1 _ a1).2.1
    have d8 := (h.2.1 _ b1).2.1
    rw [c7, d7]
    omega
/-- the place where two paths part decides -/
theorem ds_cmp (h : ds_PR M rv) {a b k : Nat} (ha : a < M) (hb : b < M) (hd : ds_dc rv a = ds_dc rv b) (hg : ds_ge rv a = ds_ge rv b) (hk : k < ds_ge rv a)
    (he : ∀ j, j < k → ds_up rv a (ds_ge rv a - 1 - j) = ds_up rv b (ds_ge rv a - 1 - j))
    (hx : k + 1 = ds_ge rv a ∨ ds_up rv a (ds_ge rv a - 1 - k) ≠ ds_up rv b (ds_ge rv a - 1 - k)) :
    (ds_ky rv b < ds_ky rv a ↔ ds_vl rv (ds_up rv b (ds_ge rv a - 1 - k)) < ds_vl rv (ds_up rv a (ds_ge rv a - 1 - k)) ∨ (ds_vl rv (ds_up rv b (ds_ge rv a - 1 - k)) = ds_vl rv (ds_up rv a (ds_ge rv a - 1 - k)) ∧ ds_mk rv (ds_up rv a (ds_ge rv a - 1 - k)) = 1 ∧ ds_mk rv (ds_up rv b (ds_ge rv a - 1 - k)) = 0)) := by
  have ex : ∃ i, i = ds_ge rv a - 1 - k := ⟨_, rfl⟩
  obtain ⟨i, hi⟩ := ex
  rw [← hi] at hx ⊢
  have hi2 : i < ds_ge rv a := by omega
  by_cases e : ds_up rv a i = ds_up rv b i
  · have hk1 : k + 1 = ds_ge rv a := by
      rcases hx with z | z
      · exact z
      · exact absurd e z
    have i0 : i = 0 := by omega
    subst i0
    have e2 : a = b := e
    subst e2
    constructor
    · intro z; omega
    · intro z; omega
  · obtain ⟨a1, a2, a3, a4, a5⟩ := ds_up_ok h ha i hi2
    obtain ⟨b1, b2, b3, b4, b5⟩ := ds_up_ok h hb i (by omega)
    have hp : ds_pa rv (ds_up rv a i) = ds_pa rv (ds_up rv b i) := by
      by_cases k0 : i + 1 = ds_ge rv a
      · rw [a5 k0, b5 (by omega)]
      · rw [a4 (by omega), b4 (by omega)]
        have h9 := he (k - 1) (by omega)
        rw [show ds_ge rv a - 1 - (k - 1) = i + 1 by omega] at h9
        rw [h9]
    obtain ⟨_, c2, c3, c4, c5⟩ := h.2.1 _ a1
    obtain ⟨_, d2, d3, d4, d5⟩ := h.2.1 _ b1
    have ne : ¬ (ds_vl rv (ds_up rv a i) = ds_vl rv (ds_up rv b i) ∧ ds_mk rv (ds_up rv a i) = ds_mk rv (ds_up rv b i)) := by
      intro z
      exact e (h.2.2 _ _ a1 b1 (by rw [a3, b3, hd]) hp z.1 z.2)
    have ek : ∃ c, ds_ky rv (ds_up rv a i) = 8 * c + 2 * ds_vl rv (ds_up rv a i) + ds_mk rv (ds_up rv a i) ∧ ds_ky rv (ds_up rv b i) = 8 * c + 2 * ds_vl rv (ds_up rv b i) + ds_mk rv (ds_up rv b i) := by
      cases hq : ds_pa rv (ds_up rv a i) with
      | none =>
        have t1 := (c4 hq).2
        have t2 := (d4 (by rw [← hp, hq])).2
        exact ⟨1, by omega, by omega⟩
      | some q =>
        have t1 := (c5 q hq).2.2.2
        have t2 := (d5 q (by rw [← hp, hq])).2.2.2
        exact ⟨ds_ky rv q, t1, t2⟩
    obtain ⟨c, k1, k2⟩ := ek
    constructor
    · intro z
      by_cases w : ds_ky rv (ds_up rv a i) < ds_ky rv (ds_up rv b i)
      · have := ds_up_lt h ha hb hg i hi2 w
        omega
      · omega
    · intro z
      refine ds_up_lt h hb ha hg.symm i (by omega) ?_
      omega
/-- a new revision at the table's end -/
theorem ds_PR_ad {d x m : Nat} {q : Option Nat} (h : ds_PR M rv) (hM : M < 80) (hd : d < 8) (hx : x < 4) (hm : m < 2)
    (hq : ∀ p, q = some p → p < M ∧ ds_dc rv p = d) (hn : ∀ r, r < M → ds_dc rv r = d → ds_pa rv r = q → ds_vl rv r = x → ds_mk rv r = m → False)
    (g k : Nat) (h0 : q = none → g = 1 ∧ k = 8 + 2 * x + m) (h1 : ∀ p, q = some p → g = ds_ge rv p + 1 ∧ k = 8 * ds_ky rv p + 2 * x + m) :
    ds_PR (M + 1) (ds_ad rv M (d, q, x, m, g, k)) := by
  have old : ∀ j, j < M → ds_ad rv M (d, q, x, m, g, k) j = rv j := fun j hj => ds_ad_n (by omega)
  have new : ds_ad rv M (d, q, x, m, g, k) M = (d, q, x, m, g, k) := ds_ad_s
  refine ⟨by omega, fun r hr => ?_, fun r s hr hs => ?_⟩
  · by_cases e : r = M
    · subst e
      unfold ds_row ds_dc ds_pa ds_vl ds_mk ds_ge ds_ky
      rw [new]
      refine ⟨hd, hx, hm, h0, fun p hp => ?_⟩
      have hp' : q = some p := hp
      obtain ⟨p1, p2⟩ := hq p hp'
      rw [old p p1]
      exact ⟨p1, p2, h1 p hp'⟩
    · have hr' : r < M := by omega
      have t := h.2.1 r hr'
      unfold ds_row ds_dc ds_pa ds_vl ds_mk ds_ge ds_ky at t ⊢
      rw [old r hr']
      refine ⟨t.1, t.2.1, t.2.2.1, t.2.2.2.1, fun p hp => ?_⟩
      have t2 := t.2.2.2.2 p hp
      rw [old p (by omega)]
      exact t2
  · unfold ds_dc ds_pa ds_vl ds_mk
    by_cases e : r = M
    · by_cases e2 : s = M
      · intros; omega
      · rw [e, new, old s (by omega)]
        intro z1 z2 z3 z4
        exact (hn s (by omega) z1.symm z2.symm z3.symm z4.symm).elim
    · by_cases e2 : s = M
      · rw [e2, new, old r (by omega)]
        intro z1 z2 z3 z4
        exact (hn r (by omega) z1 z2 z3 z4).elim
      · rw [old r (by omega), old s (by omega)]
        exact h.2.2 r s (by omega) (by omega)
end
end
section
/-! the arrays of the table; the walk of comesFirst -/
def ds_AR (M : Nat) (rv : Nat → ds_N) (f0 : Int32) (a1 a2 a3 a4 a5 : Nat → Int32) : Prop :=
  f0 = nI M ∧ ∀ r, r < M → a1 r = nI (ds_dc rv r) ∧ a2 r = ds_o (ds_pa rv r) ∧ a3 r = nI (ds_vl rv r) ∧ a4 r = nI (ds_mk rv r) ∧ a5 r = nI (ds_ge rv r)
section
variable {M : Nat} {rv : Nat → ds_N} {f0 : Int32} {a1 a2 a3 a4 a5 a6 a7 a8 a9 a10 a11 a12 a13 a14 a15 a16 a17 a18 a19 a20 a21 a22 : Nat → Int32}
theorem ds_w_paths {post : St1 → Prop} (hR : ds_PR M rv) (hA : ds_AR M rv f0 a1 a2 a3 a4 a5) {a b : Nat} (ha : a < M) (hb : b < M) (hg : ds_ge rv a = ds_ge rv b)
    (H : ∀ p q : Nat → Int32, (∀ k, k < ds_ge rv a → p k = nI (ds_up rv a (ds_ge rv a - 1 - k)) ∧ q k = nI (ds_up rv b (ds_ge rv a - 1 - k))) → post (f0, a1, a2, a3, a4, a5, a6, a7, a8, a9, a10, a11, a12, a13, a14, a15, a16, a17, a18, a19, a20, p, q)) :
    ∀ (i : Nat) (x y : Int32) (p q : Nat → Int32), i ≤ ds_ge rv a → (0 < i → x = nI (ds_up rv a (ds_ge rv a - i)) ∧ y = nI (ds_up rv b (ds_ge rv a - i))) →
      (∀ k, i ≤ k → k < ds_ge rv a → p k = nI (ds_up rv a (ds_ge rv a - 1 - k)) ∧ q k = nI (ds_up rv b (ds_ge rv a - 1 - k))) →
      ∃ fu, wX_findPaths_15 post f0 fu x y (ds_pm i) a1 a2 a3 a4 a5 a6 a7 a8 a9 a10 a11 a12 a13 a14 a15 a16 a17 a18 a19 a20 p q := by
  have hM := hR.1
  have hga := (ds_bd hR a ha).2.1
  intro i
  induction i with
  | zero =>
    intro x y p q _ _ h
    exact ⟨1, br_t (show (-1 : Int32) < 0 by decide) (H p q (fun k hk => h k (by omega) hk))⟩
  | succ i ih =>
    intro x y p q hi hxy h
    obtain ⟨hx, hy⟩ := hxy (by omega)
    obtain ⟨u1, u2, u3, u4, u5⟩ := ds_up_ok hR ha (ds_ge rv a - (i + 1)) (by omega)
    obtain ⟨v1, v2, v3, v4, v5⟩ := ds_up_ok hR hb (ds_ge rv a - (i + 1)) (by omega)
    have ex := (hA.2 _ u1).2.1
    have ey := (hA.2 _ v1).2.1
    obtain ⟨fu, hf⟩ := ih (a2 (ds_up rv a (ds_ge rv a - (i + 1)))) (a2 (ds_up rv b (ds_ge rv a - (i + 1)))) (upd p i x) (upd q i y) (by omega)
      (fun hi0 => by
        rw [ex, ey, u4 (by omega), v4 (by omega)]
        rw [show ds_ge rv a - (i + 1) + 1 = ds_ge rv a - i by omega]
        exact ⟨rfl, rfl⟩)
      (fun k hk hk2 => by
        by_cases e : k = i
        · subst e
          rw [pk_us, pk_us, hx, hy, show ds_ge rv a - (k + 1) = ds_ge rv a - 1 - k by omega]
          exact ⟨rfl, rfl⟩
        · rw [pk_un e, pk_un e]
          exact h k (by omega) hk2)
    refine ⟨fu + 1, ?_⟩
    have hi31 : i < 2 ^ 31 := by omega
    have c1 : (nI i).toNatClampNeg = i := nI_clamp hi31
    have c2 : x.toNatClampNeg = ds_up rv a (ds_ge rv a - (i + 1)) := by rw [hx]; exact nI_clamp (by omega)
    have c3 : y.toNatClampNeg = ds_up rv b (ds_ge rv a - (i + 1)) := by rw [hy]; exact nI_clamp (by omega)
    have in1 : vp_in (nI i) 80 := vp_in_nI (by omega) (by omega)
    refine br_f (show ¬ nI i < 0 from nI_pos hi31) ⟨in1, nm_e ⟨in1, nm_e ⟨by rw [hx]; exact vp_in_nI (by omega) (by omega), nm_e ⟨by rw [hy]; exact vp_in_nI (by omega) (by omega), nm_e (nm_r (ds_pm_a i) ?_)⟩⟩⟩⟩
    show wX_findPaths_15 post f0 fu (a2 x.toNatClampNeg) (a2 y.toNatClampNeg) (ds_pm i) a1 a2 a3 a4 a5 a6 a7 a8 a9 a10 a11 a12 a13 a14 a15 a16 a17 a18 a19 a20 (upd p (nI i).toNatClampNeg x) (upd q (nI i).toNatClampNeg y)
    rw [c1, c2, c3]
    exact hf
theorem ds_w_cf90 {post : Int32 → St1 → Prop} (hR : ds_PR M rv) (hA : ds_AR M rv f0 a1 a2 a3 a4 a5) {a b k : Nat} (ha : a < M) (hb : b < M) (hd : ds_dc rv a = ds_dc rv b) (hg : ds_ge rv a = ds_ge rv b) (hk : k < ds_ge rv a)
    (hP : ∀ k, k < ds_ge rv a → a21 k = nI (ds_up rv a (ds_ge rv a - 1 - k)) ∧ a22 k = nI (ds_up rv b (ds_ge rv a - 1 - k)))
    (he : ∀ j, j < k → ds_up rv a (ds_ge rv a - 1 - j) = ds_up rv b (ds_ge rv a - 1 - j))
    (hx : k + 1 = ds_ge rv a ∨ ds_up rv a (ds_ge rv a - 1 - k) ≠ ds_up rv b (ds_ge rv a - 1 - k))
    (H1 : ds_ky rv b < ds_ky rv a → post 1 (f0, a1, a2, a3, a4, a5, a6, a7, a8, a9, a10, a11, a12, a13, a14, a15, a16, a17, a18, a19, a20, a21, a22)) (H0 : ¬ ds_ky rv b < ds_ky rv a → post 0 (f0, a1, a2, a3, a4, a5, a6, a7, a8, a9, a10, a11, a12, a13, a14, a15, a16, a17, a18, a19, a20, a21, a22)) : wX_comesFirst_90 post (nI k) f0 a1 a2 a3 a4 a5 a6 a7 a8 a9 a10 a11 a12 a13 a14 a15 a16 a17 a18 a19 a20 a21 a22 := by
  have hM := hR.1
  have hga := (ds_bd hR a ha).2.1
  have hc := ds_cmp hR ha hb hd hg hk he hx
  obtain ⟨u1, u2, u3, u4, u5⟩ := ds_up_ok hR ha (ds_ge rv a - 1 - k) (by omega)
  obtain ⟨v1, v2, v3, v4, v5⟩ := ds_up_ok hR hb (ds_ge rv a - 1 - k) (by omega)
  obtain ⟨p1, p2⟩ := hP k hk
  have r1 := hR.2.1 _ u1
  have r2 := hR.2.1 _ v1
  obtain ⟨_, _, x3, x4, _⟩ := hA.2 _ u1
  obtain ⟨_, _, y3, y4, _⟩ := hA.2 _ v1
  generalize ds_up rv a (ds_ge rv a - 1 - k) = x at *
  generalize ds_up rv b (ds_ge rv a - 1 - k) = y at *
  have ik : vp_in (nI k) 80 := vp_in_nI (by omega) (by omega)
  have ix : vp_in (nI x) 80 := vp_in_nI (by omega) (by omega)
  have iy : vp_in (nI y) 80 := vp_in_nI (by omega) (by omega)
  have ck : (nI k).toNatClampNeg = k := nI_clamp (by omega)
  have cx : (nI x).toNatClampNeg = x := nI_clamp (by omega)
  have cy : (nI y).toNatClampNeg = y := nI_clamp (by omega)
  have m1 := r1.2.2.1
  have m2 := r2.2.2.1
  have w1 := r1.2.1
  have w2 := r2.2.1
  refine ⟨ik, nm_r (e' := nI x) (by rw [ck, p1]) ⟨ik, nm_r (e' := nI y) (by rw [ck, p2]) ⟨ix, iy, ?_⟩⟩⟩
  rw [cx, cy, x3, y3, x4, y4]
  refine pk_eq (ds_vl rv x) (ds_vl rv y) (fun z => ⟨ix, ?_⟩) (fun z => ⟨ix, iy, ?_⟩)
  · refine pk_eq (ds_mk rv x) 0 (fun z1 => H0 (fun z2 => ?_)) (fun z1 => ⟨iy, ?_⟩)
    · have := hc.mp z2; omega
    · refine pk_eq (ds_mk rv y) 0 (fun z2 => H1 (hc.mpr (by omega))) (fun z2 => H0 (fun z3 => ?_))
      have := hc.mp z3; omega
  · refine pk_le (ds_vl rv x) (ds_vl rv y) (fun z1 => H0 (fun z2 => ?_)) (fun z1 => H1 (hc.mpr (by omega)))
    have := hc.mp z2; omega
theorem ds_w_cf47 {post : Int32 → St1 → Prop} (hR : ds_PR M rv) (hA : ds_AR M rv f0 a1 a2 a3 a4 a5) {a b : Nat} (ha : a < M) (hb : b < M) (hd : ds_dc rv a = ds_dc rv b) (hg : ds_ge rv a = ds_ge rv b)
    (hP : ∀ k, k < ds_ge rv a → a21 k = nI (ds_up rv a (ds_ge rv a - 1 - k)) ∧ a22 k = nI (ds_up rv b (ds_ge rv a - 1 - k)))
    (H1 : ds_ky rv b < ds_ky rv a → post 1 (f0, a1, a2, a3, a4, a5, a6, a7, a8, a9, a10, a11, a12, a13, a14, a15, a16, a17, a18, a19, a20, a21, a22)) (H0 : ¬ ds_ky rv b < ds_ky rv a → post 0 (f0, a1, a2, a3, a4, a5, a6, a7, a8, a9, a10, a11, a12, a13, a14, a15, a16, a17, a18, a19, a20, a21, a22)) :
    ∀ (i k : Nat), k + 1 + i = ds_ge rv a → (∀ j, j < k → ds_up rv a (ds_ge rv a - 1 - j) = ds_up rv b (ds_ge rv a - 1 - j)) → ∃ fu, wX_comesFirst_47 post (nI a) f0 a1 a2 a3 a4 a5 a6 a7 a8 a9 a10 a11 a12 a13 a14 a15 a16 a17 a18 a19 a20 a21 a22 fu (nI k) (nI k) := by
  have hM := hR.1
  have hga := (ds_bd hR a ha).2.1
  have ia : vp_in (nI a) 80 := vp_in_nI (by omega) (by omega)
  have ca : (nI a).toNatClampNeg = a := nI_clamp (by omega)
  have e5 := (hA.2 a ha).2.2.2.2
  intro i
  induction i with
  | zero =>
    intro k hk he
    refine ⟨1, br_f (show ¬ (80 : Int32) ≤ nI k from nI_ge (b := 80) (by omega) (by omega)) ⟨ia, br_t ?_ (ds_w_cf90 hR hA ha hb hd hg (by omega) hP he (Or.inl (by omega)) H1 H0)⟩⟩
    rw [ca, e5, nI_1]
    exact nI_le (by omega) (by omega)
  | succ i ih =>
    intro k hk he
    have ik : vp_in (nI k) 80 := vp_in_nI (by omega) (by omega)
    have ck : (nI k).toNatClampNeg = k := nI_clamp (by omega)
    obtain ⟨p1, p2⟩ := hP k (by omega)
    have u1 := (ds_up_ok hR ha (ds_ge rv a - 1 - k) (by omega)).1
    have v1 := (ds_up_ok hR hb (ds_ge rv a - 1 - k) (by omega)).1
    have big : ¬ (80 : Int32) ≤ nI k := nI_ge (b := 80) (by omega) (by omega)
    have go : ¬ a5 (nI a).toNatClampNeg ≤ nI k + 1 := by
      rw [ca, e5, nI_1]
      exact nI_ge (by omega) (by omega)
    by_cases e : ds_up rv a (ds_ge rv a - 1 - k) = ds_up rv b (ds_ge rv a - 1 - k)
    · obtain ⟨fu, hf⟩ := ih (k + 1) (by omega) (fun j hj => by
        by_cases e2 : j = k
        · rw [e2]; exact e
        · exact he j (by omega))
      exact ⟨fu + 1, br_f big ⟨ia, br_f go ⟨ik, ik, br_t (by rw [ck, p1, p2, e]) (nm_r (nI_1 k) (nm_r (nI_1 k) hf))⟩⟩⟩
    · refine ⟨1, br_f big ⟨ia, br_f go ⟨ik, ik, br_f ?_ (ds_w_cf90 hR hA ha hb hd hg (by omega) hP he (Or.inr e) H1 H0)⟩⟩⟩
      rw [ck, p1, p2]
      intro z
      exact e ((nI_eq (by omega) (by omega)).mp z)
theorem ds_w_first {post : Int32 → St1 → Prop} (hR : ds_PR M rv) (hA : ds_AR M rv f0 a1 a2 a3 a4 a5) {a b : Nat} (ha : a < M) (hb : b < M) (hd : ds_dc rv a = ds_dc rv b)
    (H1 : ds_ky rv b < ds_ky rv a → ∀ p q, post 1 (f0, a1, a2, a3, a4, a5, a6, a7, a8, a9, a10, a11, a12, a13, a14, a15, a16, a17, a18, a19, a20, p, q)) (H0 : ¬ ds_ky rv b < ds_ky rv a → ∀ p q, post 0 (f0, a1, a2, a3, a4, a5, a6, a7, a8, a9, a10, a11, a12, a13, a14, a15, a16, a17, a18, a19, a20, p, q)) : wpX_comesFirst post (f0, a1, a2, a3, a4, a5, a6, a7, a8, a9, a10, a11, a12, a13, a14, a15, a16, a17, a18, a19, a20, a21, a22) (nI a) (nI b) := by
  have hM := hR.1
  obtain ⟨ga1, ga2, _, _⟩ := ds_bd hR a ha
  obtain ⟨gb1, gb2, _, _⟩ := ds_bd hR b hb
  have ia : vp_in (nI a) 80 := vp_in_nI (by omega) (by omega)
  have ib : vp_in (nI b) 80 := vp_in_nI (by omega) (by omega)
  have ca : (nI a).toNatClampNeg = a := nI_clamp (by omega)
  have cb : (nI b).toNatClampNeg = b := nI_clamp (by omega)
  have ea := (hA.2 a ha).2.2.2.2
  have eb := (hA.2 b hb).2.2.2.2
  refine ⟨ia, ib, ?_⟩
  rw [ca, cb, ea, eb]
  refine pk_eq (ds_ge rv a) (ds_ge rv b) (fun hg => ?_) (fun hg => ⟨ia, ib, ?_⟩)
  · refine ⟨ia, nm_r (e' := ds_pm (ds_ge rv a)) (by rw [ca, ea]; exact ds_pm_s _) ?_⟩
    refine ds_w_paths hR hA ha hb hg (fun p q hpq => ?_) (ds_ge rv a) (nI a) (nI b) a21 a22 (Nat.le_refl _) (fun _ => ?_) (fun k h1 h2 => by omega)
    · exact ds_w_cf47 (a21 := p) (a22 := q) hR hA ha hb hd hg hpq (fun z => H1 z p q) (fun z => H0 z p q) (ds_ge rv a - 1) 0 (by omega) (fun j hj => by omega)
    · rw [Nat.sub_self]
      exact ⟨rfl, rfl⟩
  · refine pk_le (ds_ge rv a) (ds_ge rv b) (fun z => H0 (fun y => ?_) a21 a22) (fun z => H1 (ds_kyg hR hb ha z) a21 a22)
    have := ds_kyg hR ha hb (by omega)
    omega
end
end
section
/-! lists in arrays -/
def ds_seg (a : Nat → Int32) (B : Nat) (l : List Nat) : Prop := ∀ k x, l[k]? = some x → a (B + k) = nI x
def ds_AL (lf : Nat → Nat → List Nat) (a12 a13 : Nat → Int32) : Prop := ∀ n d, n < 3 → d < 8 → (lf n d).length ≤ 80 ∧ a12 (8 * n + d) = nI (lf n d).length ∧ ds_seg a13 (640 * n + 80 * d) (lf n d)
theorem ds_seg_del {a b : Nat → Int32} {B r : Nat} {p s : List Nat} (h : ds_seg a B (p ++ r :: s)) (h1 : ∀ i, i < p.length → b (B + i) = a (B + i)) (h2 : ∀ i, p.length ≤ i → i < p.length + s.length → b (B + i) = a (B + i + 1)) : ds_seg b B (p ++ s) := by
  intro k x hk
  by_cases c : k < p.length
  · rw [h1 k c]
    refine h k x ?_
    rw [List.getElem?_append_left c] at hk ⊢
    exact hk
  · rw [List.getElem?_append_right (by omega)] at hk
    obtain ⟨hl, _⟩ := List.getElem?_eq_some_iff.mp hk
    rw [h2 k (by omega) (by omega), Nat.add_assoc]
    refine h (k + 1) x ?_
    rw [List.getElem?_append_right (by omega), show k + 1 - p.length = (k - p.length) + 1 by omega, List.getElem?_cons_succ]
    exact hk
theorem ds_seg_ins {a b : Nat → Int32} {B r : Nat} {p s : List Nat} (h : ds_seg a B (p ++ s)) (h1 : ∀ i, i < p.length → b (B + i) = a (B + i)) (h0 : b (B + p.length) = nI r) (h2 : ∀ i, p.length < i → i ≤ p.length + s.length → b (B + i) = a (B + (i - 1))) : ds_seg b B (p ++ r :: s) := by
  intro k x hk
  by_cases c : k < p.length
  · rw [h1 k c]
    refine h k x ?_
    rw [List.getElem?_append_left c] at hk ⊢
    exact hk
  · rw [List.getElem?_append_right (by omega)] at hk
    by_cases c2 : k = p.length
    · subst c2
      rw [Nat.sub_self, List.getElem?_cons_zero] at hk
      rw [h0, Option.some.inj hk]
    · rw [show k - p.length = (k - p.length - 1) + 1 by omega, List.getElem?_cons_succ] at hk
      obtain ⟨hl, _⟩ := List.getElem?_eq_some_iff.mp hk
      rw [h2 k (by omega) (by omega)]
      refine h (k - 1) x ?_
      rw [List.getElem?_append_right (by omega), show k - 1 - p.length = k - p.length - 1 by omega]
      exact hk
theorem ds_AL_put {lf : Nat → Nat → List Nat} {a12 a13 b : Nat → Int32} {n d : Nat} {l : List Nat} (h : ds_AL lf a12 a13) (hn : n < 3) (hd : d < 8) (hl : l.length ≤ 80) (hs : ds_seg b (640 * n + 80 * d) l)
    (hb : ∀ j, ¬ (640 * n + 80 * d ≤ j ∧ j < 640 * n + 80 * d + 80) → b j = a13 j) : ds_AL (ds_u2 lf n d l) (upd a12 (8 * n + d) (nI l.length)) b := by
  intro n' d' hn' hd'
  by_cases e : n' = n ∧ d' = d
  · obtain ⟨rfl, rfl⟩ := e
    rw [ds_u2s, pk_us]
    exact ⟨hl, rfl, hs⟩
  · rw [ds_u2n e]
    obtain ⟨h1, h2, h3⟩ := h n' d' hn' hd'
    refine ⟨h1, ?_, ?_⟩
    · rw [pk_un (by omega)]
      exact h2
    · intro k x hk
      obtain ⟨hkl, _⟩ := List.getElem?_eq_some_iff.mp hk
      rw [hb _ (by omega)]
      exact h3 k x hk
section
variable {f0 : Int32} {a1 a2 a3 a4 a5 a6 a7 a8 a9 a10 a11 a12 a13 a14 a15 a16 a17 a18 a19 a20 a21 a22 : Nat → Int32}
theorem ds_w_drop107 {post : St1 → Prop} {at' B L k : Nat} (hat : at' < 24) (hB : B + 80 ≤ 1920) (hL : a12 at' = nI L) (hL80 : L < 80) (hk : k ≤ L)
    (H : ∀ b : Nat → Int32, (∀ i, k ≤ i → i < L → b (B + i) = a13 (B + i + 1)) → (∀ j, ¬ (B + k ≤ j ∧ j < B + L) → b j = a13 j) → post (f0, a1, a2, a3, a4, a5, a6, a7, a8, a9, a10, a11, a12, b, a14, a15, a16, a17, a18, a19, a20, a21, a22)) :
    ∀ (i j : Nat) (b : Nat → Int32), k ≤ j → j + i = L → (∀ i, k ≤ i → i < j → b (B + i) = a13 (B + i + 1)) → (∀ i, ¬ (B + k ≤ i ∧ i < B + j) → b i = a13 i) → ∃ fu, wX_dropLeaf_107 post (nI at') (nI B) f0 fu (nI j) a1 a2 a3 a4 a5 a6 a7 a8 a9 a10 a11 a12 b a14 a15 a16 a17 a18 a19 a20 a21 a22 := by
  have ia : vp_in (nI at') 24 := vp_in_nI hat (by omega)
  have ca : (nI at').toNatClampNeg = at' := nI_clamp (by omega)
  intro i
  induction i with
  | zero =>
    intro j b hj e h1 h2
    have e2 : j = L := by omega
    subst e2
    refine ⟨1, ia, br_t ?_ (H b h1 h2)⟩
    rw [ca, hL]
    exact nI_le (Nat.le_refl _) (by omega)
  | succ i ih =>
    intro j b hj e h1 h2
    obtain ⟨fu, hf⟩ := ih (j + 1) (upd b (B + j) (b (B + j + 1))) (by omega) (by omega)
      (fun i hi hi2 => by
        by_cases e3 : i = j
        · subst e3
          rw [pk_us, h2 _ (by omega)]
        · rw [pk_un (by omega)]
          exact h1 i hi (by omega))
      (fun i hi => by
        rw [pk_un (by omega)]
        exact h2 i (by omega))
    refine ⟨fu + 1, ia, br_f ?_ ⟨?_, ?_, nm_r (e' := upd b (B + j) (b (B + j + 1))) ?_ (nm_r (nI_1 j) hf)⟩⟩
    · rw [ca, hL]
      exact nI_ge (by omega) (by omega)
    · rw [nI_add, nI_1]
      exact vp_in_nI (by omega) (by omega)
    · rw [nI_add]
      exact vp_in_nI (by omega) (by omega)
    · rw [nI_add, nI_1, nI_clamp (by omega), nI_clamp (by omega)]
theorem ds_w_drop33 {post : St1 → Prop} {at' B L k r : Nat} (hat : at' < 24) (hB : B + 80 ≤ 1920) (hL : a12 at' = nI L) (hL80 : L ≤ 80) (hk : k < L) (hr : a13 (B + k) = nI r) (hne : ∀ j, j < k → ¬ a13 (B + j) = nI r)
    (H : wX_dropLeaf_75 post (nI at') (nI B) (nI k) f0 a1 a2 a3 a4 a5 a6 a7 a8 a9 a10 a11 a12 a13 a14 a15 a16 a17 a18 a19 a20 a21 a22) : ∀ i j, j + i = k → ∃ fu, wX_dropLeaf_33 post (nI r) (nI at') (nI B) f0 a1 a2 a3 a4 a5 a6 a7 a8 a9 a10 a11 a12 a13 a14 a15 a16 a17 a18 a19 a20 a21 a22 fu (nI j) (nI j) := by
  have ia : vp_in (nI at') 24 := vp_in_nI hat (by omega)
  have ca : (nI at').toNatClampNeg = at' := nI_clamp (by omega)
  intro i
  induction i with
  | zero =>
    intro j e
    have e2 : j = k := by omega
    subst e2
    refine ⟨1, br_f (nI_ge (b := 80) (by omega) (by omega)) ⟨ia, br_f ?_ ⟨?_, br_t ?_ H⟩⟩⟩
    · rw [ca, hL]
      exact nI_ge (by omega) (by omega)
    · rw [nI_add]
      exact vp_in_nI (by omega) (by omega)
    · rw [nI_add, nI_clamp (by omega)]
      exact hr
  | succ i ih =>
    intro j e
    obtain ⟨fu, hf⟩ := ih (j + 1) (by omega)
    refine ⟨fu + 1, br_f (nI_ge (b := 80) (by omega) (by omega)) ⟨ia, br_f ?_ ⟨?_, br_f ?_ (nm_r (nI_1 j) (nm_r (nI_1 j) hf))⟩⟩⟩
    · rw [ca, hL]
      exact nI_ge (by omega) (by omega)
    · rw [nI_add]
      exact vp_in_nI (by omega) (by omega)
    · rw [nI_add, nI_clamp (by omega)]
      exact hne j (by omega)
/-- dropLeaf: r leaves the list of its document -/
theorem ds_w_drop {post : St1 → Prop} {lf : Nat → Nat → List Nat} {n d r : Nat} {p s : List Nat} (hn : n < 3) (hd : d < 8) (hr : r < 80) (hdr : a1 r = nI d) (hL : ds_AL lf a12 a13) (hl : lf n d = p ++ r :: s) (hp : r ∉ p) (hs : ∀ x, x ∈ lf n d → x < 80)
    (H : ∀ b c, ds_AL (ds_u2 lf n d (p ++ s)) b c → post (f0, a1, a2, a3, a4, a5, a6, a7, a8, a9, a10, a11, b, c, a14, a15, a16, a17, a18, a19, a20, a21, a22)) : wpX_dropLeaf post (f0, a1, a2, a3, a4, a5, a6, a7, a8, a9, a10, a11, a12, a13, a14, a15, a16, a17, a18, a19, a20, a21, a22) (nI n) (nI r) := by
  obtain ⟨l1, l2, l3⟩ := hL n d hn hd
  have len : (lf n d).length = p.length + s.length + 1 := by rw [hl, List.length_append, List.length_cons]; omega
  have at1 : 8 * n + d < 24 := by omega
  have ba : 640 * n + 80 * d + 80 ≤ 1920 := by omega
  have ia : vp_in (nI (8 * n + d)) 24 := vp_in_nI at1 (by omega)
  have ca : (nI (8 * n + d)).toNatClampNeg = 8 * n + d := nI_clamp (by omega)
  refine ⟨vp_in_nI hr (by omega), nm_r (e' := nI d) (by rw [nI_clamp (by omega), hdr]) (nm_r (ds_i8 n d) (nm_r (ds_i640 n d) ?_))⟩
  refine ds_w_drop33 (L := (lf n d).length) (k := p.length) at1 ba l2 l1 (by omega) ?_ ?_ ?_ p.length 0 (by omega)
  · refine l3 p.length r ?_
    rw [hl, List.getElem?_append_right (Nat.le_refl _), Nat.sub_self, List.getElem?_cons_zero]
  · intro j hj z
    have t : (lf n d)[j]? = some p[j] := by
      rw [hl, List.getElem?_append_left hj, List.getElem?_eq_getElem hj]
    have t2 := l3 j p[j] t
    have t3 : p[j] ∈ p := List.getElem_mem hj
    have t4 : p[j] < 80 := hs _ (by rw [hl]; exact List.mem_append_left _ t3)
    rw [t2] at z
    have t5 := (nI_eq (by omega) (by omega)).mp z
    exact hp (by rw [← t5]; exact t3)
  · refine ⟨ia, br_f ?_ ⟨ia, ia, nm_r (e' := upd a12 (8 * n + d) (nI (p ++ s).length)) ?_ ?_⟩⟩
    · rw [ca, l2]
      exact nI_ge (by omega) (by omega)
    · rw [ca, l2, len, nI_pred, List.length_append]
    · refine ds_w_drop107 (a12 := upd a12 (8 * n + d) (nI (p ++ s).length)) (L := p.length + s.length) (k := p.length) at1 ba (by rw [pk_us, List.length_append]) (by omega) (by omega) (fun b h1 h2 => ?_) s.length p.length a13 (by omega) (by omega) (fun i h1 h2 => by omega) (fun i _ => rfl)
      refine H _ b (ds_AL_put hL hn hd (by rw [List.length_append]; omega) (ds_seg_del (r := r) (a := a13) (by rw [← hl]; exact l3) (fun i hi => h2 _ (by omega)) h1) (fun j hj => h2 j (by omega)))
theorem ds_w_put108 {post : St1 → Prop} {at' B L k r : Nat} (hat : at' < 24) (hB : B + 80 ≤ 1920) (hL : a12 at' = nI L) (hL80 : L < 80) (hk : k ≤ L)
    (H : ∀ b : Nat → Int32, (∀ i, i < k → b (B + i) = a13 (B + i)) → b (B + k) = nI r → (∀ i, k < i → i ≤ L → b (B + i) = a13 (B + (i - 1))) → (∀ j, ¬ (B ≤ j ∧ j < B + 80) → b j = a13 j) → post (f0, a1, a2, a3, a4, a5, a6, a7, a8, a9, a10, a11, upd a12 at' (nI (L + 1)), b, a14, a15, a16, a17, a18, a19, a20, a21, a22)) :
    ∀ (i j : Nat) (b : Nat → Int32), k + i = j → j ≤ L → (∀ i, j < i → i ≤ L → b (B + i) = a13 (B + (i - 1))) → (∀ i, ¬ (B + j < i ∧ i ≤ B + L) → b i = a13 i) → ∃ fu, wX_putLeaf_108 post (nI r) (nI at') (nI B) (nI k) f0 fu (nI j) a1 a2 a3 a4 a5 a6 a7 a8 a9 a10 a11 a12 b a14 a15 a16 a17 a18 a19 a20 a21 a22 := by
  have ia : vp_in (nI at') 24 := vp_in_nI hat (by omega)
  have ca : (nI at').toNatClampNeg = at' := nI_clamp (by omega)
  intro i
  induction i with
  | zero =>
    intro j b e hj h1 h2
    have e2 : j = k := by omega
    subst e2
    refine ⟨1, br_t (nI_le (Nat.le_refl _) (by omega)) ⟨?_, nm_r (e' := upd b (B + j) (nI r)) ?_ ⟨ia, ia, nm_r (e' := upd a12 at' (nI (L + 1))) ?_ ?_⟩⟩⟩
    · rw [nI_add]
      exact vp_in_nI (by omega) (by omega)
    · rw [nI_add, nI_clamp (by omega)]
    · rw [ca, hL, nI_1]
    · refine H _ (fun i hi => ?_) pk_us (fun i hi hi2 => ?_) (fun i hi => ?_)
      · rw [pk_un (by omega)]
        exact h2 _ (by omega)
      · rw [pk_un (by omega)]
        exact h1 i hi hi2
      · rw [pk_un (by omega)]
        exact h2 _ (by omega)
  | succ i ih =>
    intro j b e hj h1 h2
    have ej : ∃ j', j = j' + 1 := ⟨j - 1, by omega⟩
    obtain ⟨j', rfl⟩ := ej
    obtain ⟨fu, hf⟩ := ih j' (upd b (B + (j' + 1)) (b (B + j'))) (by omega) (by omega)
      (fun i hi hi2 => by
        by_cases e3 : i = j' + 1
        · subst e3
          rw [pk_us, h2 _ (by omega)]
          rfl
        · rw [pk_un (by omega)]
          exact h1 i (by omega) hi2)
      (fun i hi => by
        rw [pk_un (by omega)]
        exact h2 i (by omega))
    have ep : nI B + nI (j' + 1) - 1 = nI (B + j') := by
      rw [nI_add, ← Nat.add_assoc, nI_pred]
    refine ⟨fu + 1, br_f (nI_ge (by omega) (by omega)) ⟨?_, ?_, nm_r (e' := upd b (B + (j' + 1)) (b (B + j'))) ?_ (nm_r (pk_m1 j') hf)⟩⟩
    · rw [ep]
      exact vp_in_nI (by omega) (by omega)
    · rw [nI_add]
      exact vp_in_nI (by omega) (by omega)
    · rw [ep, nI_add, nI_clamp (by omega), nI_clamp (by omega)]
end
section
variable {M : Nat} {rv : Nat → ds_N} {f0 : Int32} {a1 a2 a3 a4 a5 a6 a7 a8 a9 a10 a11 a12 a13 a14 a15 a16 a17 a18 a19 a20 a21 a22 : Nat → Int32}
theorem ds_w_put36 {post : St1 → Prop} {at' B r : Nat} {l : List Nat} (hR : ds_PR M rv) (hA : ds_AR M rv f0 a1 a2 a3 a4 a5) (hat : at' < 24) (hB : B + 80 ≤ 1920) (hL : a12 at' = nI l.length) (hL80 : l.length < 80) (hr : r < M)
    (hs : ds_seg a13 B l) (hm : ∀ x, x ∈ l → x < M ∧ ds_dc rv x = ds_dc rv r)
    (H : ∀ (p s : List Nat) (b u v : Nat → Int32), l = p ++ s → (∀ x, x ∈ p → ds_ky rv r < ds_ky rv x) → (∀ y s', s = y :: s' → ¬ ds_ky rv r < ds_ky rv y) → ds_seg b B (p ++ r :: s) → (∀ j, ¬ (B ≤ j ∧ j < B + 80) → b j = a13 j) → post (f0, a1, a2, a3, a4, a5, a6, a7, a8, a9, a10, a11, upd a12 at' (nI (l.length + 1)), b, a14, a15, a16, a17, a18, a19, a20, u, v)) :
    ∀ (s p : List Nat) (u v : Nat → Int32) (fu : Nat), s.length + 2 ≤ fu → l = p ++ s → (∀ x, x ∈ p → ds_ky rv r < ds_ky rv x) → wX_putLeaf_36 post (nI r) (nI at') (nI B) fu (nI p.length) 1 (nI p.length) f0 a1 a2 a3 a4 a5 a6 a7 a8 a9 a10 a11 a12 a13 a14 a15 a16 a17 a18 a19 a20 u v := by
  have ia : vp_in (nI at') 24 := vp_in_nI hat (by omega)
  have ca : (nI at').toNatClampNeg = at' := nI_clamp (by omega)
  have hM := hR.1
  have tail : ∀ (p s : List Nat) (u v : Nat → Int32), l = p ++ s → (∀ x, x ∈ p → ds_ky rv r < ds_ky rv x) → (∀ y s', s = y :: s' → ¬ ds_ky rv r < ds_ky rv y) → ∀ x8 : Int32, x8 = a12 (nI at').toNatClampNeg → ∃ fu, wX_putLeaf_108 post (nI r) (nI at') (nI B) (nI p.length) f0 fu x8 a1 a2 a3 a4 a5 a6 a7 a8 a9 a10 a11 a12 a13 a14 a15 a16 a17 a18 a19 a20 u v := by
    intro p s u v e h1 h2 x8 hx8
    have len : l.length = p.length + s.length := by rw [e, List.length_append]
    rw [hx8, ca, hL]
    refine ds_w_put108 (k := p.length) hat hB hL hL80 (by omega) (fun b b1 b2 b3 b4 => ?_) (l.length - p.length) l.length a13 (by omega) (Nat.le_refl _) (fun i h1 h2 => by omega) (fun i _ => rfl)
    exact H p s b u v e h1 h2 (ds_seg_ins (a := a13) (by rw [← e]; exact hs) b1 b2 (fun i hi hi2 => b3 i hi (by omega))) b4
  intro s
  induction s with
  | nil =>
    intro p u v fu hfu e h1
    obtain ⟨fu', rfl⟩ : ∃ f, fu = f + 1 := ⟨fu - 1, by omega⟩
    have len : l.length = p.length := by rw [e, List.append_nil]
    refine br_f (nI_ge (b := 80) (by omega) (by omega)) (br_f (by decide) ⟨ia, br_t ?_ ⟨ia, tail p [] u v e h1 (fun y s' z => by cases z)⟩⟩)
    rw [ca, hL]
    exact nI_le (by omega) (by omega)
  | cons y s ih =>
    intro p u v fu hfu e h1
    rw [List.length_cons] at hfu
    obtain ⟨fu', rfl⟩ : ∃ f, fu = f + 2 := ⟨fu - 2, by omega⟩
    have len : l.length = p.length + s.length + 1 := by rw [e, List.length_append, List.length_cons]; omega
    have hy : y ∈ l := by rw [e]; exact List.mem_append_right _ List.mem_cons_self
    obtain ⟨y1, y2⟩ := hm y hy
    have ry : a13 (B + p.length) = nI y := hs _ _ (by rw [e, List.getElem?_append_right (Nat.le_refl _), Nat.sub_self, List.getElem?_cons_zero])
    have ex : a13 (nI B + nI p.length).toNatClampNeg = nI y := by rw [nI_add, nI_clamp (by omega), ry]
    have big : ¬ (80 : Int32) ≤ nI p.length := nI_ge (b := 80) (by omega) (by omega)
    have go : ¬ a12 (nI at').toNatClampNeg ≤ nI p.length := by
      rw [ca, hL]
      exact nI_ge (by omega) (by omega)
    have inn : vp_in (nI B + nI p.length) 1920 := by
      rw [nI_add]
      exact vp_in_nI (by omega) (by omega)
    refine br_f big (br_f (by decide) ⟨ia, br_f go ⟨inn, ?_⟩⟩)
    rw [ex]
    refine ds_w_first (a21 := u) (a22 := v) hR hA y1 hr y2 (fun c u' v' => ?_) (fun c u' v' => ?_)
    · refine br_f (show ¬ (1 : Int32) = 0 by decide) (nm_r (nI_1 _) (nm_r (nI_1 _) ?_))
      have t := ih (p ++ [y]) u' v' (fu' + 1) (by omega) (by rw [e]; simp) (fun x hx => by
          rcases List.mem_append.mp hx with z | z
          · exact h1 x z
          · rw [List.mem_singleton.mp z]; exact c)
      rw [List.length_append, List.length_singleton] at t
      exact t
    · refine br_t rfl (nm_r (nI_1 _) ?_)
      have tl := tail p (y :: s) u' v' e h1 (fun y' s' z => by
        rw [List.cons.injEq] at z
        rw [← z.1]
        exact c)
      exact br_c (fun _ => ⟨ia, tl⟩) (fun _ => br_t rfl ⟨ia, tl⟩)
/-- putLeaf: r comes into the list of its document, in order -/
theorem ds_w_put {post : St1 → Prop} {lf : Nat → Nat → List Nat} {n r : Nat} (hR : ds_PR M rv) (hA : ds_AR M rv f0 a1 a2 a3 a4 a5) (hn : n < 3) (hr : r < M) (hL : ds_AL lf a12 a13)
    (hl : (lf n (ds_dc rv r)).length < 80) (hm : ∀ x, x ∈ lf n (ds_dc rv r) → x < M ∧ ds_dc rv x = ds_dc rv r)
    (H : ∀ (p s : List Nat) (b c u v : Nat → Int32), lf n (ds_dc rv r) = p ++ s → (∀ x, x ∈ p → ds_ky rv r < ds_ky rv x) → (∀ y s', s = y :: s' → ¬ ds_ky rv r < ds_ky rv y) → ds_AL (ds_u2 lf n (ds_dc rv r) (p ++ r :: s)) b c → post (f0, a1, a2, a3, a4, a5, a6, a7, a8, a9, a10, a11, b, c, a14, a15, a16, a17, a18, a19, a20, u, v)) :
    wpX_putLeaf post (f0, a1, a2, a3, a4, a5, a6, a7, a8, a9, a10, a11, a12, a13, a14, a15, a16, a17, a18, a19, a20, a21, a22) (nI n) (nI r) := by
  have hM := hR.1
  have hd := (hR.2.1 r hr).1
  have e1 := (hA.2 r hr).1
  generalize hdd : ds_dc rv r = d at *
  obtain ⟨l1, l2, l3⟩ := hL n d hn hd
  have at1 : 8 * n + d < 24 := by omega
  have ba : 640 * n + 80 * d + 80 ≤ 1920 := by omega
  refine ⟨vp_in_nI (by omega) (by omega), nm_r (e' := nI d) (by rw [nI_clamp (by omega), e1]) (nm_r (ds_i8 n d) (nm_r (ds_i640 n d) ?_))⟩
  refine ⟨(lf n d).length + 2, ?_⟩
  refine ds_w_put36 hR hA at1 ba l2 hl hr l3 (fun x hx => by rw [hdd]; exact hm x hx) (fun p s b u v e h1 h2 h3 h4 => ?_) (lf n d) [] a21 a22 ((lf n d).length + 2) (Nat.le_refl _) rfl (fun x hx => absurd hx List.not_mem_nil)
  have len : (p ++ r :: s).length = (lf n d).length + 1 := by rw [e, List.length_append, List.length_append, List.length_cons]; omega
  have t := ds_AL_put hL hn hd (l := p ++ r :: s) (by omega) h3 h4
  rw [len] at t
  exact H p s _ b u v e h1 h2 t
end
end
section
/-! what a store knows -/
def ds_kc (rv : Nat → ds_N) (kn : Nat → Nat → Bool) (n r : Nat) : Nat := (List.range 80).countP (fun c => kn n c && decide (ds_pa rv c = some r))
def ds_AK (rv : Nat → ds_N) (kn : Nat → Nat → Bool) (a9 a10 : Nat → Int32) : Prop :=
  ∀ n r, n < 3 → r < 80 → a9 (80 * n + r) = nI (if kn n r = true then 1 else 0) ∧ (kn n r = true → a10 (80 * n + r) = nI (ds_kc rv kn n r))
def ds_PS (M : Nat) (rv : Nat → ds_N) (kn : Nat → Nat → Bool) (lf : Nat → Nat → List Nat) : Prop :=
  ∀ n, n < 3 → (∀ r, kn n r = true → r < M ∧ ∀ p, ds_pa rv r = some p → kn n p = true) ∧
    ∀ d, d < 8 → (lf n d).Pairwise (fun x y => ds_ky rv y < ds_ky rv x) ∧ ∀ r, r ∈ lf n d ↔ (kn n r = true ∧ ds_dc rv r = d ∧ ∀ c, kn n c = true → ds_pa rv c ≠ some r)
theorem ds_u2u {α : Type} (f : Nat → Nat → α) (n d : Nat) (x y : α) : ds_u2 (ds_u2 f n d x) n d y = ds_u2 f n d y := by
  funext n' d'
  by_cases e : n' = n ∧ d' = d
  · obtain ⟨rfl, rfl⟩ := e
    rw [ds_u2s, ds_u2s]
  · rw [ds_u2n e, ds_u2n e, ds_u2n e]
section
variable {M : Nat} {rv : Nat → ds_N} {kn : Nat → Nat → Bool} {lf : Nat → Nat → List Nat}
theorem ds_as (a b : Nat) : ds_ky rv b < ds_ky rv a → ds_ky rv a < ds_ky rv b → False := fun h1 h2 => by omega
theorem ds_kc_0 {n r : Nat} : ds_kc rv kn n r = 0 ↔ ∀ c, c < 80 → kn n c = true → ds_pa rv c ≠ some r := by
  unfold ds_kc
  rw [ds_cp_0]
  constructor
  · intro h c hc hk e
    have := h c hc
    rw [hk, e] at this
    simp at this
  · intro h c hc
    by_cases hk : kn n c = true
    · have := h c hc hk
      simp [this]
    · simp [hk]
theorem ds_kc_le (n r : Nat) : ds_kc rv kn n r ≤ 80 := ds_cp_le _ _
theorem ds_kc_up {n r p : Nat} (hr : r < 80) (hk : kn n r = false) (hp : ds_pa rv r = some p) : ds_kc rv (ds_u2 kn n r true) n p = ds_kc rv kn n p + 1 := by
  unfold ds_kc
  refine ds_cp_up (j := r) 80 hr (by simp [hk]) (by simp [ds_u2s, hp]) (fun i hi => ?_)
  rw [ds_u2n (fun z => hi z.2)]
theorem ds_kc_ne {n r n' x : Nat} (h : n' ≠ n ∨ ds_pa rv r ≠ some x) : ds_kc rv (ds_u2 kn n r true) n' x = ds_kc rv kn n' x := by
  unfold ds_kc
  refine ds_cp_eq 80 (fun i hi => ?_)
  by_cases e : n' = n ∧ i = r
  · obtain ⟨rfl, rfl⟩ := e
    rcases h with z | z
    · exact absurd rfl z
    · simp [z]
  · rw [ds_u2n e]
theorem ds_PS_len (hS : ds_PS M rv kn lf) {n d : Nat} (hn : n < 3) (hd : d < 8) : (lf n d).length ≤ M := by
  obtain ⟨h1, h2⟩ := hS n hn
  refine ds_php M _ (ds_nodup ds_as (h2 d hd).1) (fun x hx => ?_)
  exact (h1 x (((h2 d hd).2 x).mp hx).1).1
theorem ds_PS_len1 (hS : ds_PS M rv kn lf) {n d r : Nat} (hn : n < 3) (hd : d < 8) (hr : r < M) (hk : kn n r = false) : (lf n d).length < M := by
  obtain ⟨h1, h2⟩ := hS n hn
  have nr : r ∉ lf n d := fun z => by
    have := (((h2 d hd).2 r).mp z).1
    rw [hk] at this
    cases this
  have h := ds_php M (r :: lf n d) (List.nodup_cons.mpr ⟨nr, ds_nodup ds_as (h2 d hd).1⟩) (fun x hx => by
    rcases List.mem_cons.mp hx with z | z
    · rw [z]; exact hr
    · exact (h1 x (((h2 d hd).2 x).mp z).1).1)
  rw [List.length_cons] at h
  omega
theorem ds_PS_learn (hR : ds_PR M rv) (hS : ds_PS M rv kn lf) {n r : Nat} {p s : List Nat} (hn : n < 3) (hr : r < M) (hk : kn n r = false) (hp : ∀ q, ds_pa rv r = some q → kn n q = true)
    (h0 : ∀ x, x ∈ p ++ s ↔ x ∈ lf n (ds_dc rv r) ∧ ds_pa rv r ≠ some x) (hs : (p ++ s).Pairwise (fun x y => ds_ky rv y < ds_ky rv x))
    (h1 : ∀ x, x ∈ p → ds_ky rv r < ds_ky rv x) (h2 : ∀ y s', s = y :: s' → ¬ ds_ky rv r < ds_ky rv y) :
    ds_PS M rv (ds_u2 kn n r true) (ds_u2 lf n (ds_dc rv r) (p ++ r :: s)) := by
  obtain ⟨k1, k2⟩ := hS n hn
  have hd := (hR.2.1 r hr).1
  have pr := (hR.2.1 r hr).2.2.2.2
  obtain ⟨q1, q2⟩ := k2 _ hd
  have out : ∀ n' x, ¬ (n' = n ∧ x = r) → ds_u2 kn n r true n' x = kn n' x := fun n' x h => ds_u2n h
  have kr : ds_u2 kn n r true n r = true := ds_u2s
  intro n' hn'
  by_cases en : n' = n
  · subst en
    refine ⟨fun x hx => ?_, fun d' hd' => ?_⟩
    · by_cases ex : x = r
      · subst ex
        refine ⟨hr, fun q hq => ?_⟩
        rw [out n' q (fun z => by have := (pr q hq).1; omega)]
        exact hp q hq
      · rw [out n' x (fun z => ex z.2)] at hx
        obtain ⟨x1, x2⟩ := k1 x hx
        refine ⟨x1, fun q hq => ?_⟩
        by_cases eq : q = r
        · subst eq; exact kr
        · rw [out n' q (fun z => eq z.2)]
          exact x2 q hq
    · by_cases ed : d' = ds_dc rv r
      · subst ed
        rw [ds_u2s]
        refine ⟨ds_ins hs h1 (fun y hy => ?_), fun x => ?_⟩
        · cases s with
          | nil => exact absurd hy List.not_mem_nil
          | cons y0 s' =>
            have n0 := h2 y0 s' rfl
            have m0 : y0 ∈ lf n' (ds_dc rv r) := ((h0 y0).mp (List.mem_append_right _ List.mem_cons_self)).1
            obtain ⟨m1, m2, m3⟩ := (q2 y0).mp m0
            have lt0 : ds_ky rv y0 < ds_ky rv r := by
              have ne : ds_ky rv y0 ≠ ds_ky rv r := fun z => by
                have := ds_kyi hR y0 r (k1 y0 m1).1 hr m2 z
                rw [this, hk] at m1
                cases m1
              omega
            rcases List.mem_cons.mp hy with z | z
            · rw [z]; exact lt0
            · have := (List.pairwise_cons.mp (List.pairwise_append.mp hs).2.1).1 y z
              omega
        · have split : x ∈ p ++ r :: s ↔ x = r ∨ x ∈ p ++ s := by
            simp only [List.mem_append, List.mem_cons]
            constructor
            · rintro (z | z | z)
              · exact Or.inr (Or.inl z)
              · exact Or.inl z
              · exact Or.inr (Or.inr z)
            · rintro (z | z | z)
              · exact Or.inr (Or.inl z)
              · exact Or.inl z
              · exact Or.inr (Or.inr z)
          rw [split, h0, q2]
          by_cases ex : x = r
          · subst ex
            refine ⟨fun _ => ⟨kr, rfl, fun c hc z => ?_⟩, fun _ => Or.inl rfl⟩
            by_cases ec : c = x
            · subst ec
              have := (pr c z).1
              omega
            · rw [out n' c (fun w => ec w.2)] at hc
              have := (k1 c hc).2 x z
              rw [hk] at this
              cases this
          · rw [out n' x (fun z => ex z.2)]
            constructor
            · rintro (z | ⟨⟨z1, z2, z3⟩, z4⟩)
              · exact absurd z ex
              · refine ⟨z1, z2, fun c hc w => ?_⟩
                by_cases ec : c = r
                · subst ec; exact z4 w
                · rw [out n' c (fun w => ec w.2)] at hc
                  exact z3 c hc w
            · rintro ⟨z1, z2, z3⟩
              refine Or.inr ⟨⟨z1, z2, fun c hc w => ?_⟩, fun w => z3 r kr w⟩
              refine z3 c ?_ w
              by_cases ec : c = r
              · subst ec; exact kr
              · rw [out n' c (fun w => ec w.2)]; exact hc
      · rw [ds_u2n (fun z => ed z.2)]
        obtain ⟨g1, g2⟩ := k2 d' hd'
        refine ⟨g1, fun x => ?_⟩
        rw [g2]
        constructor
        · rintro ⟨z1, z2, z3⟩
          have ex : x ≠ r := fun z => by rw [z, hk] at z1; cases z1
          rw [out n' x (fun z => ex z.2)]
          refine ⟨z1, z2, fun c hc w => ?_⟩
          by_cases ec : c = r
          · subst ec
            have := (pr x w).2.1
            omega
          · rw [out n' c (fun w => ec w.2)] at hc
            exact z3 c hc w
        · rintro ⟨z1, z2, z3⟩
          have ex : x ≠ r := fun z => by rw [z] at z2; exact ed z2.symm
          rw [out n' x (fun z => ex z.2)] at z1
          refine ⟨z1, z2, fun c hc w => ?_⟩
          refine z3 c ?_ w
          by_cases ec : c = r
          · subst ec; exact kr
          · rw [out n' c (fun w => ec w.2)]; exact hc
  · obtain ⟨g1, g2⟩ := hS n' hn'
    have o2 : ∀ x, ds_u2 kn n r true n' x = kn n' x := fun x => out n' x (fun z => en z.1)
    refine ⟨fun x hx => ?_, fun d' hd' => ?_⟩
    · rw [o2] at hx
      refine ⟨(g1 x hx).1, fun q hq => ?_⟩
      rw [o2]
      exact (g1 x hx).2 q hq
    · rw [ds_u2n (fun z => en z.1)]
      refine ⟨(g2 d' hd').1, fun x => ?_⟩
      rw [(g2 d' hd').2, o2]
      constructor
      · rintro ⟨z1, z2, z3⟩
        exact ⟨z1, z2, fun c hc => z3 c (by rw [o2] at hc; exact hc)⟩
      · rintro ⟨z1, z2, z3⟩
        exact ⟨z1, z2, fun c hc => z3 c (by rw [o2]; exact hc)⟩
/-- the arrays isKnown and knownChildren after learn -/
theorem ds_AK_0 {a9 a10 : Nat → Int32} (hR : ds_PR M rv) (hS : ds_PS M rv kn lf) (hK : ds_AK rv kn a9 a10) {n r : Nat} (hn : n < 3) (hr : r < M) (hk : kn n r = false) (hp : ds_pa rv r = none) :
    ds_AK rv (ds_u2 kn n r true) (upd a9 (80 * n + r) 1) (upd a10 (80 * n + r) 0) := by
  intro n' x hn' hx
  have hM := hR.1
  obtain ⟨k1, k2⟩ := hK n' x hn' hx
  have kc := ds_kc_ne (kn := kn) (n := n) (n' := n') (x := x) (Or.inr (show ds_pa rv r ≠ some x by rw [hp]; exact fun z => by cases z))
  by_cases e : n' = n ∧ x = r
  · obtain ⟨rfl, rfl⟩ := e
    rw [ds_u2s, pk_us, pk_us, kc]
    refine ⟨rfl, fun _ => ?_⟩
    have z : ds_kc rv kn n' x = 0 := ds_kc_0.mpr (fun c hc hk2 w => by
      have := ((hS n' hn').1 c hk2).2 x w
      rw [hk] at this
      cases this)
    rw [z]
    rfl
  · rw [ds_u2n e, pk_un (by omega), pk_un (by omega), kc]
    exact ⟨k1, k2⟩
theorem ds_AK_1 {a9 a10 : Nat → Int32} (hR : ds_PR M rv) (hS : ds_PS M rv kn lf) (hK : ds_AK rv kn a9 a10) {n r p : Nat} (hn : n < 3) (hr : r < M) (hk : kn n r = false) (hp : ds_pa rv r = some p) (hkp : kn n p = true) :
    ds_AK rv (ds_u2 kn n r true) (upd a9 (80 * n + r) 1) (upd (upd a10 (80 * n + r) 0) (80 * n + p) (nI (ds_kc rv kn n p + 1))) := by
  intro n' x hn' hx
  have hM := hR.1
  have hpr := ((hR.2.1 r hr).2.2.2.2 p hp).1
  obtain ⟨k1, k2⟩ := hK n' x hn' hx
  by_cases e : n' = n ∧ x = r
  · obtain ⟨rfl, rfl⟩ := e
    rw [ds_u2s, pk_us, pk_un (by omega), pk_us, ds_kc_ne (Or.inr (show ds_pa rv x ≠ some x by rw [hp]; intro z; rw [Option.some.injEq] at z; omega))]
    refine ⟨rfl, fun _ => ?_⟩
    have z : ds_kc rv kn n' x = 0 := ds_kc_0.mpr (fun c hc hk2 w => by
      have := ((hS n' hn').1 c hk2).2 x w
      rw [hk] at this
      cases this)
    rw [z]
    rfl
  · rw [ds_u2n e, pk_un (by omega)]
    refine ⟨k1, fun hkx => ?_⟩
    by_cases e2 : n' = n ∧ x = p
    · obtain ⟨rfl, rfl⟩ := e2
      rw [pk_us, ds_kc_up (by omega) hk hp]
    · rw [pk_un (by omega), pk_un (by omega), ds_kc_ne (n' := n') (x := x) (show n' ≠ n ∨ ds_pa rv r ≠ some x by
        by_cases e3 : n' = n
        · refine Or.inr (fun z => ?_)
          rw [hp] at z
          exact e2 ⟨e3, (Option.some.inj z).symm⟩
        · exact Or.inl e3)]
      exact k2 hkx
variable {f0 : Int32} {a1 a2 a3 a4 a5 a6 a7 a8 a9 a10 a11 a12 a13 a14 a15 a16 a17 a18 a19 a20 a21 a22 : Nat → Int32}
/-- learn: a store comes to know a revision whose parent it knows -/
theorem ds_w_learn {post : St1 → Prop} {n r : Nat} (hR : ds_PR M rv) (hA : ds_AR M rv f0 a1 a2 a3 a4 a5) (hS : ds_PS M rv kn lf) (hK : ds_AK rv kn a9 a10) (hL : ds_AL lf a12 a13)
    (hn : n < 3) (hr : r < M) (hk : kn n r = false) (hp : ∀ p, ds_pa rv r = some p → kn n p = true)
    (H : ∀ (l : List Nat) (b9 b10 b11 b12 b13 u v : Nat → Int32), ds_PS M rv (ds_u2 kn n r true) (ds_u2 lf n (ds_dc rv r) l) → ds_AK rv (ds_u2 kn n r true) b9 b10 → ds_AL (ds_u2 lf n (ds_dc rv r) l) b12 b13 → post (f0, a1, a2, a3, a4, a5, a6, a7, a8, b9, b10, b11, b12, b13, a14, a15, a16, a17, a18, a19, a20, u, v)) :
    wpX_learn post (f0, a1, a2, a3, a4, a5, a6, a7, a8, a9, a10, a11, a12, a13, a14, a15, a16, a17, a18, a19, a20, a21, a22) (nI n) (nI r) := by
  have hM := hR.1
  have hd := (hR.2.1 r hr).1
  have pr := (hR.2.1 r hr).2.2.2.2
  obtain ⟨k1, k2⟩ := hS n hn
  obtain ⟨q1, q2⟩ := k2 _ hd
  have e2 := (hA.2 r hr).2.1
  have ix : vp_in (80 * nI n + nI r) 240 := by rw [ds_i80]; exact vp_in_nI (by omega) (by omega)
  have cx : (80 * nI n + nI r).toNatClampNeg = 80 * n + r := by rw [ds_i80]; exact nI_clamp (by omega)
  refine ⟨vp_in_nI (by omega) (by omega), nm_r (e' := ds_o (ds_pa rv r)) (by rw [nI_clamp (by omega), e2]) ⟨ix, nm_r (e' := upd a9 (80 * n + r) 1) (by rw [cx]) ⟨ix, nm_r (e' := upd a10 (80 * n + r) 0) (by rw [cx]) ⟨ix, nm_e ?_⟩⟩⟩⟩
  cases hq : ds_pa rv r with
  | none =>
    refine br_t rfl ?_
    refine ds_w_put hR hA hn hr hL (Nat.lt_of_lt_of_le (ds_PS_len1 hS hn hd hr hk) hM) (fun x hx => ?_) (fun p s b c u v e h1 h2 h3 => ?_)
    · obtain ⟨x1, x2, _⟩ := (q2 x).mp hx
      exact ⟨(k1 x x1).1, x2⟩
    · refine H (p ++ r :: s) _ _ _ b c u v (ds_PS_learn hR hS hn hr hk hp (fun x => ?_) (by rw [← e]; exact q1) h1 h2) (ds_AK_0 hR hS hK hn hr hk hq) h3
      rw [← e, hq]
      exact ⟨fun z => ⟨z, fun w => by cases w⟩, fun z => z.1⟩
  | some q =>
    have hkq := hp q hq
    obtain ⟨qr, qd, _, _⟩ := pr q hq
    have iq : vp_in (80 * nI n + nI q) 240 := by rw [ds_i80]; exact vp_in_nI (by omega) (by omega)
    have cq : (80 * nI n + nI q).toNatClampNeg = 80 * n + q := by rw [ds_i80]; exact nI_clamp (by omega)
    have v10 : upd a10 (80 * n + r) 0 (80 * n + q) = nI (ds_kc rv kn n q) := by
      rw [pk_un (by omega)]
      exact (hK n q hn (by omega)).2 hkq
    have kle := ds_kc_le (rv := rv) (kn := kn) n q
    rw [ds_o_some]
    refine br_f (show ¬ nI q = -1 from ds_nm (by omega)) ⟨iq, ?_⟩
    rw [cq, v10]
    refine pk_eq (ds_kc rv kn n q) 0 (fun z => ?_) (fun z => ?_)
    · have hqm : q ∈ lf n (ds_dc rv r) := (q2 q).mpr ⟨hkq, qd, fun c hc w => ds_kc_0.mp z c (by have := (k1 c hc).1; omega) hc w⟩
      obtain ⟨p0, s0, e0⟩ := List.append_of_mem hqm
      have hnd := ds_nodup ds_as q1
      rw [e0] at hnd
      have hq0 : q ∉ p0 := fun w => by
        have := (List.nodup_append.mp hnd).2.2 q w q List.mem_cons_self
        exact this rfl
      have hq1 : q ∉ s0 := (List.nodup_cons.mp (List.nodup_append.mp hnd).2.1).1
      have pw : (p0 ++ s0).Pairwise (fun x y => ds_ky rv y < ds_ky rv x) := by
        rw [e0] at q1
        exact ds_del q1
      have mem0 : ∀ x, x ∈ p0 ++ s0 ↔ x ∈ lf n (ds_dc rv r) ∧ ds_pa rv r ≠ some x := by
        intro x
        rw [e0, hq]
        simp only [List.mem_append, List.mem_cons]
        constructor
        · rintro (w | w)
          · exact ⟨Or.inl w, fun y => by rw [Option.some.injEq] at y; subst y; exact hq0 w⟩
          · exact ⟨Or.inr (Or.inr w), fun y => by rw [Option.some.injEq] at y; subst y; exact hq1 w⟩
        · rintro ⟨w | w | w, y⟩
          · exact Or.inl w
          · exact absurd (by rw [w]) y
          · exact Or.inr w
      refine ds_w_drop (lf := lf) (d := ds_dc rv r) (p := p0) (s := s0) hn hd (by omega) (by rw [(hA.2 q (by omega)).1, qd]) hL e0 hq0 (fun x hx => by have := (k1 x ((q2 x).mp hx).1).1; omega) (fun b c hbc => ?_)
      refine ⟨iq, iq, nm_r (e' := upd (upd a10 (80 * n + r) 0) (80 * n + q) (nI (ds_kc rv kn n q + 1))) (by rw [cq, v10, nI_1]) ?_⟩
      have l1 : (p0 ++ s0).length < (lf n (ds_dc rv r)).length := by
        rw [e0, List.length_append, List.length_append, List.length_cons]; omega
      have l2 := ds_PS_len1 hS hn hd hr hk
      refine ds_w_put (lf := ds_u2 lf n (ds_dc rv r) (p0 ++ s0)) hR hA hn hr hbc (by rw [ds_u2s]; omega) (fun x hx => ?_) (fun p s b' c' u v e h1 h2 h3 => ?_)
      · rw [ds_u2s] at hx
        obtain ⟨x1, x2, _⟩ := (q2 x).mp ((mem0 x).mp hx).1
        exact ⟨(k1 x x1).1, x2⟩
      · rw [ds_u2s] at e
        rw [ds_u2u] at h3
        exact H (p ++ r :: s) _ _ _ b' c' u v (ds_PS_learn hR hS hn hr hk hp (fun x => by rw [← e]; exact mem0 x) (by rw [← e]; exact pw) h1 h2) (ds_AK_1 hR hS hK hn hr hk hq hkq) h3
    · have hqn : q ∉ lf n (ds_dc rv r) := fun w => by
        refine z (ds_kc_0.mpr (fun c hc hc2 => ?_))
        exact ((q2 q).mp w).2.2 c hc2
      refine ⟨iq, iq, nm_r (e' := upd (upd a10 (80 * n + r) 0) (80 * n + q) (nI (ds_kc rv kn n q + 1))) (by rw [cq, v10, nI_1]) ?_⟩
      refine ds_w_put hR hA hn hr hL (Nat.lt_of_lt_of_le (ds_PS_len1 hS hn hd hr hk) hM) (fun x hx => ?_) (fun p s b c u v e h1 h2 h3 => ?_)
      · obtain ⟨x1, x2, _⟩ := (q2 x).mp hx
        exact ⟨(k1 x x1).1, x2⟩
      · refine H (p ++ r :: s) _ _ _ b c u v (ds_PS_learn hR hS hn hr hk hp (fun x => ?_) (by rw [← e]; exact q1) h1 h2) (ds_AK_1 hR hS hK hn hr hk hq hkq) h3
        rw [← e, hq]
        exact ⟨fun w => ⟨w, fun y => by rw [Option.some.injEq] at y; subst y; exact hqn w⟩, fun w => w.1⟩
end
end
section
/-! winners and views -/
def ds_win (rv : Nat → ds_N) (l : List Nat) : Option Nat := match l.find? (fun r => ds_mk rv r == 0) with
  | some r => some r
  | none => l.head?
def ds_wv (rv : Nat → ds_N) (l : List Nat) : Option Nat := (l.find? (fun r => ds_mk rv r == 0)).map (ds_vl rv)
def ds_vk (W : Nat → Option Nat) (d : Nat) : Nat := 8 * (W d).getD 0 + d
def ds_VW (W : Nat → Nat → Option Nat) (vw : Nat → List Nat) (a17 a18 a19 a20 : Nat → Int32) : Prop :=
  ∀ n, n < 3 → a17 n = nI (vw n).length ∧ ds_seg a18 (8 * n) (vw n) ∧
    (∀ d, d < 8 → (a19 (8 * n + d) = 0 ↔ W n d = none) ∧ (∀ v, W n d = some v → v < 4 ∧ a20 (8 * n + d) = nI v)) ∧
    (vw n).Pairwise (fun x y => ds_vk (W n) x < ds_vk (W n) y) ∧ ∀ d, d ∈ vw n ↔ d < 8 ∧ W n d ≠ none
def ds_u1 {α : Type} (f : Nat → α) (n : Nat) (x : α) : Nat → α := fun n' => if n' = n then x else f n'
theorem ds_u1s {α : Type} {f : Nat → α} {n : Nat} {x : α} : ds_u1 f n x n = x := by
  unfold ds_u1
  rw [if_pos rfl]
theorem ds_u1n {α : Type} {f : Nat → α} {n n' : Nat} {x : α} (h : n' ≠ n) : ds_u1 f n x n' = f n' := by
  unfold ds_u1
  rw [if_neg h]
theorem ds_vks (W : Nat → Option Nat) (a b : Nat) : ds_vk W a < ds_vk W b → ds_vk W b < ds_vk W a → False := fun h1 h2 => by omega
theorem ds_vk_u {W : Nat → Nat → Option Nat} {n d e : Nat} {x : Option Nat} (h : e ≠ d) : ds_vk (ds_u2 W n d x n) e = ds_vk (W n) e := by
  unfold ds_vk
  rw [ds_u2n (fun z => h z.2)]
theorem ds_VW_len {W : Nat → Nat → Option Nat} {vw : Nat → List Nat} {a17 a18 a19 a20 : Nat → Int32} (h : ds_VW W vw a17 a18 a19 a20) {n : Nat} (hn : n < 3) : (vw n).length ≤ 8 := by
  obtain ⟨_, _, _, h4, h5⟩ := h n hn
  exact ds_php 8 _ (ds_nodup (ds_vks (W n)) h4) (fun x hx => ((h5 x).mp hx).1)
theorem ds_VW_len7 {W : Nat → Nat → Option Nat} {vw : Nat → List Nat} {a17 a18 a19 a20 : Nat → Int32} (h : ds_VW W vw a17 a18 a19 a20) {n d : Nat} (hn : n < 3) (hd : d < 8) (hw : W n d = none) : (vw n).length < 8 := by
  obtain ⟨_, _, _, h4, h5⟩ := h n hn
  have t := ds_php 8 (d :: vw n) (List.nodup_cons.mpr ⟨fun z => ((h5 d).mp z).2 hw, ds_nodup (ds_vks (W n)) h4⟩) (fun x hx => by
    rcases List.mem_cons.mp hx with z | z
    · rw [z]; exact hd
    · exact ((h5 x).mp z).1)
  rw [List.length_cons] at t
  omega
/-- the views after a document was taken out -/
theorem ds_VW_take {W : Nat → Nat → Option Nat} {vw : Nat → List Nat} {a17 a18 a19 a20 b : Nat → Int32} {n d : Nat} {p s : List Nat} (h : ds_VW W vw a17 a18 a19 a20) (hn : n < 3) (hd : d < 8) (hv : vw n = p ++ d :: s)
    (h1 : ds_seg b (8 * n) (p ++ s)) (h2 : ∀ j, ¬ (8 * n ≤ j ∧ j < 8 * n + 8) → b j = a18 j) :
    ds_VW (ds_u2 W n d none) (ds_u1 vw n (p ++ s)) (upd a17 n (nI (p ++ s).length)) b (upd a19 (8 * n + d) 0) a20 := by
  intro n' hn'
  obtain ⟨g1, g2, g3, g4, g5⟩ := h n' hn'
  have len := ds_VW_len h hn'
  by_cases e : n' = n
  · subst e
    rw [ds_u1s, pk_us]
    have nd := ds_nodup (ds_vks (W n')) g4
    rw [hv] at nd g4
    have dp : d ∉ p := fun z => (List.nodup_append.mp nd).2.2 d z d List.mem_cons_self rfl
    have ds : d ∉ s := (List.nodup_cons.mp (List.nodup_append.mp nd).2.1).1
    have ne : ∀ x, x ∈ p ++ s → x ≠ d := by
      intro x hx z
      subst z
      rcases List.mem_append.mp hx with w | w
      · exact dp w
      · exact ds w
    refine ⟨rfl, h1, fun d' hd' => ?_, ?_, fun x => ?_⟩
    · by_cases e2 : d' = d
      · subst e2
        rw [ds_u2s, pk_us]
        exact ⟨⟨fun _ => rfl, fun _ => rfl⟩, fun v z => by cases z⟩
      · rw [ds_u2n (fun z => e2 z.2), pk_un (by omega)]
        exact g3 d' hd'
    · refine List.Pairwise.imp_of_mem (fun {a b} ha hb hab => ?_) (ds_del g4)
      rw [ds_vk_u (ne a ha), ds_vk_u (ne b hb)]
      exact hab
    · by_cases e2 : x = d
      · subst e2
        rw [ds_u2s]
        exact ⟨fun z => absurd rfl (ne x z), fun z => absurd rfl z.2⟩
      · rw [ds_u2n (fun z => e2 z.2), ← g5, hv]
        simp only [List.mem_append, List.mem_cons]
        constructor
        · rintro (z | z)
          · exact Or.inl z
          · exact Or.inr (Or.inr z)
        · rintro (z | z | z)
          · exact Or.inl z
          · exact absurd z e2
          · exact Or.inr z
  · rw [ds_u1n e, pk_un e]
    refine ⟨g1, fun k x hk => ?_, fun d' hd' => ?_, ?_, fun x => ?_⟩
    · obtain ⟨hkl, _⟩ := List.getElem?_eq_some_iff.mp hk
      rw [h2 _ (by omega)]
      exact g2 k x hk
    · rw [ds_u2n (fun z => e z.1), pk_un (by omega)]
      exact g3 d' hd'
    · refine List.Pairwise.imp (fun {a b} hab => ?_) g4
      unfold ds_vk at hab ⊢
      rw [ds_u2n (fun z => e z.1), ds_u2n (fun z => e z.1)]
      exact hab
    · rw [ds_u2n (fun z => e z.1)]
      exact g5 x
/-- the views after a document was put in -/
theorem ds_VW_put {W : Nat → Nat → Option Nat} {vw : Nat → List Nat} {a17 a18 a19 a20 b : Nat → Int32} {n d v : Nat} {p s : List Nat} (h : ds_VW W vw a17 a18 a19 a20) (hn : n < 3) (hd : d < 8) (hv4 : v < 4) (hw : W n d = none) (hv : vw n = p ++ s)
    (h1 : ds_seg b (8 * n) (p ++ d :: s)) (h2 : ∀ j, ¬ (8 * n ≤ j ∧ j < 8 * n + 8) → b j = a18 j) (hp : ∀ x, x ∈ p → ds_vk (W n) x < 8 * v + d) (hs : ∀ x, x ∈ s → 8 * v + d < ds_vk (W n) x) :
    ds_VW (ds_u2 W n d (some v)) (ds_u1 vw n (p ++ d :: s)) (upd a17 n (nI (p ++ d :: s).length)) b (upd a19 (8 * n + d) 1) (upd a20 (8 * n + d) (nI v)) := by
  intro n' hn'
  obtain ⟨g1, g2, g3, g4, g5⟩ := h n' hn'
  have len := ds_VW_len h hn'
  by_cases e : n' = n
  · subst e
    rw [ds_u1s, pk_us]
    have ne : ∀ x, x ∈ p ++ s → x ≠ d := by
      intro x hx z
      subst z
      rw [← hv] at hx
      exact ((g5 x).mp hx).2 hw
    have kd : ds_vk (ds_u2 W n' d (some v) n') d = 8 * v + d := by
      unfold ds_vk
      rw [ds_u2s]
      rfl
    refine ⟨rfl, h1, fun d' hd' => ?_, ?_, fun x => ?_⟩
    · by_cases e2 : d' = d
      · subst e2
        rw [ds_u2s, pk_us, pk_us]
        refine ⟨⟨fun z => absurd z (by decide), fun z => by cases z⟩, fun v' z => ?_⟩
        rw [Option.some.injEq] at z
        subst z
        exact ⟨hv4, rfl⟩
      · rw [ds_u2n (fun z => e2 z.2), pk_un (by omega), pk_un (by omega)]
        exact g3 d' hd'
    · rw [hv] at g4
      refine ds_ins (List.Pairwise.imp_of_mem (fun {a b} ha hb hab => ?_) g4) (fun x hx => ?_) (fun x hx => ?_)
      · rw [ds_vk_u (ne a ha), ds_vk_u (ne b hb)]
        exact hab
      · rw [kd, ds_vk_u (ne x (List.mem_append_left _ hx))]
        exact hp x hx
      · rw [kd, ds_vk_u (ne x (List.mem_append_right _ hx))]
        exact hs x hx
    · have hmem : x ∈ p ++ d :: s ↔ x = d ∨ x ∈ vw n' := by
        rw [hv]
        simp only [List.mem_append, List.mem_cons]
        constructor
        · rintro (z | z | z)
          · exact Or.inr (Or.inl z)
          · exact Or.inl z
          · exact Or.inr (Or.inr z)
        · rintro (z | z | z)
          · exact Or.inr (Or.inl z)
          · exact Or.inl z
          · exact Or.inr (Or.inr z)
      rw [hmem, g5]
      by_cases e2 : x = d
      · subst e2
        rw [ds_u2s]
        exact ⟨fun _ => ⟨hd, fun z => by cases z⟩, fun _ => Or.inl rfl⟩
      · rw [ds_u2n (fun z => e2 z.2)]
        exact ⟨fun z => z.resolve_left e2, fun z => Or.inr z⟩
  · rw [ds_u1n e, pk_un e]
    refine ⟨g1, fun k x hk => ?_, fun d' hd' => ?_, ?_, fun x => ?_⟩
    · obtain ⟨hkl, _⟩ := List.getElem?_eq_some_iff.mp hk
      rw [h2 _ (by omega)]
      exact g2 k x hk
    · rw [ds_u2n (fun z => e z.1), pk_un (by omega), pk_un (by omega)]
      exact g3 d' hd'
    · refine List.Pairwise.imp (fun {a b} hab => ?_) g4
      unfold ds_vk at hab ⊢
      rw [ds_u2n (fun z => e z.1), ds_u2n (fun z => e z.1)]
      exact hab
    · rw [ds_u2n (fun z => e z.1)]
      exact g5 x
section
variable {f0 : Int32} {a1 a2 a3 a4 a5 a6 a7 a8 a9 a10 a11 a12 a13 a14 a15 a16 a17 a18 a19 a20 a21 a22 : Nat → Int32}
theorem ds_w_leafAt {post : Int32 → Prop} {n d k : Nat} (hn : n < 3) (hd : d < 8) (hk : k < 80) (H : post (a13 (640 * n + 80 * d + k))) : wpX_leafAt post (f0, a1, a2, a3, a4, a5, a6, a7, a8, a9, a10, a11, a12, a13, a14, a15, a16, a17, a18, a19, a20, a21, a22) (nI n) (nI d) (nI k) := by
  have e : 640 * nI n + 80 * nI d + nI k = nI (640 * n + 80 * d + k) := by rw [ds_i640, nI_add]
  refine ⟨by rw [e]; exact vp_in_nI (by omega) (by omega), ?_⟩
  rw [e, nI_clamp (by omega)]
  exact H
theorem ds_w_take53 {post : St1 → Prop} {n d L k : Nat} (hn : n < 3) (hd : d < 8) (hL : a17 n = nI L) (hL8 : L < 8) (hk : k ≤ L)
    (H : ∀ b : Nat → Int32, (∀ i, k ≤ i → i < L → b (8 * n + i) = a18 (8 * n + i + 1)) → (∀ j, ¬ (8 * n + k ≤ j ∧ j < 8 * n + L) → b j = a18 j) → post (f0, a1, a2, a3, a4, a5, a6, a7, a8, a9, a10, a11, a12, a13, a14, a15, a16, a17, b, upd a19 (8 * n + d) 0, a20, a21, a22)) :
    ∀ (i j : Nat) (b : Nat → Int32), k ≤ j → j + i = L → (∀ i, k ≤ i → i < j → b (8 * n + i) = a18 (8 * n + i + 1)) → (∀ i, ¬ (8 * n + k ≤ i ∧ i < 8 * n + j) → b i = a18 i) → ∃ fu, wX_takeFromView_53 post (nI n) (nI d) f0 fu (nI j) a1 a2 a3 a4 a5 a6 a7 a8 a9 a10 a11 a12 a13 a14 a15 a16 a17 b a19 a20 a21 a22 := by
  have ia : vp_in (nI n) 3 := vp_in_nI hn (by omega)
  have ca : (nI n).toNatClampNeg = n := nI_clamp (by omega)
  intro i
  induction i with
  | zero =>
    intro j b hj e h1 h2
    have e2 : j = L := by omega
    subst e2
    refine ⟨1, ia, br_t ?_ ⟨?_, nm_r (e' := upd a19 (8 * n + d) 0) ?_ (H b h1 h2)⟩⟩
    · rw [ca, hL]
      exact nI_le (Nat.le_refl _) (by omega)
    · rw [ds_i8]
      exact vp_in_nI (by omega) (by omega)
    · rw [ds_i8, nI_clamp (by omega)]
  | succ i ih =>
    intro j b hj e h1 h2
    obtain ⟨fu, hf⟩ := ih (j + 1) (upd b (8 * n + j) (b (8 * n + j + 1))) (by omega) (by omega)
      (fun i hi hi2 => by
        by_cases e3 : i = j
        · subst e3
          rw [pk_us, h2 _ (by omega)]
        · rw [pk_un (by omega)]
          exact h1 i hi (by omega))
      (fun i hi => by
        rw [pk_un (by omega)]
        exact h2 i (by omega))
    refine ⟨fu + 1, ia, br_f ?_ ⟨?_, ?_, nm_r (e' := upd b (8 * n + j) (b (8 * n + j + 1))) ?_ (nm_r (nI_1 j) hf)⟩⟩
    · rw [ca, hL]
      exact nI_ge (by omega) (by omega)
    · rw [ds_i8, nI_1]
      exact vp_in_nI (by omega) (by omega)
    · rw [ds_i8]
      exact vp_in_nI (by omega) (by omega)
    · rw [ds_i8, nI_1, nI_clamp (by omega), nI_clamp (by omega)]
theorem ds_w_take5 {post : St1 → Prop} {n k d : Nat} (hn : n < 3) (hk : k < 8) (hr : a18 (8 * n + k) = nI d) (hne : ∀ j, j < k → ¬ a18 (8 * n + j) = nI d)
    (H : wX_takeFromView_36 post (nI n) (nI d) (nI k) f0 a1 a2 a3 a4 a5 a6 a7 a8 a9 a10 a11 a12 a13 a14 a15 a16 a17 a18 a19 a20 a21 a22) : ∀ i j, j + i = k → ∃ fu, wX_takeFromView_5 post (nI n) (nI d) f0 a1 a2 a3 a4 a5 a6 a7 a8 a9 a10 a11 a12 a13 a14 a15 a16 a17 a18 a19 a20 a21 a22 fu (nI j) (nI j) := by
  intro i
  induction i with
  | zero =>
    intro j e
    have e2 : j = k := by omega
    subst e2
    refine ⟨1, br_f (nI_ge (b := 8) (by omega) (by omega)) ⟨?_, br_t ?_ H⟩⟩
    · rw [ds_i8]
      exact vp_in_nI (by omega) (by omega)
    · rw [ds_i8, nI_clamp (by omega)]
      exact hr
  | succ i ih =>
    intro j e
    obtain ⟨fu, hf⟩ := ih (j + 1) (by omega)
    refine ⟨fu + 1, br_f (nI_ge (b := 8) (by omega) (by omega)) ⟨?_, br_f ?_ (nm_r (nI_1 j) (nm_r (nI_1 j) hf))⟩⟩
    · rw [ds_i8]
      exact vp_in_nI (by omega) (by omega)
    · rw [ds_i8, nI_clamp (by omega)]
      exact hne j (by omega)
/-- takeFromView -/
theorem ds_w_take {post : St1 → Prop} {W : Nat → Nat → Option Nat} {vw : Nat → List Nat} {n d : Nat} (hn : n < 3) (hd : d < 8) (hV : ds_VW W vw a17 a18 a19 a20) (hw : W n d ≠ none)
    (H : ∀ vw' b17 b18 b19, ds_VW (ds_u2 W n d none) vw' b17 b18 b19 a20 → post (f0, a1, a2, a3, a4, a5, a6, a7, a8, a9, a10, a11, a12, a13, a14, a15, a16, b17, b18, b19, a20, a21, a22)) : wpX_takeFromView post (f0, a1, a2, a3, a4, a5, a6, a7, a8, a9, a10, a11, a12, a13, a14, a15, a16, a17, a18, a19, a20, a21, a22) (nI n) (nI d) := by
  obtain ⟨g1, g2, g3, g4, g5⟩ := hV n hn
  obtain ⟨p, s, e⟩ := List.append_of_mem ((g5 d).mpr ⟨hd, hw⟩)
  have nd := ds_nodup (ds_vks (W n)) g4
  have len : (vw n).length = p.length + s.length + 1 := by rw [e, List.length_append, List.length_cons]; omega
  have len8 := ds_VW_len hV hn
  have dp : d ∉ p := fun z => by
    rw [e] at nd
    exact (List.nodup_append.mp nd).2.2 d z d List.mem_cons_self rfl
  have ia : vp_in (nI n) 3 := vp_in_nI hn (by omega)
  have ca : (nI n).toNatClampNeg = n := nI_clamp (by omega)
  refine ds_w_take5 (k := p.length) hn (by omega) ?_ ?_ ?_ p.length 0 (by omega)
  · refine g2 p.length d ?_
    rw [e, List.getElem?_append_right (Nat.le_refl _), Nat.sub_self, List.getElem?_cons_zero]
  · intro j hj z
    have t : (vw n)[j]? = some p[j] := by
      rw [e, List.getElem?_append_left hj, List.getElem?_eq_getElem hj]
    have t2 := g2 j p[j] t
    have t3 : p[j] ∈ p := List.getElem_mem hj
    have t4 : p[j] < 8 := ((g5 _).mp (by rw [e]; exact List.mem_append_left _ t3)).1
    rw [t2] at z
    have t5 := (nI_eq (by omega) (by omega)).mp z
    exact dp (by rw [← t5]; exact t3)
  · refine ⟨ia, ia, nm_r (e' := upd a17 n (nI (p ++ s).length)) ?_ ?_⟩
    · rw [ca, g1, len, nI_pred, List.length_append]
    · refine ds_w_take53 (a17 := upd a17 n (nI (p ++ s).length)) (L := p.length + s.length) (k := p.length) hn hd (by rw [pk_us, List.length_append]) (by omega) (by omega) (fun b h1 h2 => ?_) s.length p.length a18 (by omega) (by omega) (fun i h1 h2 => by omega) (fun i _ => rfl)
      refine H _ _ b _ (ds_VW_take hV hn hd e (ds_seg_del (r := d) (a := a18) (by rw [← e]; exact g2) (fun i hi => h2 _ (by omega)) h1) (fun j hj => h2 j (by omega)))
theorem ds_w_before {post : Int32 → Prop} {n d e x y : Nat} (hn : n < 3) (hd : d < 8) (he : e < 8) (hx : x < 4) (hy : y < 4) (h1 : a20 (8 * n + d) = nI x) (h2 : a20 (8 * n + e) = nI y)
    (H1 : 8 * x + d < 8 * y + e → post 1) (H0 : ¬ 8 * x + d < 8 * y + e → post 0) : wpX_viewBefore post (f0, a1, a2, a3, a4, a5, a6, a7, a8, a9, a10, a11, a12, a13, a14, a15, a16, a17, a18, a19, a20, a21, a22) (nI n) (nI d) (nI e) := by
  have id : vp_in (8 * nI n + nI d) 24 := by rw [ds_i8]; exact vp_in_nI (by omega) (by omega)
  have ie : vp_in (8 * nI n + nI e) 24 := by rw [ds_i8]; exact vp_in_nI (by omega) (by omega)
  refine ⟨id, nm_r (e' := nI x) (by rw [ds_i8, nI_clamp (by omega), h1]) ⟨ie, nm_r (e' := nI y) (by rw [ds_i8, nI_clamp (by omega), h2]) ?_⟩⟩
  refine pk_eq x y (fun z => ?_) (fun z => ?_)
  · exact pk_le e d (fun w => H0 (by omega)) (fun w => H1 (by omega))
  · exact pk_le y x (fun w => H0 (by omega)) (fun w => H1 (by omega))
theorem ds_w_put35 {post : St1 → Prop} {W : Nat → Nat → Option Nat} {n d x : Nat} {l : List Nat} (hn : n < 3) (hd : d < 8) (hx : x < 4) (hL : a17 n = nI l.length) (hL8 : l.length < 8) (hdx : a20 (8 * n + d) = nI x)
    (hl : ∀ e, e ∈ l → e < 8 ∧ e ≠ d ∧ ∃ y, y < 4 ∧ W n e = some y ∧ a20 (8 * n + e) = nI y) (hs : ds_seg a18 (8 * n) l) (hp : l.Pairwise (fun a b => ds_vk (W n) a < ds_vk (W n) b))
    (H : ∀ (p s : List Nat) (b : Nat → Int32), l = p ++ s → (∀ e, e ∈ p → ds_vk (W n) e < 8 * x + d) → (∀ e, e ∈ s → 8 * x + d < ds_vk (W n) e) → ds_seg b (8 * n) (p ++ d :: s) → (∀ j, ¬ (8 * n ≤ j ∧ j < 8 * n + 8) → b j = a18 j) → post (f0, a1, a2, a3, a4, a5, a6, a7, a8, a9, a10, a11, a12, a13, a14, a15, a16, upd a17 n (nI (l.length + 1)), b, a19, a20, a21, a22)) :
    ∀ (k : Nat) (p s : List Nat) (b : Nat → Int32), p.length = k → l = p ++ s → (∀ e, e ∈ s → 8 * x + d < ds_vk (W n) e) → (∀ i, i < k + 1 → i < l.length → b (8 * n + i) = a18 (8 * n + i)) → (∀ i, k < i → i ≤ l.length → b (8 * n + i) = a18 (8 * n + (i - 1))) → (∀ j, ¬ (8 * n ≤ j ∧ j < 8 * n + 8) → b j = a18 j) →
      ∃ fu, wX_putIntoView_35 post (nI n) (nI d) f0 fu (nI k) (nI s.length) a1 a2 a3 a4 a5 a6 a7 a8 a9 a10 a11 a12 a13 a14 a15 a16 a17 b a19 a20 a21 a22 := by
  have ia : vp_in (nI n) 3 := vp_in_nI hn (by omega)
  have ca : (nI n).toNatClampNeg = n := nI_clamp (by omega)
  have fin : ∀ (k : Nat) (p s : List Nat) (b : Nat → Int32), p.length = k → l = p ++ s → (∀ e, e ∈ p → ds_vk (W n) e < 8 * x + d) → (∀ e, e ∈ s → 8 * x + d < ds_vk (W n) e) → (∀ i, i < k + 1 → i < l.length → b (8 * n + i) = a18 (8 * n + i)) → (∀ i, k < i → i ≤ l.length → b (8 * n + i) = a18 (8 * n + (i - 1))) → (∀ j, ¬ (8 * n ≤ j ∧ j < 8 * n + 8) → b j = a18 j) →
      wX_putIntoView_105 post (nI n) (nI d) (nI k) f0 a1 a2 a3 a4 a5 a6 a7 a8 a9 a10 a11 a12 a13 a14 a15 a16 a17 b a19 a20 a21 a22 := by
    intro k p s b hk e h1 h2 h3 h4 h5
    have len : l.length = p.length + s.length := by rw [e, List.length_append]
    refine ⟨?_, nm_r (e' := upd b (8 * n + k) (nI d)) ?_ ⟨ia, ia, nm_r (e' := upd a17 n (nI (l.length + 1))) ?_ ?_⟩⟩
    · rw [ds_i8]
      exact vp_in_nI (by omega) (by omega)
    · rw [ds_i8, nI_clamp (by omega)]
    · rw [ca, hL, nI_1]
    · subst hk
      refine H p s _ e h1 h2 (ds_seg_ins (a := a18) (by rw [← e]; exact hs) (fun i hi => ?_) pk_us (fun i hi hi2 => ?_)) (fun j hj => ?_)
      · rw [pk_un (by omega)]
        exact h3 i (by omega) (by omega)
      · rw [pk_un (by omega)]
        exact h4 i hi (by omega)
      · rw [pk_un (by omega)]
        exact h5 j hj
  intro k
  induction k with
  | zero =>
    intro p s b hk e h2 h3 h4 h5
    have p0 : p = [] := List.length_eq_zero_iff.mp hk
    have len : l.length = s.length := by rw [e, p0, List.nil_append]
    refine ⟨1, br_f (nI_ge (b := 8) (by omega) (by omega)) (br_t (show nI 0 ≤ 0 by decide) (fin 0 p s b hk e (fun e' he' => by rw [p0] at he'; exact absurd he' List.not_mem_nil) h2 h3 h4 h5))⟩
  | succ k ih =>
    intro p s b hk e h2 h3 h4 h5
    rcases List.eq_nil_or_concat p with p0 | ⟨p', y, ep⟩
    · rw [p0] at hk
      cases hk
    · rw [List.concat_eq_append] at ep
      have lp : p'.length = k := by
        rw [ep, List.length_append, List.length_singleton] at hk
        omega
      have e' : l = p' ++ y :: s := by rw [e, ep, List.append_assoc]; rfl
      have len : l.length = k + s.length + 1 := by rw [e', List.length_append, List.length_cons]; omega
      have hy : y ∈ l := by rw [e']; exact List.mem_append_right _ List.mem_cons_self
      obtain ⟨y8, yd, v, v4, wv, av⟩ := hl y hy
      have ky : ds_vk (W n) y = 8 * v + y := by
        unfold ds_vk
        rw [wv]
        rfl
      have ep2 : 8 * nI n + nI (k + 1) - 1 = nI (8 * n + k) := by
        rw [ds_i8, ← Nat.add_assoc, nI_pred]
      have ry : b (8 * n + k) = nI y := by
        rw [h3 k (by omega) (by omega)]
        refine hs k y ?_
        rw [e', ← lp, List.getElem?_append_right (Nat.le_refl _), Nat.sub_self, List.getElem?_cons_zero]
      have i1 : vp_in (8 * nI n + nI (k + 1) - 1) 24 := by rw [ep2]; exact vp_in_nI (by omega) (by omega)
      by_cases c : 8 * x + d < 8 * v + y
      · obtain ⟨fu, hf⟩ := ih p' (y :: s) (upd b (8 * n + (k + 1)) (b (8 * n + k))) lp e' (fun e2 he2 => by
            rcases List.mem_cons.mp he2 with z | z
            · rw [z, ky]; exact c
            · exact h2 e2 z) (fun i hi hi2 => by
            rw [pk_un (by omega)]
            exact h3 i (by omega) hi2) (fun i hi hi2 => by
            by_cases e3 : i = k + 1
            · subst e3
              rw [pk_us, h3 k (by omega) (by omega)]
              rfl
            · rw [pk_un (by omega)]
              exact h4 i (by omega) hi2) (fun j hj => by
            rw [pk_un (by omega)]
            exact h5 j hj)
        refine ⟨fu + 1, br_f (nI_ge (b := 8) (by omega) (by omega)) (br_f (nI_nle (by omega) (by omega)) ⟨i1, ?_⟩)⟩
        rw [ep2, nI_clamp (by omega), ry]
        refine ds_w_before hn hd y8 hx v4 hdx av (fun _ => ?_) (fun z => absurd c z)
        refine br_f (show ¬ (1 : Int32) = 0 by decide) ⟨vp_in_nI (by omega) (by omega), ?_, nm_r (e' := upd b (8 * n + (k + 1)) (b (8 * n + k))) ?_ (nm_r (pk_m1 k) (nm_r (nI_1 _) hf))⟩
        · rw [ds_i8]
          exact vp_in_nI (by omega) (by omega)
        · rw [ds_i8, nI_clamp (by omega), ry]
      · have lst : ∀ e2, e2 ∈ p → ds_vk (W n) e2 < 8 * x + d := by
          intro e2 he2
          have l1 : ds_vk (W n) y < 8 * x + d := by
            rw [ky]
            omega
          rw [ep] at he2
          rcases List.mem_append.mp he2 with z | z
          · rw [e'] at hp
            have := (List.pairwise_append.mp hp).2.2 e2 z y List.mem_cons_self
            omega
          · rw [List.mem_singleton.mp z]
            exact l1
        refine ⟨1, br_f (nI_ge (b := 8) (by omega) (by omega)) (br_f (nI_nle (by omega) (by omega)) ⟨i1, ?_⟩)⟩
        rw [ep2, nI_clamp (by omega), ry]
        refine ds_w_before hn hd y8 hx v4 hdx av (fun z => absurd z c) (fun _ => ?_)
        exact br_t rfl (fin (k + 1) p s b hk e lst h2 h3 h4 h5)
/-- putIntoView -/
theorem ds_w_putV {post : St1 → Prop} {W : Nat → Nat → Option Nat} {vw : Nat → List Nat} {n d v : Nat} (hn : n < 3) (hd : d < 8) (hv : v < 4) (hV : ds_VW W vw a17 a18 a19 a20) (hw : W n d = none)
    (H : ∀ vw' b17 b18 b19 b20, ds_VW (ds_u2 W n d (some v)) vw' b17 b18 b19 b20 → post (f0, a1, a2, a3, a4, a5, a6, a7, a8, a9, a10, a11, a12, a13, a14, a15, a16, b17, b18, b19, b20, a21, a22)) : wpX_putIntoView post (f0, a1, a2, a3, a4, a5, a6, a7, a8, a9, a10, a11, a12, a13, a14, a15, a16, a17, a18, a19, a20, a21, a22) (nI n) (nI d) (nI v) := by
  obtain ⟨g1, g2, g3, g4, g5⟩ := hV n hn
  have len7 := ds_VW_len7 hV hn hd hw
  have id : vp_in (8 * nI n + nI d) 24 := by rw [ds_i8]; exact vp_in_nI (by omega) (by omega)
  have cd : (8 * nI n + nI d).toNatClampNeg = 8 * n + d := by rw [ds_i8]; exact nI_clamp (by omega)
  refine ⟨id, nm_r (e' := upd a20 (8 * n + d) (nI v)) (by rw [cd]) ⟨id, nm_r (e' := upd a19 (8 * n + d) 1) (by rw [cd]) ⟨vp_in_nI hn (by omega), nm_r (e' := nI (vw n).length) (by rw [nI_clamp (by omega), g1]) ?_⟩⟩⟩
  refine ds_w_put35 (W := W) (l := vw n) (x := v) (a19 := upd a19 (8 * n + d) 1) (a20 := upd a20 (8 * n + d) (nI v)) hn hd hv g1 len7 pk_us (fun e he => ?_) g2 g4 (fun p s b e h1 h2 h3 h4 => ?_) (vw n).length (vw n) [] a18 rfl (List.append_nil _).symm (fun e he => absurd he List.not_mem_nil) (fun i _ _ => rfl) (fun i h1 h2 => by omega) (fun j _ => rfl)
  · obtain ⟨e8, ew⟩ := (g5 e).mp he
    have ed : e ≠ d := fun z => by rw [z] at ew; exact ew hw
    refine ⟨e8, ed, ?_⟩
    cases hy : W n e with
    | none => exact absurd hy ew
    | some y =>
      obtain ⟨y4, ya⟩ := (g3 e e8).2 y hy
      exact ⟨y, y4, rfl, by rw [pk_un (by omega)]; exact ya⟩
  · have len : (p ++ d :: s).length = (vw n).length + 1 := by rw [e, List.length_append, List.length_append, List.length_cons]; omega
    have t := ds_VW_put hV hn hd hv hw e h3 h4 h1 h2
    rw [len] at t
    exact H _ _ b _ _ t
end
end
section
section
variable {M : Nat} {rv : Nat → ds_N} {lf : Nat → Nat → List Nat} {f0 : Int32} {a1 a2 a3 a4 a5 a6 a7 a8 a9 a10 a11 a12 a13 a14 a15 a16 a17 a18 a19 a20 a21 a22 : Nat → Int32}
theorem ds_w_fw15 {post : Int32 → Prop} {n d : Nat} {l : List Nat} (hR : ds_PR M rv) (hA : ds_AR M rv f0 a1 a2 a3 a4 a5) (hn : n < 3) (hd : d < 8) (hl : l.length ≤ 80) (hs : ds_seg a13 (640 * n + 80 * d) l) (hm : ∀ x, x ∈ l → x < M)
    (H : post (ds_o (ds_win rv l))) : ∀ (s p : List Nat), l = p ++ s → (∀ x, x ∈ p → ¬ ds_mk rv x = 0) → ∃ fu, wX_findWinner_15 post (nI n) (nI d) (nI l.length) f0 a1 a2 a3 a4 a5 a6 a7 a8 a9 a10 a11 a12 a13 a14 a15 a16 a17 a18 a19 a20 a21 a22 fu (nI p.length) := by
  have hM := hR.1
  intro s
  induction s with
  | nil =>
    intro p e h1
    rw [List.append_nil] at e
    subst e
    have fn : l.find? (fun r => ds_mk rv r == 0) = none := List.find?_eq_none.mpr (fun x hx => by simpa using h1 x hx)
    have wn : ds_win rv l = l.head? := by
      unfold ds_win
      rw [fn]
    rw [wn] at H
    refine ⟨1, br_t (nI_le (Nat.le_refl _) (by omega)) ?_⟩
    refine pk_eq l.length 0 (fun z => ?_) (fun z => ?_)
    · have l0 : l = [] := List.length_eq_zero_iff.mp z
      rw [l0] at H
      exact H
    · cases l with
      | nil => exact absurd rfl z
      | cons y l =>
        refine ds_w_leafAt (k := 0) hn hd (by omega) ?_
        rw [hs 0 y rfl]
        exact H
  | cons y s ih =>
    intro p e h1
    have len : l.length = p.length + s.length + 1 := by rw [e, List.length_append, List.length_cons]; omega
    have hy : y < M := hm y (by rw [e]; exact List.mem_append_right _ List.mem_cons_self)
    have ry : a13 (640 * n + 80 * d + p.length) = nI y := hs _ _ (by rw [e, List.getElem?_append_right (Nat.le_refl _), Nat.sub_self, List.getElem?_cons_zero])
    have m4 := (hA.2 y hy).2.2.2.1
    have m2 := (hR.2.1 y hy).2.2.1
    have cy : (nI y).toNatClampNeg = y := nI_clamp (by omega)
    have go : ¬ nI l.length ≤ nI p.length := nI_ge (by omega) (by omega)
    by_cases c : ds_mk rv y = 0
    · refine ⟨1, br_f go (ds_w_leafAt hn hd (by omega) ?_)⟩
      rw [ry]
      refine ⟨vp_in_nI (by omega) (by omega), br_t ?_ ?_⟩
      · rw [cy, m4, c]
        rfl
      · have fn : p.find? (fun r => ds_mk rv r == 0) = none := List.find?_eq_none.mpr (fun x hx => by simpa using h1 x hx)
        have wn : ds_win rv l = some y := by
          unfold ds_win
          rw [e, List.find?_append, fn, Option.none_or, List.find?_cons_of_pos (by simp [c])]
        rw [wn] at H
        exact H
    · obtain ⟨fu, hf⟩ := ih (p ++ [y]) (by rw [e]; simp) (fun x hx => by
        rcases List.mem_append.mp hx with z | z
        · exact h1 x z
        · rw [List.mem_singleton.mp z]; exact c)
      rw [List.length_append, List.length_singleton] at hf
      refine ⟨fu + 1, br_f go (ds_w_leafAt hn hd (by omega) ?_)⟩
      rw [ry]
      refine ⟨vp_in_nI (by omega) (by omega), br_f ?_ (nm_r (nI_1 _) hf)⟩
      rw [cy, m4]
      exact nI_ne0 (by omega) (by omega)
theorem ds_w_fw {post : Int32 → Prop} {n d : Nat} (hR : ds_PR M rv) (hA : ds_AR M rv f0 a1 a2 a3 a4 a5) (hn : n < 3) (hd : d < 8) (hL : ds_AL lf a12 a13) (hm : ∀ x, x ∈ lf n d → x < M)
    (H : post (ds_o (ds_win rv (lf n d)))) : wpX_findWinner post (f0, a1, a2, a3, a4, a5, a6, a7, a8, a9, a10, a11, a12, a13, a14, a15, a16, a17, a18, a19, a20, a21, a22) (nI n) (nI d) := by
  obtain ⟨l1, l2, l3⟩ := hL n d hn hd
  refine ⟨by rw [ds_i8]; exact vp_in_nI (by omega) (by omega), nm_r (e' := nI (lf n d).length) (by rw [ds_i8, nI_clamp (by omega), l2]) ?_⟩
  exact ds_w_fw15 hR hA hn hd l1 l3 hm H (lf n d) [] rfl (fun x hx => absurd hx List.not_mem_nil)
/-- what the winner is -/
theorem ds_win_cases (l : List Nat) : (∃ w, ds_win rv l = some w ∧ w ∈ l ∧ ds_mk rv w = 0 ∧ ds_wv rv l = some (ds_vl rv w)) ∨ (ds_wv rv l = none ∧ ((l = [] ∧ ds_win rv l = none) ∨ ∃ w, ds_win rv l = some w ∧ w ∈ l ∧ ¬ ds_mk rv w = 0)) := by
  cases hf : l.find? (fun r => ds_mk rv r == 0) with
  | some w =>
    refine Or.inl ⟨w, ?_, List.mem_of_find?_eq_some hf, ?_, ?_⟩
    · unfold ds_win
      rw [hf]
    · have := List.find?_some hf
      simpa using this
    · unfold ds_wv
      rw [hf]
      rfl
  | none =>
    refine Or.inr ⟨?_, ?_⟩
    · unfold ds_wv
      rw [hf]
      rfl
    · cases l with
      | nil => exact Or.inl ⟨rfl, rfl⟩
      | cons y l =>
        refine Or.inr ⟨y, ?_, List.mem_cons_self, ?_⟩
        · unfold ds_win
          rw [hf]
          rfl
        · have := List.find?_eq_none.mp hf y List.mem_cons_self
          simpa using this
theorem ds_VW_same {W : Nat → Nat → Option Nat} {vw : Nat → List Nat} {n d : Nat} {x : Option Nat} (hV : ds_VW W vw a17 a18 a19 a20) (h : W n d = x) : ds_VW (ds_u2 W n d x) vw a17 a18 a19 a20 := by
  have e : ds_u2 W n d x = W := by
    funext n' d'
    by_cases c : n' = n ∧ d' = d
    · obtain ⟨rfl, rfl⟩ := c
      rw [ds_u2s, h]
    · rw [ds_u2n c]
  rw [e]
  exact hV
/-- renew -/
theorem ds_w_renew {post : St1 → Prop} {W : Nat → Nat → Option Nat} {vw : Nat → List Nat} {n d : Nat} (hR : ds_PR M rv) (hA : ds_AR M rv f0 a1 a2 a3 a4 a5) (hn : n < 3) (hd : d < 8) (hL : ds_AL lf a12 a13) (hm : ∀ x, x ∈ lf n d → x < M)
    (hV : ds_VW W vw a17 a18 a19 a20)
    (H : ∀ vw' b17 b18 b19 b20, ds_VW (ds_u2 W n d (ds_wv rv (lf n d))) vw' b17 b18 b19 b20 → post (f0, a1, a2, a3, a4, a5, a6, a7, a8, a9, a10, a11, a12, a13, a14, a15, a16, b17, b18, b19, b20, a21, a22)) : wpX_renew post (f0, a1, a2, a3, a4, a5, a6, a7, a8, a9, a10, a11, a12, a13, a14, a15, a16, a17, a18, a19, a20, a21, a22) (nI n) (nI d) := by
  have hM := hR.1
  obtain ⟨g1, g2, g3, g4, g5⟩ := hV n hn
  obtain ⟨g6, g7⟩ := g3 d hd
  have id : vp_in (8 * nI n + nI d) 24 := by rw [ds_i8]; exact vp_in_nI (by omega) (by omega)
  have cd : (8 * nI n + nI d).toNatClampNeg = 8 * n + d := by rw [ds_i8]; exact nI_clamp (by omega)
  refine ds_w_fw hR hA hn hd hL hm ?_
  rcases ds_win_cases (rv := rv) (lf n d) with ⟨w, w1, w2, w3, w4⟩ | ⟨w0, w1⟩
  · rw [w1, ds_o_some]
    rw [w4] at H
    have wM := hm w w2
    have cw : (nI w).toNatClampNeg = w := nI_clamp (by omega)
    have iw : vp_in (nI w) 80 := vp_in_nI (by omega) (by omega)
    have v4 := (hR.2.1 w wM).2.1
    refine br_f (ds_nm (by omega)) ⟨iw, br_t (by rw [cw, (hA.2 w wM).2.2.2.1, w3]; rfl) ?_⟩
    have put : ∀ (W' : Nat → Nat → Option Nat) (vw' : Nat → List Nat) (b17 b18 b19 : Nat → Int32), ds_VW W' vw' b17 b18 b19 a20 → W' n d = none → ds_u2 W' n d (some (ds_vl rv w)) = ds_u2 W n d (some (ds_vl rv w)) → wX_renew_83 post (nI n) (nI d) (nI w) 1 f0 a1 a2 a3 a4 a5 a6 a7 a8 a9 a10 a11 a12 a13 a14 a15 a16 b17 b18 b19 a20 a21 a22 := by
      intro W' vw' b17 b18 b19 hV' hw' he
      refine br_f (by decide) ⟨iw, ?_⟩
      rw [cw, (hA.2 w wM).2.2.1]
      refine ds_w_putV hn hd v4 hV' hw' (fun vw2 c17 c18 c19 c20 h2 => ?_)
      rw [he] at h2
      exact H vw2 c17 c18 c19 c20 h2
    refine ⟨id, nm_r (e' := a19 (8 * n + d)) (by rw [cd]) ?_⟩
    refine br_c (fun z => br_t z (put W vw a17 a18 a19 hV (g6.mp z) rfl)) (fun z => br_f (by decide) ⟨id, iw, ?_⟩)
    have hw : W n d ≠ none := fun y => z (g6.mpr y)
    rw [cd, cw, (hA.2 w wM).2.2.1]
    refine br_c (fun y => ?_) (fun y => br_f z ?_)
    · refine H vw a17 a18 a19 a20 (ds_VW_same hV ?_)
      cases hq : W n d with
      | none => exact absurd hq hw
      | some v =>
        obtain ⟨v3, va⟩ := g7 v hq
        rw [va] at y
        rw [(nI_eq (by omega) (by omega)).mp y]
    · refine ds_w_take hn hd hV hw (fun vw' b17 b18 b19 h2 => put _ vw' b17 b18 b19 h2 ds_u2s (ds_u2u _ _ _ _ _))
  · rw [w0] at H
    have main : ∀ x3 : Int32, wX_renew_25 post (nI n) (nI d) x3 f0 a1 a2 a3 a4 a5 a6 a7 a8 a9 a10 a11 a12 a13 a14 a15 a16 a17 a18 a19 a20 a21 a22 := by
      intro x3
      refine ⟨id, nm_r (e' := a19 (8 * n + d)) (by rw [cd]) ?_⟩
      refine br_c (fun z => br_t z (br_t rfl (H vw a17 a18 a19 a20 (ds_VW_same hV (g6.mp z))))) (fun z => br_t rfl (br_f z ?_))
      have hw : W n d ≠ none := fun y => z (g6.mpr y)
      exact ds_w_take hn hd hV hw (fun vw' b17 b18 b19 h2 => br_t rfl (H vw' b17 b18 b19 a20 h2))
    rcases w1 with ⟨_, w2⟩ | ⟨w, w2, w3, w4⟩
    · rw [w2]
      exact br_t rfl (main _)
    · rw [w2, ds_o_some]
      have wM := hm w w3
      have m2 := (hR.2.1 w wM).2.2.1
      refine br_f (ds_nm (by omega)) ⟨vp_in_nI (by omega) (by omega), br_f ?_ (main _)⟩
      rw [nI_clamp (by omega), (hA.2 w wM).2.2.2.1]
      exact nI_ne0 (by omega) (by omega)
end
end
section
/-! the chains of children -/
def ds_last (Q : Nat → Prop) (b : Nat) (x : Int32) : Prop := (x = -1 ∧ ∀ j, j < b → ¬ Q j) ∨ ∃ r, r < b ∧ x = nI r ∧ Q r ∧ ∀ j, r < j → j < b → ¬ Q j
def ds_CH (M : Nat) (rv : Nat → ds_N) (a6 a7 a8 : Nat → Int32) : Prop :=
  (∀ p, p < M → ds_last (fun j => ds_pa rv j = some p) M (a6 p)) ∧ (∀ r, r < M → ds_last (fun j => ds_dc rv j = ds_dc rv r ∧ ds_pa rv j = ds_pa rv r) r (a7 r)) ∧
  ∀ d, d < 8 → ds_last (fun j => ds_dc rv j = d ∧ ds_pa rv j = none) M (a8 d)
theorem ds_last_c {Q Q' : Nat → Prop} {b : Nat} {x : Int32} (h : ds_last Q b x) (e : ∀ j, j < b → (Q' j ↔ Q j)) : ds_last Q' b x := by
  rcases h with ⟨h1, h2⟩ | ⟨r, h1, h2, h3, h4⟩
  · exact Or.inl ⟨h1, fun j hj z => h2 j hj ((e j hj).mp z)⟩
  · exact Or.inr ⟨r, h1, h2, (e r h1).mpr h3, fun j hj hj2 z => h4 j hj hj2 ((e j hj2).mp z)⟩
theorem ds_last_s {Q : Nat → Prop} {b : Nat} {x : Int32} (h : ds_last Q b x) (e : ¬ Q b) : ds_last Q (b + 1) x := by
  rcases h with ⟨h1, h2⟩ | ⟨r, h1, h2, h3, h4⟩
  · refine Or.inl ⟨h1, fun j hj z => ?_⟩
    by_cases c : j = b
    · rw [c] at z; exact e z
    · exact h2 j (by omega) z
  · refine Or.inr ⟨r, by omega, h2, h3, fun j hj hj2 z => ?_⟩
    by_cases c : j = b
    · rw [c] at z; exact e z
    · exact h4 j hj (by omega) z
theorem ds_last_n {Q : Nat → Prop} {b : Nat} (e : Q b) : ds_last Q (b + 1) (nI b) := Or.inr ⟨b, by omega, rfl, e, fun j h1 h2 => by omega⟩
section
variable {M : Nat} {rv : Nat → ds_N} {f0 : Int32} {a1 a2 a3 a4 a5 a6 a7 a8 a9 a10 a11 a12 a13 a14 a15 a16 a17 a18 a19 a20 a21 a22 : Nat → Int32}
theorem ds_w_fr25 {post : Int32 → Prop} {d x m : Nat} {q : Option Nat} (hR : ds_PR M rv) (hA : ds_AR M rv f0 a1 a2 a3 a4 a5) (hC : ds_CH M rv a6 a7 a8) (hx : x < 4) (hm : m < 2)
    (H0 : (∀ j, j < M → ds_dc rv j = d → ds_pa rv j = q → ds_vl rv j = x → ds_mk rv j = m → False) → post (-1))
    (H1 : ∀ r, r < M → ds_dc rv r = d → ds_pa rv r = q → ds_vl rv r = x → ds_mk rv r = m → post (nI r)) :
    ∀ (b i : Nat) (y : Int32), b ≤ M → i + b ≤ 80 → ds_last (fun j => ds_dc rv j = d ∧ ds_pa rv j = q) b y → (∀ j, b ≤ j → j < M → ds_dc rv j = d → ds_pa rv j = q → ds_vl rv j = x → ds_mk rv j = m → False) →
      ∃ fu, wX_findRevision_25 post (nI x) (nI m) f0 a1 a2 a3 a4 a5 a6 a7 a8 a9 a10 a11 a12 a13 a14 a15 a16 a17 a18 a19 a20 a21 a22 fu y (nI i) := by
  have hM := hR.1
  intro b
  induction b using Nat.strongRecOn with
  | ind b ih =>
    intro i y hb hi hl hn
    rcases hl with ⟨h1, h2⟩ | ⟨r, h1, h2, h3, h4⟩
    · have pm : post (-1) := H0 (fun j hj e1 e2 => by
        by_cases c : j < b
        · exact absurd ⟨e1, e2⟩ (h2 j c)
        · exact hn j (by omega) hj e1 e2)
      subst h1
      exact ⟨1, br_c (fun _ => pm) (fun _ => br_t rfl pm)⟩
    · subst h2
      have rM : r < M := by omega
      have ir : vp_in (nI r) 80 := vp_in_nI (by omega) (by omega)
      have cr : (nI r).toNatClampNeg = r := nI_clamp (by omega)
      have e3 := (hA.2 r rM).2.2.1
      have e4 := (hA.2 r rM).2.2.2.1
      have v4 := (hR.2.1 r rM).2.1
      have v2 := (hR.2.1 r rM).2.2.1
      have big : ¬ (80 : Int32) ≤ nI i := nI_ge (b := 80) (by omega) (by omega)
      have ne : ¬ nI r = (-1) := ds_nm (by omega)
      by_cases c1 : ds_vl rv r = x
      · by_cases c2 : ds_mk rv r = m
        · refine ⟨1, br_f big (br_f ne ⟨ir, br_t (by rw [cr, e3, c1]) ⟨ir, br_t (by rw [cr, e4, c2]) (H1 r rM h3.1 h3.2 c1 c2)⟩⟩)⟩
        · obtain ⟨fu, hf⟩ := ih r h1 (i + 1) (a7 r) (by omega) (by omega) (by
            have := hC.2.1 r rM
            rw [h3.1, h3.2] at this
            exact this) (fun j hj hj2 g1 g2 g3 g4 => by
            by_cases e5 : j = r
            · subst e5; exact c2 g4
            · by_cases e6 : j < b
              · exact h4 j (by omega) e6 ⟨g1, g2⟩
              · exact hn j (by omega) hj2 g1 g2 g3 g4)
          refine ⟨fu + 1, br_f big (br_f ne ⟨ir, br_t (by rw [cr, e3, c1]) ⟨ir, br_f ?_ ⟨ir, nm_r (e' := a7 r) (by rw [cr]) (nm_r (nI_1 i) hf)⟩⟩⟩)⟩
          rw [cr, e4]
          exact fun z => c2 ((nI_eq (by omega) (by omega)).mp z)
      · obtain ⟨fu, hf⟩ := ih r h1 (i + 1) (a7 r) (by omega) (by omega) (by
            have := hC.2.1 r rM
            rw [h3.1, h3.2] at this
            exact this) (fun j hj hj2 g1 g2 g3 g4 => by
            by_cases e5 : j = r
            · subst e5; exact c1 g3
            · by_cases e6 : j < b
              · exact h4 j (by omega) e6 ⟨g1, g2⟩
              · exact hn j (by omega) hj2 g1 g2 g3 g4)
        refine ⟨fu + 1, br_f big (br_f ne ⟨ir, br_f ?_ ⟨ir, nm_r (e' := a7 r) (by rw [cr]) (nm_r (nI_1 i) hf)⟩⟩)⟩
        rw [cr, e3]
        exact fun z => c1 ((nI_eq (by omega) (by omega)).mp z)
theorem ds_ch_pa (hR : ds_PR M rv) {p d : Nat} (hd : ds_dc rv p = d) {j : Nat} (hj : j < M) : (ds_dc rv j = d ∧ ds_pa rv j = some p ↔ ds_pa rv j = some p) := by
  refine ⟨fun z => z.2, fun z => ⟨?_, z⟩⟩
  rw [← ((hR.2.1 j hj).2.2.2.2 p z).2.1, hd]
theorem ds_w_fr {post : Int32 → Prop} {d x m : Nat} {q : Option Nat} (hR : ds_PR M rv) (hA : ds_AR M rv f0 a1 a2 a3 a4 a5) (hC : ds_CH M rv a6 a7 a8) (hd : d < 8) (hx : x < 4) (hm : m < 2) (hq : ∀ p, q = some p → p < M ∧ ds_dc rv p = d)
    (H0 : (∀ j, j < M → ds_dc rv j = d → ds_pa rv j = q → ds_vl rv j = x → ds_mk rv j = m → False) → post (-1))
    (H1 : ∀ r, r < M → ds_dc rv r = d → ds_pa rv r = q → ds_vl rv r = x → ds_mk rv r = m → post (nI r)) :
    wpX_findRevision post (f0, a1, a2, a3, a4, a5, a6, a7, a8, a9, a10, a11, a12, a13, a14, a15, a16, a17, a18, a19, a20, a21, a22) (nI d) (ds_o q) (nI x) (nI m) := by
  have hM := hR.1
  cases q with
  | none =>
    refine br_t rfl ⟨vp_in_nI hd (by omega), nm_r (e' := a8 d) (by rw [nI_clamp (by omega)]) ?_⟩
    exact ds_w_fr25 hR hA hC hx hm H0 H1 M 0 (a8 d) (Nat.le_refl _) (by omega) (hC.2.2 d hd) (fun j h1 h2 => by omega)
  | some p =>
    obtain ⟨p1, p2⟩ := hq p rfl
    refine br_f (show ¬ nI p = -1 from ds_nm (by omega)) ⟨vp_in_nI (by omega) (by omega), nm_r (e' := a6 p) (by rw [ds_o_some, nI_clamp (by omega)]) ?_⟩
    exact ds_w_fr25 hR hA hC hx hm H0 H1 M 0 (a6 p) (Nat.le_refl _) (by omega) (ds_last_c (hC.1 p p1) (fun j hj => ds_ch_pa hR p2 hj)) (fun j h1 h2 => by omega)
theorem ds_nar {m : Nat} (h : m < 2) : vp_nar .boolean (nI m) = nI m := by
  have e : m = 0 ∨ m = 1 := by omega
  rcases e with rfl | rfl <;> rfl
/-- makeRevision -/
theorem ds_w_mr {post : Int32 → St1 → Prop} {d x m : Nat} {q : Option Nat} (hR : ds_PR M rv) (hA : ds_AR M rv f0 a1 a2 a3 a4 a5) (hC : ds_CH M rv a6 a7 a8) (hM8 : M < 80) (hd : d < 8) (hx : x < 4) (hm : m < 2) (hq : ∀ p, q = some p → p < M ∧ ds_dc rv p = d)
    (hn : ∀ r, r < M → ds_dc rv r = d → ds_pa rv r = q → ds_vl rv r = x → ds_mk rv r = m → False)
    (H : ∀ (g k : Nat) (b1 b2 b3 b4 b5 b6 b7 b8 : Nat → Int32), ds_PR (M + 1) (ds_ad rv M (d, q, x, m, g, k)) → ds_AR (M + 1) (ds_ad rv M (d, q, x, m, g, k)) (nI (M + 1)) b1 b2 b3 b4 b5 → ds_CH (M + 1) (ds_ad rv M (d, q, x, m, g, k)) b6 b7 b8 → post (nI M) (nI (M + 1), b1, b2, b3, b4, b5, b6, b7, b8, a9, a10, a11, a12, a13, a14, a15, a16, a17, a18, a19, a20, a21, a22)) :
    wpX_makeRevision post (f0, a1, a2, a3, a4, a5, a6, a7, a8, a9, a10, a11, a12, a13, a14, a15, a16, a17, a18, a19, a20, a21, a22) (nI d) (ds_o q) (nI x) (nI m) := by
  obtain ⟨hf, hA2⟩ := hA
  subst hf
  have iM : vp_in (nI M) 80 := vp_in_nI hM8 (by omega)
  have cM : (nI M).toNatClampNeg = M := nI_clamp (by omega)
  have oldd : ∀ (e : ds_N) j, j < M → ds_dc (ds_ad rv M e) j = ds_dc rv j := fun e j hj => by unfold ds_dc; rw [ds_ad_n (by omega)]
  have oldp : ∀ (e : ds_N) j, j < M → ds_pa (ds_ad rv M e) j = ds_pa rv j := fun e j hj => by unfold ds_pa; rw [ds_ad_n (by omega)]
  have oldv : ∀ (e : ds_N) j, j < M → ds_vl (ds_ad rv M e) j = ds_vl rv j := fun e j hj => by unfold ds_vl; rw [ds_ad_n (by omega)]
  have oldm : ∀ (e : ds_N) j, j < M → ds_mk (ds_ad rv M e) j = ds_mk rv j := fun e j hj => by unfold ds_mk; rw [ds_ad_n (by omega)]
  have oldg : ∀ (e : ds_N) j, j < M → ds_ge (ds_ad rv M e) j = ds_ge rv j := fun e j hj => by unfold ds_ge; rw [ds_ad_n (by omega)]
  have ar : ∀ g k, ds_AR (M + 1) (ds_ad rv M (d, q, x, m, g, k)) (nI (M + 1)) (upd a1 M (nI d)) (upd a2 M (ds_o q)) (upd a3 M (nI x)) (upd a4 M (nI m)) (upd a5 M (nI g)) := by
    intro g k
    refine ⟨rfl, fun r hr => ?_⟩
    by_cases e : r = M
    · subst e
      unfold ds_dc ds_pa ds_vl ds_mk ds_ge
      rw [ds_ad_s, pk_us, pk_us, pk_us, pk_us, pk_us]
      exact ⟨rfl, rfl, rfl, rfl, rfl⟩
    · have hr' : r < M := by omega
      rw [oldd _ r hr', oldp _ r hr', oldv _ r hr', oldm _ r hr', oldg _ r hr', pk_un e, pk_un e, pk_un e, pk_un e, pk_un e]
      exact hA2 r hr'
  have newd : ∀ g k, ds_dc (ds_ad rv M (d, q, x, m, g, k)) M = d := fun g k => by unfold ds_dc; rw [ds_ad_s]
  have newp : ∀ g k, ds_pa (ds_ad rv M (d, q, x, m, g, k)) M = q := fun g k => by unfold ds_pa; rw [ds_ad_s]
  have nopar : ∀ j, j < M → ds_pa rv j = some M → False := fun j hj z => by have := ((hR.2.1 j hj).2.2.2.2 M z).1; omega
  refine ⟨iM, nm_r (e' := upd a1 M (nI d)) (by rw [cM]) ⟨iM, nm_r (e' := upd a2 M (ds_o q)) (by rw [cM]) ⟨iM, nm_r (e' := upd a3 M (nI x)) (by rw [cM]) ⟨iM, nm_r (e' := upd a4 M (nI m)) (by rw [cM, ds_nar hm]) ?_⟩⟩⟩⟩
  cases q with
  | none =>
    have id : vp_in (nI d) 8 := vp_in_nI hd (by omega)
    have cd : (nI d).toNatClampNeg = d := nI_clamp (by omega)
    refine br_t rfl ⟨iM, nm_r (e' := upd a5 M (nI 1)) (by rw [cM]; rfl) ⟨iM, nm_r (e' := upd a6 M (-1)) (by rw [cM]) (br_t rfl ⟨id, iM, nm_r (e' := upd a7 M (a8 d)) (by rw [cM, cd]) (br_t rfl ⟨id, nm_r (e' := upd a8 d (nI M)) (by rw [cd]) (nm_r (nI_1 M) ?_)⟩)⟩)⟩⟩
    refine H 1 (8 + 2 * x + m) _ _ _ _ _ _ _ _ (ds_PR_ad hR hM8 hd hx hm hq hn 1 (8 + 2 * x + m) (fun _ => ⟨rfl, rfl⟩) (fun p z => by cases z)) (ar 1 (8 + 2 * x + m)) ⟨fun p hp => ?_, fun r hr => ?_, fun d' hd' => ?_⟩
    · by_cases e : p = M
      · subst e
        rw [pk_us]
        refine Or.inl ⟨rfl, fun j hj z => ?_⟩
        by_cases e2 : j = p
        · subst e2
          rw [newp] at z
          cases z
        · dsimp only at z
          rw [oldp _ j (by omega)] at z
          exact nopar j (by omega) z
      · rw [pk_un e]
        refine ds_last_s (ds_last_c (hC.1 p (by omega)) (fun j hj => by rw [oldp _ j hj])) ?_
        rw [newp]
        intro z
        cases z
    · by_cases e : r = M
      · subst e
        rw [pk_us, newd, newp]
        exact ds_last_c (hC.2.2 d hd) (fun j hj => by rw [oldp _ j hj, oldd _ j hj])
      · rw [pk_un e, oldd _ r (by omega), oldp _ r (by omega)]
        exact ds_last_c (hC.2.1 r (by omega)) (fun j hj => by rw [oldp _ j (by omega), oldd _ j (by omega)])
    · by_cases e : d' = d
      · subst e
        rw [pk_us]
        exact ds_last_n ⟨newd _ _, newp _ _⟩
      · rw [pk_un e]
        refine ds_last_s (ds_last_c (hC.2.2 d' hd') (fun j hj => by rw [oldp _ j hj, oldd _ j hj])) ?_
        rw [newd]
        exact fun z => e z.1.symm
  | some p =>
    obtain ⟨p1, p2⟩ := hq p rfl
    have ip : vp_in (nI p) 80 := vp_in_nI (by omega) (by omega)
    have cp : (nI p).toNatClampNeg = p := nI_clamp (by omega)
    have np : ¬ nI p = (-1) := ds_nm (by omega)
    have e5 := (hA2 p p1).2.2.2.2
    rw [ds_o_some]
    refine br_f np ⟨ip, iM, nm_r (e' := upd a5 M (nI (ds_ge rv p + 1))) (by rw [cM, cp, e5, nI_1]) ⟨iM, nm_r (e' := upd a6 M (-1)) (by rw [cM]) (br_f np ⟨ip, iM, nm_r (e' := upd a7 M (a6 p)) (by rw [cM, cp, pk_un (by omega)]) (br_f np ⟨ip, nm_r (e' := upd (upd a6 M (-1)) p (nI M)) (by rw [cp]) (nm_r (nI_1 M) ?_)⟩)⟩)⟩⟩
    refine H (ds_ge rv p + 1) (8 * ds_ky rv p + 2 * x + m) _ _ _ _ _ _ _ _ (ds_PR_ad hR hM8 hd hx hm hq hn _ _ (fun z => by cases z) (fun p' z => by rw [Option.some.injEq] at z; subst z; exact ⟨rfl, rfl⟩)) (ar _ _) ⟨fun p' hp' => ?_, fun r hr => ?_, fun d' hd' => ?_⟩
    · by_cases e : p' = p
      · subst e
        rw [pk_us]
        exact ds_last_n (newp _ _)
      · rw [pk_un e]
        by_cases e3 : p' = M
        · subst e3
          rw [pk_us]
          refine Or.inl ⟨rfl, fun j hj z => ?_⟩
          by_cases e2 : j = p'
          · subst e2
            rw [newp, Option.some.injEq] at z
            omega
          · dsimp only at z
            rw [oldp _ j (by omega)] at z
            exact nopar j (by omega) z
        · rw [pk_un e3]
          refine ds_last_s (ds_last_c (hC.1 p' (by omega)) (fun j hj => by rw [oldp _ j hj])) ?_
          rw [newp, Option.some.injEq]
          exact fun z => e z.symm
    · by_cases e : r = M
      · subst e
        rw [pk_us, newd, newp]
        exact ds_last_c (hC.1 p p1) (fun j hj => by rw [oldp _ j hj, oldd _ j hj]; exact ds_ch_pa hR p2 hj)
      · rw [pk_un e, oldd _ r (by omega), oldp _ r (by omega)]
        exact ds_last_c (hC.2.1 r (by omega)) (fun j hj => by rw [oldp _ j (by omega), oldd _ j (by omega)])
    · refine ds_last_s (ds_last_c (hC.2.2 d' hd') (fun j hj => by rw [oldp _ j hj, oldd _ j hj])) ?_
      rw [newp]
      exact fun z => by cases z.2
end
end
section
/-! stamps -/
def ds_AT (cnt : Nat → Nat) (st cp : Nat → Nat → Nat) (a14 a15 a16 : Nat → Int32) : Prop :=
  ∀ n, n < 3 → a14 n = nI (cnt n) ∧ (∀ d, d < 8 → a15 (8 * n + d) = nI (st n d)) ∧ ∀ m, m < 3 → a16 (3 * n + m) = nI (cp n m)
def ds_PT (rv : Nat → ds_N) (kn : Nat → Nat → Bool) (cnt : Nat → Nat) (st cp : Nat → Nat → Nat) (B : Nat) : Prop :=
  ∀ n, n < 3 → cnt n ≤ B ∧ (∀ d, d < 8 → st n d ≤ cnt n ∧ (st n d = 0 → ∀ r, kn n r = true → ds_dc rv r ≠ d) ∧ (∀ e, e < 8 → st n d = st n e → st n d ≠ 0 → d = e)) ∧
    ∀ m, m < 3 → cp n m ≤ cnt n ∧ (m ≠ n → ∀ d, d < 8 → st n d ≤ cp n m → ∀ r, kn n r = true → ds_dc rv r = d → kn m r = true)
/-- all that holds of a state between two calls -/
def ds_I (M : Nat) (rv : Nat → ds_N) (kn : Nat → Nat → Bool) (lf : Nat → Nat → List Nat) (cnt : Nat → Nat) (st cp : Nat → Nat → Nat) (B : Nat) (u : St1) : Prop := match u with
  | (f0, a1, a2, a3, a4, a5, a6, a7, a8, a9, a10, a11, a12, a13, a14, a15, a16, a17, a18, a19, a20, a21, a22) => ds_PR M rv ∧ ds_AR M rv f0 a1 a2 a3 a4 a5 ∧ ds_CH M rv a6 a7 a8 ∧ ds_PS M rv kn lf ∧ ds_AK rv kn a9 a10 ∧ ds_AL lf a12 a13 ∧ ds_PT rv kn cnt st cp B ∧ ds_AT cnt st cp a14 a15 a16 ∧ ∃ vw, ds_VW (fun n d => ds_wv rv (lf n d)) vw a17 a18 a19 a20
section
variable {M : Nat} {rv : Nat → ds_N} {kn kn' : Nat → Nat → Bool} {lf : Nat → Nat → List Nat} {cnt : Nat → Nat} {st cp : Nat → Nat → Nat} {B : Nat}
theorem ds_PT_grow {n d : Nat} (hT : ds_PT rv kn cnt st cp B) (hn : n < 3) (hd : d < 8) (h1 : ∀ n' r, kn n' r = true → kn' n' r = true) (h2 : ∀ n' r, kn' n' r = true → kn n' r = true ∨ (n' = n ∧ ds_dc rv r = d)) :
    ds_PT rv kn' (ds_u1 cnt n (cnt n + 1)) (ds_u2 st n d (cnt n + 1)) cp (B + 1) := by
  intro n' hn'
  obtain ⟨t1, t2, t3⟩ := hT n' hn'
  by_cases en : n' = n
  · subst en
    rw [ds_u1s]
    refine ⟨by omega, fun d' hd' => ?_, fun m hm => ?_⟩
    · by_cases ed : d' = d
      · subst ed
        rw [ds_u2s]
        refine ⟨Nat.le_refl _, fun z => by omega, fun e he z _ => ?_⟩
        by_cases ee : e = d'
        · exact ee.symm
        · rw [ds_u2n (fun w => ee w.2)] at z
          have := (t2 e he).1
          omega
      · rw [ds_u2n (fun z => ed z.2)]
        obtain ⟨q1, q2, q3⟩ := t2 d' hd'
        refine ⟨by omega, fun z r hr => ?_, fun e he z y => ?_⟩
        · rcases h2 n' r hr with w | w
          · exact q2 z r w
          · omega
        · by_cases ee : e = d
          · subst ee
            rw [ds_u2s] at z
            omega
          · rw [ds_u2n (fun w => ee w.2)] at z
            exact q3 e he z y
    · obtain ⟨q1, q2⟩ := t3 m hm
      refine ⟨by omega, fun hmn d' hd' z r hr hdr => ?_⟩
      by_cases ed : d' = d
      · subst ed
        rw [ds_u2s] at z
        omega
      · rw [ds_u2n (fun w => ed w.2)] at z
        rcases h2 n' r hr with w | w
        · exact h1 m r (q2 hmn d' hd' z r w hdr)
        · omega
  · rw [ds_u1n en]
    have key : ∀ r, kn' n' r = true → kn n' r = true := fun r hr => by
      rcases h2 n' r hr with w | w
      · exact w
      · exact absurd w.1 en
    refine ⟨by omega, fun d' hd' => ?_, fun m hm => ?_⟩
    · rw [ds_u2n (fun z => en z.1)]
      obtain ⟨q1, q2, q3⟩ := t2 d' hd'
      refine ⟨q1, fun z r hr => q2 z r (key r hr), fun e he z y => ?_⟩
      rw [ds_u2n (fun z => en z.1)] at z
      exact q3 e he z y
    · obtain ⟨q1, q2⟩ := t3 m hm
      refine ⟨q1, fun hmn d' hd' z r hr hdr => ?_⟩
      rw [ds_u2n (fun z => en z.1)] at z
      exact h1 m r (q2 hmn d' hd' z r (key r hr) hdr)
/-! a new revision that nobody knows yet -/
theorem ds_ad_old {e : ds_N} {j : Nat} (hj : j < M) : ds_dc (ds_ad rv M e) j = ds_dc rv j ∧ ds_pa (ds_ad rv M e) j = ds_pa rv j ∧ ds_vl (ds_ad rv M e) j = ds_vl rv j ∧ ds_mk (ds_ad rv M e) j = ds_mk rv j ∧ ds_ky (ds_ad rv M e) j = ds_ky rv j := by
  unfold ds_dc ds_pa ds_vl ds_mk ds_ky
  rw [ds_ad_n (by omega)]
  exact ⟨rfl, rfl, rfl, rfl, rfl⟩
theorem ds_ad_PS (e : ds_N) (hS : ds_PS M rv kn lf) : ds_PS (M + 1) (ds_ad rv M e) kn lf := by
  intro n hn
  obtain ⟨k1, k2⟩ := hS n hn
  refine ⟨fun r hr => ?_, fun d hd => ?_⟩
  · obtain ⟨g1, g2⟩ := k1 r hr
    refine ⟨by omega, fun p hp => ?_⟩
    rw [(ds_ad_old g1).2.1] at hp
    exact g2 p hp
  · obtain ⟨g1, g2⟩ := k2 d hd
    refine ⟨List.Pairwise.imp_of_mem (fun {a b} ha hb hab => ?_) g1, fun r => ?_⟩
    · rw [(ds_ad_old (k1 a ((g2 a).mp ha).1).1).2.2.2.2, (ds_ad_old (k1 b ((g2 b).mp hb).1).1).2.2.2.2]
      exact hab
    · rw [g2]
      constructor
      · rintro ⟨z1, z2, z3⟩
        refine ⟨z1, by rw [(ds_ad_old (k1 r z1).1).1]; exact z2, fun c hc => ?_⟩
        rw [(ds_ad_old (k1 c hc).1).2.1]
        exact z3 c hc
      · rintro ⟨z1, z2, z3⟩
        refine ⟨z1, by rw [(ds_ad_old (k1 r z1).1).1] at z2; exact z2, fun c hc => ?_⟩
        have := z3 c hc
        rw [(ds_ad_old (k1 c hc).1).2.1] at this
        exact this
theorem ds_ad_AK (e : ds_N) {a9 a10 : Nat → Int32} (hS : ds_PS M rv kn lf) (hK : ds_AK rv kn a9 a10) : ds_AK (ds_ad rv M e) kn a9 a10 := by
  intro n r hn hr
  obtain ⟨h1, h2⟩ := hK n r hn hr
  refine ⟨h1, fun z => ?_⟩
  rw [h2 z]
  congr 1
  unfold ds_kc
  refine ds_cp_eq 80 (fun i hi => ?_)
  by_cases c : kn n i = true
  · rw [(ds_ad_old ((hS n hn).1 i c).1).2.1]
  · simp [c]
theorem ds_ad_PT (e : ds_N) (hS : ds_PS M rv kn lf) (hT : ds_PT rv kn cnt st cp B) : ds_PT (ds_ad rv M e) kn cnt st cp B := by
  intro n hn
  obtain ⟨t1, t2, t3⟩ := hT n hn
  refine ⟨t1, fun d hd => ?_, fun m hm => ?_⟩
  · obtain ⟨q1, q2, q3⟩ := t2 d hd
    refine ⟨q1, fun z r hr => ?_, q3⟩
    rw [(ds_ad_old ((hS n hn).1 r hr).1).1]
    exact q2 z r hr
  · obtain ⟨q1, q2⟩ := t3 m hm
    refine ⟨q1, fun hmn d hd z r hr => ?_⟩
    rw [(ds_ad_old ((hS n hn).1 r hr).1).1]
    exact q2 hmn d hd z r hr
theorem ds_wv_c {rv rv' : Nat → ds_N} {l : List Nat} (h : ∀ x, x ∈ l → ds_mk rv' x = ds_mk rv x ∧ ds_vl rv' x = ds_vl rv x) : ds_wv rv' l = ds_wv rv l := by
  induction l with
  | nil => rfl
  | cons y l ih =>
    have hy := h y List.mem_cons_self
    have hl := ih (fun x hx => h x (List.mem_cons_of_mem _ hx))
    unfold ds_wv at hl ⊢
    by_cases c : ds_mk rv y = 0
    · rw [List.find?_cons_of_pos (by simp [hy.1, c]), List.find?_cons_of_pos (by simp [c])]
      show some (ds_vl rv' y) = some (ds_vl rv y)
      rw [hy.2]
    · rw [List.find?_cons_of_neg (by simp [hy.1, c]), List.find?_cons_of_neg (by simp [c])]
      exact hl
theorem ds_VW_c {W W' : Nat → Nat → Option Nat} {vw : Nat → List Nat} {a17 a18 a19 a20 : Nat → Int32} (hV : ds_VW W vw a17 a18 a19 a20) (h : ∀ n d, n < 3 → d < 8 → W' n d = W n d) : ds_VW W' vw a17 a18 a19 a20 := by
  intro n hn
  obtain ⟨g1, g2, g3, g4, g5⟩ := hV n hn
  refine ⟨g1, g2, fun d hd => ?_, ?_, fun d => ?_⟩
  · rw [h n d hn hd]
    exact g3 d hd
  · refine List.Pairwise.imp_of_mem (fun {a b} ha hb hab => ?_) g4
    unfold ds_vk at hab ⊢
    rw [h n a hn ((g5 a).mp ha).1, h n b hn ((g5 b).mp hb).1]
    exact hab
  · rw [g5]
    constructor
    · rintro ⟨z1, z2⟩
      exact ⟨z1, by rw [h n d hn z1]; exact z2⟩
    · rintro ⟨z1, z2⟩
      exact ⟨z1, by rw [h n d hn z1] at z2; exact z2⟩
theorem ds_ad_VW (e : ds_N) {vw : Nat → List Nat} {a17 a18 a19 a20 : Nat → Int32} (hS : ds_PS M rv kn lf) (hV : ds_VW (fun n d => ds_wv rv (lf n d)) vw a17 a18 a19 a20) : ds_VW (fun n d => ds_wv (ds_ad rv M e) (lf n d)) vw a17 a18 a19 a20 :=
  ds_VW_c hV (fun n d hn hd => ds_wv_c (fun x hx => by
    have t := ds_ad_old (rv := rv) (e := e) ((hS n hn).1 x ((((hS n hn).2 d hd).2 x).mp hx).1).1
    exact ⟨t.2.2.2.1, t.2.2.1⟩))
/-- a store that knows a revision of a document has a leaf of it -/
theorem ds_PS_ne (hR : ds_PR M rv) (hS : ds_PS M rv kn lf) {n d : Nat} (hn : n < 3) (hd : d < 8) : ∀ (k r : Nat), M - r ≤ k → kn n r = true → ds_dc rv r = d → ∃ x, x ∈ lf n d := by
  obtain ⟨k1, k2⟩ := hS n hn
  intro k
  induction k with
  | zero =>
    intro r h1 h2 h3
    have := (k1 r h2).1
    omega
  | succ k ih =>
    intro r h1 h2 h3
    by_cases c : ∀ c, kn n c = true → ds_pa rv c ≠ some r
    · exact ⟨r, ((k2 d hd).2 r).mpr ⟨h2, h3, c⟩⟩
    · have c2 : ∃ x, kn n x = true ∧ ds_pa rv x = some r := by
        refine Classical.byContradiction (fun z => c (fun x hx hp => z ⟨x, hx, hp⟩))
      obtain ⟨x, hx, hp⟩ := c2
      have xM := (k1 x hx).1
      obtain ⟨p1, p2, _⟩ := (hR.2.1 x xM).2.2.2.2 r hp
      exact ih x (by omega) hx (by omega)
variable {f0 : Int32} {a1 a2 a3 a4 a5 a6 a7 a8 a9 a10 a11 a12 a13 a14 a15 a16 a17 a18 a19 a20 a21 a22 : Nat → Int32}
theorem ds_w_stamp {post : St1 → Prop} {n d : Nat} (hn : n < 3) (hd : d < 8) (hT : ds_AT cnt st cp a14 a15 a16)
    (H : ∀ b14 b15, ds_AT (ds_u1 cnt n (cnt n + 1)) (ds_u2 st n d (cnt n + 1)) cp b14 b15 a16 → post (f0, a1, a2, a3, a4, a5, a6, a7, a8, a9, a10, a11, a12, a13, b14, b15, a16, a17, a18, a19, a20, a21, a22)) : wpX_stampNow post (f0, a1, a2, a3, a4, a5, a6, a7, a8, a9, a10, a11, a12, a13, a14, a15, a16, a17, a18, a19, a20, a21, a22) (nI n) (nI d) := by
  have ia : vp_in (nI n) 3 := vp_in_nI hn (by omega)
  have ca : (nI n).toNatClampNeg = n := nI_clamp (by omega)
  have e14 := (hT n hn).1
  refine ⟨ia, ia, nm_r (e' := upd a14 n (nI (cnt n + 1))) (by rw [ca, e14, nI_1]) ⟨ia, ?_, nm_r (e' := upd a15 (8 * n + d) (nI (cnt n + 1))) (by rw [ca, pk_us, ds_i8, nI_clamp (by omega)]) ?_⟩⟩
  · rw [ds_i8]
    exact vp_in_nI (by omega) (by omega)
  · refine H _ _ (fun n' hn' => ?_)
    obtain ⟨t1, t2, t3⟩ := hT n' hn'
    refine ⟨?_, fun d' hd' => ?_, t3⟩
    · by_cases e : n' = n
      · subst e; rw [pk_us, ds_u1s]
      · rw [pk_un e, ds_u1n e, t1]
    · by_cases e : n' = n ∧ d' = d
      · obtain ⟨rfl, rfl⟩ := e
        rw [pk_us, ds_u2s]
      · rw [pk_un (by omega), ds_u2n e]
        exact t2 d' hd'
/-- the end of change: learn, stamp, renew -/
theorem ds_w_ch48 {post : Int32 → St1 → Prop} {n d r : Nat} (hI : ds_I M rv kn lf cnt st cp B (f0, a1, a2, a3, a4, a5, a6, a7, a8, a9, a10, a11, a12, a13, a14, a15, a16, a17, a18, a19, a20, a21, a22)) (hn : n < 3) (hr : r < M) (hd : ds_dc rv r = d) (hk : kn n r = false) (hp : ∀ p, ds_pa rv r = some p → kn n p = true)
    (H : ∀ lf' u, ds_I M rv (ds_u2 kn n r true) lf' (ds_u1 cnt n (cnt n + 1)) (ds_u2 st n d (cnt n + 1)) cp (B + 1) u → post (nI r) u) : wX_change_48 post (nI n) (nI d) (nI r) f0 a1 a2 a3 a4 a5 a6 a7 a8 a9 a10 a11 a12 a13 a14 a15 a16 a17 a18 a19 a20 a21 a22 := by
  obtain ⟨hR, hA, hC, hS, hK, hL, hT, hU, vw, hV⟩ := hI
  have hM := hR.1
  have hd8 : d < 8 := by rw [← hd]; exact (hR.2.1 r hr).1
  have ix : vp_in (80 * nI n + nI r) 240 := by rw [ds_i80]; exact vp_in_nI (by omega) (by omega)
  have cx : (80 * nI n + nI r).toNatClampNeg = 80 * n + r := by rw [ds_i80]; exact nI_clamp (by omega)
  refine ⟨ix, br_t ?_ ?_⟩
  · rw [cx, (hK n r hn (by omega)).1, hk]
    rfl
  · refine ds_w_learn hR hA hS hK hL hn hr hk hp (fun l b9 b10 b11 b12 b13 u v hS2 hK2 hL2 => ?_)
    rw [hd] at hS2 hL2
    refine ⟨ix, nm_e ?_⟩
    refine ds_w_stamp hn hd8 hU (fun b14 b15 hU2 => ?_)
    refine ds_w_renew (W := fun n d => ds_wv rv (lf n d)) hR hA hn hd8 hL2 (fun x hx => ?_) hV (fun vw' b17 b18 b19 b20 hV2 => ?_)
    · exact ((hS2 n hn).1 x ((((hS2 n hn).2 d hd8).2 x).mp hx).1).1
    · refine H (ds_u2 lf n d l) _ ⟨hR, hA, hC, hS2, hK2, hL2, ds_PT_grow hT hn hd8 (fun n' x hx => ?_) (fun n' x hx => ?_), hU2, vw', ds_VW_c hV2 (fun n' d' hn' hd' => ?_)⟩
      · by_cases e : n' = n ∧ x = r
        · obtain ⟨rfl, rfl⟩ := e; exact ds_u2s
        · rw [ds_u2n e]; exact hx
      · by_cases e : n' = n ∧ x = r
        · exact Or.inr ⟨e.1, by rw [e.2]; exact hd⟩
        · rw [ds_u2n e] at hx; exact Or.inl hx
      · by_cases e : n' = n ∧ d' = d
        · obtain ⟨rfl, rfl⟩ := e
          rw [ds_u2s, ds_u2s]
        · rw [ds_u2n e, ds_u2n e]
/-- change: the edit of a leaf, or of an empty document -/
theorem ds_w_change {post : Int32 → St1 → Prop} {n d x m : Nat} {q : Option Nat} (hI : ds_I M rv kn lf cnt st cp B (f0, a1, a2, a3, a4, a5, a6, a7, a8, a9, a10, a11, a12, a13, a14, a15, a16, a17, a18, a19, a20, a21, a22)) (hn : n < 3) (hd : d < 8) (hx : x < 4) (hm : m < 2) (hM8 : M < 80)
    (hq0 : q = none → lf n d = []) (hq1 : ∀ p, q = some p → p ∈ lf n d)
    (H0 : ∀ r lf' u, r < M → ds_dc rv r = d → ds_pa rv r = q → kn n r = false → ds_I M rv (ds_u2 kn n r true) lf' (ds_u1 cnt n (cnt n + 1)) (ds_u2 st n d (cnt n + 1)) cp (B + 1) u → post (nI r) u)
    (H1 : ∀ g k lf' u, ds_I (M + 1) (ds_ad rv M (d, q, x, m, g, k)) (ds_u2 kn n M true) lf' (ds_u1 cnt n (cnt n + 1)) (ds_u2 st n d (cnt n + 1)) cp (B + 1) u → post (nI M) u) :
    wpX_change post (f0, a1, a2, a3, a4, a5, a6, a7, a8, a9, a10, a11, a12, a13, a14, a15, a16, a17, a18, a19, a20, a21, a22) (nI n) (nI d) (ds_o q) (nI x) (nI m) := by
  have hI' := hI
  obtain ⟨hR, hA, hC, hS, hK, hL, hT, hU, vw, hV⟩ := hI'
  obtain ⟨k1, k2⟩ := hS n hn
  obtain ⟨g1, g2⟩ := k2 d hd
  have hM := hR.1
  have unk : ∀ r, r < M → ds_dc rv r = d → ds_pa rv r = q → kn n r = false := by
    intro r hr e1 e2
    cases hk : kn n r with
    | false => rfl
    | true =>
      exfalso
      cases q with
      | none =>
        obtain ⟨x, hx⟩ := ds_PS_ne hR hS hn hd (M - r) r (Nat.le_refl _) hk e1
        rw [hq0 rfl] at hx
        exact List.not_mem_nil hx
      | some p => exact ((g2 p).mp (hq1 p rfl)).2.2 r hk e2
  have parq : ∀ p, q = some p → kn n p = true ∧ p < M ∧ ds_dc rv p = d := by
    intro p hp
    obtain ⟨z1, z2, _⟩ := (g2 p).mp (hq1 p hp)
    exact ⟨z1, (k1 p z1).1, z2⟩
  refine ds_w_fr hR hA hC hd hx hm (fun p hp => (parq p hp).2) (fun hnone => ?_) (fun r hr e1 e2 e3 e4 => ?_)
  · refine br_t rfl (br_f ?_ (br_t rfl ?_))
    · rw [hA.1]
      exact fun z => by
        have := (nI_eq (a := M) (b := 80) (by omega) (by omega)).mp z
        omega
    · refine ds_w_mr hR hA hC hM8 hd hx hm (fun p hp => (parq p hp).2) hnone (fun g k b1 b2 b3 b4 b5 b6 b7 b8 hR2 hA2 hC2 => ?_)
      refine ds_w_ch48 (rv := ds_ad rv M (d, q, x, m, g, k)) (M := M + 1) ⟨hR2, hA2, hC2, ds_ad_PS _ hS, ds_ad_AK _ hS hK, hL, ds_ad_PT _ hS hT, hU, vw, ds_ad_VW _ hS hV⟩ hn (by omega) (by unfold ds_dc; rw [ds_ad_s]) ?_ (fun p hp => ?_) (fun lf' u hu => H1 g k lf' u hu)
      · cases hk : kn n M with
        | false => rfl
        | true => exact absurd (k1 M hk).1 (by omega)
      · have e : ds_pa (ds_ad rv M (d, q, x, m, g, k)) M = q := by unfold ds_pa; rw [ds_ad_s]
        rw [e] at hp
        exact (parq p hp).1
  · have hk := unk r hr e1 e2
    refine br_f (ds_nm (by omega)) (br_f (ds_nm (by omega)) (ds_w_ch48 hI hn hr e1 hk (fun p hp => (parq p (by rw [← e2]; exact hp)).1) (fun lf' u hu => H0 r lf' u hr e1 e2 hk hu)))
end
end
section
/-! copying -/
def ds_nx (s : Nat → Nat) (last j : Nat) (best : Option Nat) : Prop := (best = none → ∀ d, d < j → s d ≤ last) ∧ ∀ b, best = some b → b < j ∧ last < s b ∧ ∀ d, d < j → last < s d → s b ≤ s d
theorem ds_nx_skip {s : Nat → Nat} {last j : Nat} {best : Option Nat} (h : ds_nx s last j best) (c : s j ≤ last) : ds_nx s last (j + 1) best := by
  refine ⟨fun z d hd => ?_, fun b hb => ?_⟩
  · by_cases e2 : d = j
    · subst e2; exact c
    · exact h.1 z d (by omega)
  · obtain ⟨b1, b2, b3⟩ := h.2 b hb
    refine ⟨by omega, b2, fun d hd z => ?_⟩
    by_cases e2 : d = j
    · subst e2; omega
    · exact b3 d (by omega) z
theorem ds_nx_first {s : Nat → Nat} {last j : Nat} (h : ds_nx s last j none) (c : ¬ s j ≤ last) : ds_nx s last (j + 1) (some j) := by
  refine ⟨fun z => (by cases z), fun b hb => ?_⟩
  rw [Option.some.injEq] at hb
  subst hb
  refine ⟨by omega, by omega, fun d hd z => ?_⟩
  by_cases e2 : d = j
  · subst e2; omega
  · have := h.1 rfl d (by omega); omega
theorem ds_nx_keep {s : Nat → Nat} {last j b : Nat} (h : ds_nx s last j (some b)) (c : s b ≤ s j) : ds_nx s last (j + 1) (some b) := by
  obtain ⟨b1, b2, b3⟩ := h.2 b rfl
  refine ⟨fun z => (by cases z), fun b' hb => ?_⟩
  rw [Option.some.injEq] at hb
  subst hb
  refine ⟨by omega, b2, fun d hd z => ?_⟩
  by_cases e2 : d = j
  · subst e2; exact c
  · exact b3 d (by omega) z
theorem ds_nx_take {s : Nat → Nat} {last j b : Nat} (h : ds_nx s last j (some b)) (c : ¬ s b ≤ s j) (c2 : ¬ s j ≤ last) : ds_nx s last (j + 1) (some j) := by
  obtain ⟨b1, b2, b3⟩ := h.2 b rfl
  refine ⟨fun z => (by cases z), fun b' hb => ?_⟩
  rw [Option.some.injEq] at hb
  subst hb
  refine ⟨by omega, by omega, fun d hd z => ?_⟩
  by_cases e2 : d = j
  · subst e2; exact Nat.le_refl _
  · have := b3 d (by omega) z; omega
/-- what is known when store 'to' has got the revisions of document d below j from n -/
def ds_mgd (rv : Nat → ds_N) (kn : Nat → Nat → Bool) (n to d j : Nat) : Nat → Nat → Bool := fun n' r => if n' = to then (kn to r || (kn n r && decide (ds_dc rv r = d) && decide (r < j))) else kn n' r
theorem ds_b01 {b : Bool} : nI (if b = true then 1 else 0) = 0 ↔ b = false := by
  cases b
  · exact ⟨fun _ => rfl, fun _ => rfl⟩
  · exact ⟨fun z => absurd z (by decide), fun z => by cases z⟩
section
variable {M : Nat} {rv : Nat → ds_N} {kn : Nat → Nat → Bool} {lf : Nat → Nat → List Nat} {cnt : Nat → Nat} {st cp : Nat → Nat → Nat} {B : Nat}
theorem ds_mgd_o {n to d j n' r : Nat} (h : n' ≠ to) : ds_mgd rv kn n to d j n' r = kn n' r := by
  unfold ds_mgd
  rw [if_neg h]
theorem ds_mgd_t {n to d j r : Nat} : ds_mgd rv kn n to d j to r = true ↔ kn to r = true ∨ (kn n r = true ∧ ds_dc rv r = d ∧ r < j) := by
  unfold ds_mgd
  rw [if_pos rfl]
  simp only [Bool.or_eq_true, Bool.and_eq_true, decide_eq_true_eq, and_assoc]
theorem ds_bext {a b : Bool} (h : a = true ↔ b = true) : a = b := by
  cases a <;> cases b <;> simp_all
theorem ds_mgd_0 {n to d : Nat} : ds_mgd rv kn n to d 0 = kn := by
  funext n' r
  by_cases e : n' = to
  · subst e
    refine ds_bext ?_
    rw [ds_mgd_t]
    exact ⟨fun z => z.elim id (fun y => by omega), Or.inl⟩
  · exact ds_mgd_o e
theorem ds_mgd_s {n to d j : Nat} (h : (kn n j = true → ds_dc rv j = d → kn to j = true)) : ds_mgd rv kn n to d (j + 1) = ds_mgd rv kn n to d j := by
  funext n' r
  by_cases e : n' = to
  · subst e
    refine ds_bext ?_
    rw [ds_mgd_t, ds_mgd_t]
    constructor
    · rintro (z | ⟨z1, z2, z3⟩)
      · exact Or.inl z
      · by_cases e2 : r = j
        · subst e2
          exact Or.inl (h z1 z2)
        · exact Or.inr ⟨z1, z2, by omega⟩
    · rintro (z | ⟨z1, z2, z3⟩)
      · exact Or.inl z
      · exact Or.inr ⟨z1, z2, by omega⟩
  · rw [ds_mgd_o e, ds_mgd_o e]
theorem ds_mgd_l {n to d j : Nat} (h1 : kn n j = true) (h2 : ds_dc rv j = d) : ds_u2 (ds_mgd rv kn n to d j) to j true = ds_mgd rv kn n to d (j + 1) := by
  funext n' r
  by_cases e : n' = to
  · subst e
    refine ds_bext ?_
    rw [ds_mgd_t]
    by_cases e2 : r = j
    · subst e2
      rw [ds_u2s]
      exact ⟨fun _ => Or.inr ⟨h1, h2, by omega⟩, fun _ => rfl⟩
    · rw [ds_u2n (fun z => e2 z.2), ds_mgd_t]
      constructor
      · rintro (z | ⟨z1, z2, z3⟩)
        · exact Or.inl z
        · exact Or.inr ⟨z1, z2, by omega⟩
      · rintro (z | ⟨z1, z2, z3⟩)
        · exact Or.inl z
        · exact Or.inr ⟨z1, z2, by omega⟩
  · rw [ds_u2n (fun z => e z.1), ds_mgd_o e, ds_mgd_o e]
variable {f0 : Int32} {a1 a2 a3 a4 a5 a6 a7 a8 a9 a10 a11 a12 a13 a14 a15 a16 a17 a18 a19 a20 a21 a22 : Nat → Int32}
theorem ds_w_nx5 {post : Int32 → Prop} {n last : Nat} {s : Nat → Nat} (hn : n < 3) (h15 : ∀ d, d < 8 → a15 (8 * n + d) = nI (s d)) (hs : ∀ d, d < 8 → s d < 2 ^ 31) (hl : last < 2 ^ 31)
    (H : ∀ best, ds_nx s last 8 best → post (ds_o best)) : ∀ (i j : Nat) (best : Option Nat), j + i = 8 → ds_nx s last j best → ∃ fu, wX_nextChanged_5 post (nI n) (nI last) f0 a1 a2 a3 a4 a5 a6 a7 a8 a9 a10 a11 a12 a13 a14 a15 a16 a17 a18 a19 a20 a21 a22 fu (ds_o best) (nI j) := by
  intro i
  induction i with
  | zero =>
    intro j best e h
    have e2 : j = 8 := by omega
    subst e2
    exact ⟨1, br_t (nI_le (a := 8) (Nat.le_refl _) (by omega)) (H best h)⟩
  | succ i ih =>
    intro j best e h
    have ij : vp_in (8 * nI n + nI j) 24 := by rw [ds_i8]; exact vp_in_nI (by omega) (by omega)
    have ej : a15 (8 * nI n + nI j).toNatClampNeg = nI (s j) := by rw [ds_i8, nI_clamp (by omega)]; exact h15 j (by omega)
    have go : ¬ (8 : Int32) ≤ nI j := nI_ge (b := 8) (by omega) (by omega)
    have sj := hs j (by omega)
    by_cases c : s j ≤ last
    · obtain ⟨fu, hf⟩ := ih (j + 1) best (by omega) (ds_nx_skip h c)
      exact ⟨fu + 1, br_f go ⟨ij, nm_r ej (br_t (nI_le c hl) (nm_r (nI_1 j) hf))⟩⟩
    · cases best with
      | none =>
        obtain ⟨fu, hf⟩ := ih (j + 1) (some j) (by omega) (ds_nx_first h c)
        exact ⟨fu + 1, br_f go ⟨ij, nm_r ej (br_f (nI_ge (by omega) sj) (br_t rfl (nm_r (nI_1 j) hf)))⟩⟩
      | some b =>
        obtain ⟨b1, b2, b3⟩ := h.2 b rfl
        have ib : vp_in (8 * nI n + nI b) 24 := by rw [ds_i8]; exact vp_in_nI (by omega) (by omega)
        have eb : a15 (8 * nI n + nI b).toNatClampNeg = nI (s b) := by rw [ds_i8, nI_clamp (by omega)]; exact h15 b (by omega)
        have sb := hs b (by omega)
        by_cases c2 : s b ≤ s j
        · obtain ⟨fu, hf⟩ := ih (j + 1) (some b) (by omega) (ds_nx_keep h c2)
          exact ⟨fu + 1, br_f go ⟨ij, nm_r ej (br_f (nI_ge (by omega) sj) (br_f (show ¬ nI b = -1 from ds_nm (by omega)) ⟨ib, br_t (by rw [ds_o_some, eb]; exact nI_le c2 sj) (nm_r (nI_1 j) hf)⟩))⟩⟩
        · obtain ⟨fu, hf⟩ := ih (j + 1) (some j) (by omega) (ds_nx_take h c2 c)
          exact ⟨fu + 1, br_f go ⟨ij, nm_r ej (br_f (nI_ge (by omega) sj) (br_f (show ¬ nI b = -1 from ds_nm (by omega)) ⟨ib, br_f (by rw [ds_o_some, eb]; exact nI_ge (by omega) sb) (nm_r (nI_1 j) hf)⟩))⟩⟩
theorem ds_w_nx {post : Int32 → Prop} {n last : Nat} {s : Nat → Nat} (hn : n < 3) (h15 : ∀ d, d < 8 → a15 (8 * n + d) = nI (s d)) (hs : ∀ d, d < 8 → s d < 2 ^ 31) (hl : last < 2 ^ 31)
    (H : ∀ best, ds_nx s last 8 best → post (ds_o best)) : wpX_nextChanged post (f0, a1, a2, a3, a4, a5, a6, a7, a8, a9, a10, a11, a12, a13, a14, a15, a16, a17, a18, a19, a20, a21, a22) (nI n) (nI last) :=
  ds_w_nx5 hn h15 hs hl H 8 0 none (by omega) ⟨fun _ d hd => by omega, fun b z => by cases z⟩
theorem ds_w_cb16 {post : St1 → Prop} {n to d : Nat} {l : List Nat} (hn : n < 3) (ht : to < 3) (hd : d < 8) (hl : l.length ≤ 80) (hs : ds_seg a13 (640 * n + 80 * d) l) (hm : ∀ x, x ∈ l → x < 80)
    (H : ∀ b, post (f0, a1, a2, a3, a4, a5, a6, a7, a8, a9, a10, b, a12, a13, a14, a15, a16, a17, a18, a19, a20, a21, a22)) : ∀ (s p : List Nat) (fu : Nat) (b : Nat → Int32), l = p ++ s → s.length + 1 ≤ fu → wX_copyBodies_16 post (nI n) (nI to) (nI d) (nI l.length) f0 fu (nI p.length) a1 a2 a3 a4 a5 a6 a7 a8 a9 a10 b a12 a13 a14 a15 a16 a17 a18 a19 a20 a21 a22 := by
  intro s
  induction s with
  | nil =>
    intro p fu b e hfu
    obtain ⟨fu', rfl⟩ : ∃ f, fu = f + 1 := ⟨fu - 1, by omega⟩
    rw [List.append_nil] at e
    subst e
    exact br_t (nI_le (Nat.le_refl _) (by omega)) (H b)
  | cons y s ih =>
    intro p fu b e hfu
    rw [List.length_cons] at hfu
    obtain ⟨fu', rfl⟩ : ∃ f, fu = f + 1 := ⟨fu - 1, by omega⟩
    have len : l.length = p.length + s.length + 1 := by rw [e, List.length_append, List.length_cons]; omega
    have hy : y < 80 := hm y (by rw [e]; exact List.mem_append_right _ List.mem_cons_self)
    have ry : a13 (640 * n + 80 * d + p.length) = nI y := hs _ _ (by rw [e, List.getElem?_append_right (Nat.le_refl _), Nat.sub_self, List.getElem?_cons_zero])
    have i1 : vp_in (80 * nI n + nI y) 240 := by rw [ds_i80]; exact vp_in_nI (by omega) (by omega)
    have i2 : vp_in (80 * nI to + nI y) 240 := by rw [ds_i80]; exact vp_in_nI (by omega) (by omega)
    have go : ∀ b', wX_copyBodies_16 post (nI n) (nI to) (nI d) (nI l.length) f0 fu' (nI (p.length + 1)) a1 a2 a3 a4 a5 a6 a7 a8 a9 a10 b' a12 a13 a14 a15 a16 a17 a18 a19 a20 a21 a22 := fun b' => by
      have t := ih (p ++ [y]) fu' b' (by rw [e]; simp) (by omega)
      rw [List.length_append, List.length_singleton] at t
      exact t
    refine br_f (nI_ge (by omega) (by omega)) (ds_w_leafAt hn hd (by omega) ?_)
    rw [ry]
    refine ⟨i1, nm_e ⟨i2, br_c (fun _ => br_c (fun _ => ⟨i2, nm_e (nm_r (nI_1 _) (go _))⟩) (fun _ => ⟨i2, nm_e (nm_r (nI_1 _) (go _))⟩)) (fun _ => ⟨i2, nm_e (nm_r (nI_1 _) (go _))⟩)⟩⟩
theorem ds_w_cb {post : St1 → Prop} {n to d : Nat} (hn : n < 3) (ht : to < 3) (hd : d < 8) (hL : ds_AL lf a12 a13) (hm : ∀ x, x ∈ lf n d → x < 80)
    (H : ∀ b, post (f0, a1, a2, a3, a4, a5, a6, a7, a8, a9, a10, b, a12, a13, a14, a15, a16, a17, a18, a19, a20, a21, a22)) : wpX_copyBodies post (f0, a1, a2, a3, a4, a5, a6, a7, a8, a9, a10, a11, a12, a13, a14, a15, a16, a17, a18, a19, a20, a21, a22) (nI n) (nI to) (nI d) := by
  obtain ⟨l1, l2, l3⟩ := hL n d hn hd
  refine ⟨by rw [ds_i8]; exact vp_in_nI (by omega) (by omega), nm_r (e' := nI (lf n d).length) (by rw [ds_i8, nI_clamp (by omega), l2]) ⟨(lf n d).length + 1, ?_⟩⟩
  exact ds_w_cb16 hn ht hd l1 l3 hm H (lf n d) [] _ a11 rfl (Nat.le_refl _)
end
section
variable {M : Nat} {rv : Nat → ds_N} {kn : Nat → Nat → Bool} {lf : Nat → Nat → List Nat} {cnt : Nat → Nat} {st cp : Nat → Nat → Nat} {B : Nat} {f0 : Int32} {a1 a2 a3 a4 a5 a6 a7 a8 a9 a10 a11 a12 a13 a14 a15 a16 a17 a18 a19 a20 a21 a22 : Nat → Int32}
theorem ds_w_cd6 {post : Int32 → St1 → Prop} {n to d : Nat} {vw : Nat → List Nat} (hn : n < 3) (ht : to < 3) (hnt : n ≠ to) (hd : d < 8)
    (hR : ds_PR M rv) (hA : ds_AR M rv f0 a1 a2 a3 a4 a5) (hC : ds_CH M rv a6 a7 a8) (hS : ds_PS M rv kn lf) (hT : ds_PT rv kn cnt st cp B) (hU : ds_AT cnt st cp a14 a15 a16) (hV : ds_VW (fun n d => ds_wv rv (lf n d)) vw a17 a18 a19 a20)
    (H0 : ∀ u, ds_I M rv kn lf cnt st cp B u → (∀ r, kn n r = true → ds_dc rv r = d → kn to r = true) → post 0 u)
    (H1 : ∀ lf' u, ds_I M rv (ds_mgd rv kn n to d M) lf' (ds_u1 cnt to (cnt to + 1)) (ds_u2 st to d (cnt to + 1)) cp (B + 1) u → post 1 u) :
    ∀ (i j fu : Nat) (x : Int32) (l1 : Nat → Nat → List Nat) (b9 b10 b11 b12 b13 b21 b22 : Nat → Int32), j + i = M → i + 1 ≤ fu → ds_PS M rv (ds_mgd rv kn n to d j) l1 → ds_AK rv (ds_mgd rv kn n to d j) b9 b10 → ds_AL l1 b12 b13 →
      (∀ n' d', ¬ (n' = to ∧ d' = d) → l1 n' d' = lf n' d') → (x = 0 ∧ l1 = lf ∧ ds_mgd rv kn n to d j = kn ∨ x = 1) →
      wX_copyDocument_6 post (nI n) (nI to) (nI d) fu x (nI j) f0 a1 a2 a3 a4 a5 a6 a7 a8 b9 b10 b11 b12 b13 a14 a15 a16 a17 a18 a19 a20 b21 b22 := by
  have hM := hR.1
  have hf := hA.1
  intro i
  induction i with
  | zero =>
    intro j fu x l1 b9 b10 b11 b12 b13 b21 b22 e hfu hS1 hK1 hL1 hl hx
    have e2 : j = M := by omega
    subst e2
    obtain ⟨fu', rfl⟩ : ∃ f, fu = f + 1 := ⟨fu - 1, by omega⟩
    refine br_t (by rw [hf]; exact nI_le (Nat.le_refl _) (by omega)) ?_
    rcases hx with ⟨rfl, rfl, hk⟩ | rfl
    · refine br_t rfl ⟨rfl, H0 _ ?_ (fun r h1 h2 => ?_)⟩
      · rw [hk] at hS1 hK1
        exact ⟨hR, hA, hC, hS1, hK1, hL1, hT, hU, vw, hV⟩
      · have t : ds_mgd rv kn n to d j to r = true := ds_mgd_t.mpr (Or.inr ⟨h1, h2, ((hS n hn).1 r h1).1⟩)
        rw [hk] at t
        exact t
    · refine br_f (by decide) ?_
      refine ds_w_cb hn ht hd hL1 (fun x hx => by have := ((hS1 n hn).1 x ((((hS1 n hn).2 d hd).2 x).mp hx).1).1; omega) (fun c11 => ?_)
      refine ds_w_stamp ht hd hU (fun b14 b15 hU2 => ?_)
      refine ds_w_renew (W := fun n d => ds_wv rv (lf n d)) hR hA ht hd hL1 (fun x hx => ((hS1 to ht).1 x ((((hS1 to ht).2 d hd).2 x).mp hx).1).1) hV (fun vw' b17 b18 b19 b20 hV2 => ?_)
      refine ⟨rfl, H1 l1 _ ⟨hR, hA, hC, hS1, hK1, hL1, ds_PT_grow hT ht hd (fun n' r hr => ?_) (fun n' r hr => ?_), hU2, vw', ds_VW_c hV2 (fun n' d' hn' hd' => ?_)⟩⟩
      · by_cases en : n' = to
        · subst en
          exact ds_mgd_t.mpr (Or.inl hr)
        · rw [ds_mgd_o en]; exact hr
      · by_cases en : n' = to
        · subst en
          rcases ds_mgd_t.mp hr with z | z
          · exact Or.inl z
          · exact Or.inr ⟨rfl, z.2.1⟩
        · rw [ds_mgd_o en] at hr
          exact Or.inl hr
      · by_cases en : n' = to ∧ d' = d
        · obtain ⟨rfl, rfl⟩ := en
          rw [ds_u2s]
        · rw [ds_u2n en, hl n' d' en]
  | succ i ih =>
    intro j fu x l1 b9 b10 b11 b12 b13 b21 b22 e hfu hS1 hK1 hL1 hl hx
    obtain ⟨fu', rfl⟩ : ∃ f, fu = f + 1 := ⟨fu - 1, by omega⟩
    have jM : j < M := by omega
    have ij : vp_in (nI j) 80 := vp_in_nI (by omega) (by omega)
    have cj : (nI j).toNatClampNeg = j := nI_clamp (by omega)
    have e1 := (hA.2 j jM).1
    have d8 := (hR.2.1 j jM).1
    have skip : (kn n j = true → ds_dc rv j = d → kn to j = true) → wX_copyDocument_6 post (nI n) (nI to) (nI d) fu' x (nI (j + 1)) f0 a1 a2 a3 a4 a5 a6 a7 a8 b9 b10 b11 b12 b13 a14 a15 a16 a17 a18 a19 a20 b21 b22 := by
      intro h
      have t := ds_mgd_s (rv := rv) (kn := kn) (n := n) (to := to) (d := d) (j := j) h
      exact ih (j + 1) fu' x l1 b9 b10 b11 b12 b13 b21 b22 (by omega) (by omega) (by rw [t]; exact hS1) (by rw [t]; exact hK1) hL1 hl (by rw [t]; exact hx)
    refine br_f (by rw [hf]; exact nI_ge (by omega) (by omega)) ⟨ij, ?_⟩
    rw [cj, e1]
    refine pk_eq (ds_dc rv j) d (fun ed => ?_) (fun ed => nm_r (nI_1 j) (skip (fun _ z => absurd z ed)))
    have in1 : vp_in (80 * nI n + nI j) 240 := by rw [ds_i80]; exact vp_in_nI (by omega) (by omega)
    have in2 : vp_in (80 * nI to + nI j) 240 := by rw [ds_i80]; exact vp_in_nI (by omega) (by omega)
    have c1 : (80 * nI n + nI j).toNatClampNeg = 80 * n + j := by rw [ds_i80]; exact nI_clamp (by omega)
    have c2 : (80 * nI to + nI j).toNatClampNeg = 80 * to + j := by rw [ds_i80]; exact nI_clamp (by omega)
    have v1 := (hK1 n j hn (by omega)).1
    have v2 := (hK1 to j ht (by omega)).1
    rw [ds_mgd_o hnt] at v1
    refine ⟨in1, ?_⟩
    rw [c1, v1]
    refine br_c (fun z => nm_r (nI_1 j) (skip (fun w _ => by rw [ds_b01.mp z] at w; cases w))) (fun z => ⟨in2, ?_⟩)
    have kj : kn n j = true := by
      cases hk : kn n j with
      | true => rfl
      | false => exact absurd (ds_b01.mpr hk) z
    rw [c2, v2]
    refine br_c (fun w => ?_) (fun w => nm_r (nI_1 j) (skip (fun _ _ => ?_)))
    · refine ds_w_learn hR hA hS1 hK1 hL1 ht jM (ds_b01.mp w) (fun p hp => ?_) (fun l c9 c10 c11 c12 c13 u v hS2 hK2 hL2 => ?_)
      · obtain ⟨p1, p2, _⟩ := (hR.2.1 j jM).2.2.2.2 p hp
        exact ds_mgd_t.mpr (Or.inr ⟨((hS n hn).1 j kj).2 p hp, by omega, p1⟩)
      · rw [ds_mgd_l kj ed] at hS2 hK2
        rw [ed] at hS2 hL2
        refine nm_r (nI_1 j) (ih (j + 1) fu' 1 _ c9 c10 c11 c12 c13 u v (by omega) (by omega) hS2 hK2 hL2 (fun n' d' h => ?_) (Or.inr rfl))
        rw [ds_u2n h]
        exact hl n' d' h
    · have t : ds_mgd rv kn n to d j to j = true := by
        cases hk : ds_mgd rv kn n to d j to j with
        | true => rfl
        | false => exact absurd (ds_b01.mpr hk) w
      rcases ds_mgd_t.mp t with y | y
      · exact y
      · omega
theorem ds_w_cd {post : Int32 → St1 → Prop} {n to d : Nat} (hI : ds_I M rv kn lf cnt st cp B (f0, a1, a2, a3, a4, a5, a6, a7, a8, a9, a10, a11, a12, a13, a14, a15, a16, a17, a18, a19, a20, a21, a22)) (hn : n < 3) (ht : to < 3) (hnt : n ≠ to) (hd : d < 8)
    (H0 : ∀ u, ds_I M rv kn lf cnt st cp B u → (∀ r, kn n r = true → ds_dc rv r = d → kn to r = true) → post 0 u)
    (H1 : ∀ lf' u, ds_I M rv (ds_mgd rv kn n to d M) lf' (ds_u1 cnt to (cnt to + 1)) (ds_u2 st to d (cnt to + 1)) cp (B + 1) u → post 1 u) : wpX_copyDocument post (f0, a1, a2, a3, a4, a5, a6, a7, a8, a9, a10, a11, a12, a13, a14, a15, a16, a17, a18, a19, a20, a21, a22) (nI n) (nI to) (nI d) := by
  obtain ⟨hR, hA, hC, hS, hK, hL, hT, hU, vw, hV⟩ := hI
  refine ⟨M + 1, ds_w_cd6 hn ht hnt hd hR hA hC hS hT hU hV H0 H1 M 0 (M + 1) 0 lf a9 a10 a11 a12 a13 a21 a22 (by omega) (Nat.le_refl _) ?_ ?_ hL (fun n' d' _ => rfl) (Or.inl ⟨rfl, rfl, ds_mgd_0⟩)⟩
  · rw [ds_mgd_0]; exact hS
  · rw [ds_mgd_0]; exact hK
end
end
section
def ds_mg (kn : Nat → Nat → Bool) (n to : Nat) : Nat → Nat → Bool := fun n' r => if n' = to then (kn to r || kn n r) else kn n' r
theorem ds_cp_lt {p q : Nat → Bool} {b N : Nat} (hb : b < N) (h1 : p b = false) (h2 : q b = true) (h3 : ∀ i, p i = true → q i = true) : (List.range N).countP p + 1 ≤ (List.range N).countP q := by
  have e : (List.range N).countP (fun i => p i || decide (i = b)) = (List.range N).countP p + 1 := by
    refine ds_cp_up (j := b) N hb h1 (by simp) (fun i hi => ?_)
    simp [hi]
  rw [← e]
  refine List.countP_mono_left (fun x _ hx => ?_)
  simp only [Bool.or_eq_true, decide_eq_true_eq] at hx
  rcases hx with z | z
  · exact h3 x z
  · rw [z]; exact h2
section
variable {M : Nat} {rv : Nat → ds_N} {kn : Nat → Nat → Bool} {lf : Nat → Nat → List Nat} {cnt : Nat → Nat} {st cp : Nat → Nat → Nat} {B : Nat}
theorem ds_mg_o {n to n' r : Nat} (h : n' ≠ to) : ds_mg kn n to n' r = kn n' r := by
  unfold ds_mg
  rw [if_neg h]
theorem ds_mg_t {n to r : Nat} : ds_mg kn n to to r = true ↔ kn to r = true ∨ kn n r = true := by
  unfold ds_mg
  rw [if_pos rfl]
  simp only [Bool.or_eq_true]
theorem ds_mg_eq {n to : Nat} {kn1 : Nat → Nat → Bool} (h1 : ∀ n' r, n' ≠ to → kn1 n' r = kn n' r) (h2 : ∀ r, kn to r = true → kn1 to r = true) (h3 : ∀ r, kn1 to r = true → kn to r = true ∨ kn n r = true) (h4 : ∀ r, kn n r = true → kn1 to r = true) : kn1 = ds_mg kn n to := by
  funext n' r
  by_cases e : n' = to
  · subst e
    refine ds_bext ?_
    rw [ds_mg_t]
    exact ⟨h3 r, fun z => z.elim (h2 r) (h4 r)⟩
  · rw [ds_mg_o e, h1 n' r e]
/-- the count of 'copied' is set -/
theorem ds_PT_cp {n to B' : Nat} (hT : ds_PT rv kn cnt st cp B) (hn : n < 3) (hB : B ≤ B') (h : ∀ r, kn n r = true → kn to r = true) : ds_PT rv kn cnt st (ds_u2 cp n to (cnt n)) B' := by
  intro n' hn'
  obtain ⟨t1, t2, t3⟩ := hT n' hn'
  refine ⟨by omega, t2, fun m hm => ?_⟩
  by_cases e : n' = n ∧ m = to
  · obtain ⟨rfl, rfl⟩ := e
    rw [ds_u2s]
    exact ⟨Nat.le_refl _, fun _ d _ _ r hr _ => h r hr⟩
  · rw [ds_u2n e]
    exact t3 m hm
/-- what holds in copy's loop -/
def ds_CL (M : Nat) (rv : Nat → ds_N) (kn : Nat → Nat → Bool) (cnt : Nat → Nat) (st cp : Nat → Nat → Nat) (B n to : Nat) (kn1 : Nat → Nat → Bool) (cnt1 : Nat → Nat) (st1 : Nat → Nat → Nat) (B1 last i : Nat) : Prop :=
  (∀ n' r, n' ≠ to → kn1 n' r = kn n' r) ∧ (∀ r, kn to r = true → kn1 to r = true) ∧ (∀ r, kn1 to r = true → kn to r = true ∨ kn n r = true) ∧
  (∀ d, d < 8 → st1 n d = st n d) ∧ cnt1 n = cnt n ∧ (∀ n', cnt n' ≤ cnt1 n') ∧ (∀ d, d < 8 → st n d ≤ last → ∀ r, kn n r = true → ds_dc rv r = d → kn1 to r = true) ∧
  i + (List.range 8).countP (fun d => decide (last < st n d)) ≤ 8 ∧ B1 ≤ B + i
theorem ds_CL_0 {n to last i b B1 : Nat} {kn1 : Nat → Nat → Bool} {cnt1 : Nat → Nat} {st1 : Nat → Nat → Nat} (hI : ds_PT rv kn1 cnt1 st1 cp B1) (hn : n < 3) (hC : ds_CL M rv kn cnt st cp B n to kn1 cnt1 st1 B1 last i) (hx : ds_nx (st n) last 8 (some b))
    {kn2 : Nat → Nat → Bool} {cnt2 : Nat → Nat} {st2 : Nat → Nat → Nat} {B2 : Nat}
    (h1 : ∀ n' r, n' ≠ to → kn2 n' r = kn1 n' r) (h2 : ∀ r, kn1 to r = true → kn2 to r = true) (h3 : ∀ r, kn2 to r = true → kn1 to r = true ∨ kn n r = true) (h4 : ∀ d, d < 8 → st2 n d = st1 n d) (h5 : cnt2 n = cnt1 n) (h6 : ∀ n', cnt1 n' ≤ cnt2 n') (h7 : ∀ r, kn n r = true → ds_dc rv r = b → kn2 to r = true) (h8 : B2 ≤ B1 + 1) :
    ds_CL M rv kn cnt st cp B n to kn2 cnt2 st2 B2 (st n b) (i + 1) := by
  obtain ⟨c1, c2, c3, c4, c5, c6, c7, c8, c9⟩ := hC
  obtain ⟨b1, b2, b3⟩ := hx.2 b rfl
  refine ⟨fun n' r h => by rw [h1 n' r h, c1 n' r h], fun r hr => h2 r (c2 r hr), fun r hr => ?_, fun d hd => by rw [h4 d hd, c4 d hd], by rw [h5, c5], fun n' => Nat.le_trans (c6 n') (h6 n'), fun d hd hs r hr hdr => ?_, ?_, by omega⟩
  · rcases h3 r hr with z | z
    · exact c3 r z
    · exact Or.inr z
  · by_cases e : st n d ≤ last
    · exact h2 r (c7 d hd e r hr hdr)
    · have e2 := b3 d hd (by omega)
      have e3 : st n d = st n b := by omega
      have e4 := ((hI n hn).2.1 d hd).2.2 b b1 (by rw [c4 d hd, c4 b b1]; exact e3) (by rw [c4 d hd]; omega)
      subst e4
      exact h7 r hr hdr
  · have t := ds_cp_lt (p := fun d => decide (st n b < st n d)) (q := fun d => decide (last < st n d)) (N := 8) b1 (by simp) (by simpa using b2) (fun i hi => by
      simp only [decide_eq_true_eq] at hi ⊢
      omega)
    omega
theorem ds_w_copy50 {post : Int32 → St1 → Prop} {n to : Nat} (hn : n < 3) (ht : to < 3) (hnt : n ≠ to) (hB : B < 2 ^ 30)
    (H : ∀ k lf' cnt' st' u, ds_I M rv (ds_mg kn n to) lf' cnt' st' (ds_u2 cp n to (cnt' n)) (B + 8) u → k ≤ 8 → ((∀ d, d < 8 → st n d ≤ cp n to) → k = 0) → (∀ n', cnt n' ≤ cnt' n') → post (nI k) u) :
    ∀ (f i fu k last : Nat) (best : Option Nat) (kn1 : Nat → Nat → Bool) (lf1 : Nat → Nat → List Nat) (cnt1 : Nat → Nat) (st1 : Nat → Nat → Nat) (B1 : Nat) (f0 : Int32) (a1 a2 a3 a4 a5 a6 a7 a8 a9 a10 a11 a12 a13 a14 a15 a16 a17 a18 a19 a20 a21 a22 : Nat → Int32), i + f = 8 → f + 1 ≤ fu → k ≤ i → ds_I M rv kn1 lf1 cnt1 st1 cp B1 (f0, a1, a2, a3, a4, a5, a6, a7, a8, a9, a10, a11, a12, a13, a14, a15, a16, a17, a18, a19, a20, a21, a22) → ds_CL M rv kn cnt st cp B n to kn1 cnt1 st1 B1 last i →
      ds_nx (st n) last 8 best → ((∀ d, d < 8 → st n d ≤ cp n to) → k = 0 ∧ best = none) → wX_copy_50 post (nI n) (nI to) fu (nI k) (ds_o best) (nI i) f0 a1 a2 a3 a4 a5 a6 a7 a8 a9 a10 a11 a12 a13 a14 a15 a16 a17 a18 a19 a20 a21 a22 := by
  have fin : ∀ (i k last : Nat) (kn1 : Nat → Nat → Bool) (lf1 : Nat → Nat → List Nat) (cnt1 : Nat → Nat) (st1 : Nat → Nat → Nat) (B1 : Nat) (f0 : Int32) (a1 a2 a3 a4 a5 a6 a7 a8 a9 a10 a11 a12 a13 a14 a15 a16 a17 a18 a19 a20 a21 a22 : Nat → Int32), i ≤ 8 → k ≤ i → ds_I M rv kn1 lf1 cnt1 st1 cp B1 (f0, a1, a2, a3, a4, a5, a6, a7, a8, a9, a10, a11, a12, a13, a14, a15, a16, a17, a18, a19, a20, a21, a22) → ds_CL M rv kn cnt st cp B n to kn1 cnt1 st1 B1 last i →
      (∀ d, d < 8 → st n d ≤ last) → ((∀ d, d < 8 → st n d ≤ cp n to) → k = 0) → wX_copy_115 post (nI n) (nI to) (nI k) f0 a1 a2 a3 a4 a5 a6 a7 a8 a9 a10 a11 a12 a13 a14 a15 a16 a17 a18 a19 a20 a21 a22 := by
    intro i k last kn1 lf1 cnt1 st1 B1 f0 a1 a2 a3 a4 a5 a6 a7 a8 a9 a10 a11 a12 a13 a14 a15 a16 a17 a18 a19 a20 a21 a22 hi hk hI hC hl hz
    obtain ⟨hR, hA, hCh, hS, hK, hL, hT, hU, vw, hV⟩ := hI
    obtain ⟨c1, c2, c3, c4, c5, c6, c7, c8, c9⟩ := hC
    have all : ∀ r, kn n r = true → kn1 to r = true := fun r hr => by
      have rM : r < M := ((hS n hn).1 r (by rw [c1 n r hnt]; exact hr)).1
      exact c7 _ (hR.2.1 r rM).1 (hl _ (hR.2.1 r rM).1) r hr rfl
    have ek := ds_mg_eq c1 c2 c3 all
    refine ⟨vp_in_nI hn (by omega), by rw [ds_i3]; exact vp_in_nI (by omega) (by omega), nm_r (e' := upd a16 (3 * n + to) (nI (cnt1 n))) (by rw [ds_i3, nI_clamp (by omega), nI_clamp (by omega), (hU n hn).1]) ?_⟩
    refine H k lf1 cnt1 st1 _ ⟨hR, hA, hCh, by rw [← ek]; exact hS, by rw [← ek]; exact hK, hL, by rw [← ek]; exact ds_PT_cp hT hn (by omega) (fun r hr => by rw [c1 n r hnt] at hr; exact all r hr), fun n' hn' => ?_, vw, hV⟩ (by omega) hz c6
    obtain ⟨t1, t2, t3⟩ := hU n' hn'
    refine ⟨t1, t2, fun m hm => ?_⟩
    by_cases e : n' = n ∧ m = to
    · obtain ⟨rfl, rfl⟩ := e
      rw [ds_u2s, pk_us]
    · rw [ds_u2n e, pk_un (by omega)]
      exact t3 m hm
  intro f
  induction f with
  | zero =>
    intro i fu k last best kn1 lf1 cnt1 st1 B1 f0 a1 a2 a3 a4 a5 a6 a7 a8 a9 a10 a11 a12 a13 a14 a15 a16 a17 a18 a19 a20 a21 a22 hi hfu hk hI hC hx hz
    obtain ⟨fu', rfl⟩ : ∃ f, fu = f + 1 := ⟨fu - 1, by omega⟩
    have e : i = 8 := by omega
    subst e
    refine br_t (nI_le (a := 8) (Nat.le_refl _) (by omega)) (fin 8 k last kn1 lf1 cnt1 st1 B1 f0 a1 a2 a3 a4 a5 a6 a7 a8 a9 a10 a11 a12 a13 a14 a15 a16 a17 a18 a19 a20 a21 a22 (Nat.le_refl _) hk hI hC (fun d hd => ?_) (fun z => (hz z).1))
    have c0 : (List.range 8).countP (fun d => decide (last < st n d)) = 0 := by
      have := hC.2.2.2.2.2.2.2.1
      omega
    have := ds_cp_0.mp c0 d hd
    simp only [decide_eq_false_iff_not] at this
    omega
  | succ f ih =>
    intro i fu k last best kn1 lf1 cnt1 st1 B1 f0 a1 a2 a3 a4 a5 a6 a7 a8 a9 a10 a11 a12 a13 a14 a15 a16 a17 a18 a19 a20 a21 a22 hi hfu hk hI hC hx hz
    obtain ⟨fu', rfl⟩ : ∃ f, fu = f + 1 := ⟨fu - 1, by omega⟩
    refine br_f (nI_ge (b := 8) (by omega) (by omega)) ?_
    cases best with
    | none => exact br_t rfl (fin i k last kn1 lf1 cnt1 st1 B1 f0 a1 a2 a3 a4 a5 a6 a7 a8 a9 a10 a11 a12 a13 a14 a15 a16 a17 a18 a19 a20 a21 a22 (by omega) hk hI hC (hx.1 rfl) (fun z => (hz z).1))
    | some b =>
      obtain ⟨b1, b2, b3⟩ := hx.2 b rfl
      rw [ds_o_some]
      refine br_f (ds_nm (by omega)) ?_
      have hT := hI.2.2.2.2.2.2.1
      have go : ∀ (k' : Nat) (kn2 : Nat → Nat → Bool) (lf2 : Nat → Nat → List Nat) (cnt2 : Nat → Nat) (st2 : Nat → Nat → Nat) (B2 : Nat) (f0 : Int32) (a1 a2 a3 a4 a5 a6 a7 a8 a9 a10 a11 a12 a13 a14 a15 a16 a17 a18 a19 a20 a21 a22 : Nat → Int32), k' ≤ i + 1 → ds_I M rv kn2 lf2 cnt2 st2 cp B2 (f0, a1, a2, a3, a4, a5, a6, a7, a8, a9, a10, a11, a12, a13, a14, a15, a16, a17, a18, a19, a20, a21, a22) → ds_CL M rv kn cnt st cp B n to kn2 cnt2 st2 B2 (st n b) (i + 1) →
          wX_copy_85 post (wX_copy_50 post (nI n) (nI to) fu') (nI n) (nI to) (nI b) (nI i) (nI k') f0 a1 a2 a3 a4 a5 a6 a7 a8 a9 a10 a11 a12 a13 a14 a15 a16 a17 a18 a19 a20 a21 a22 := by
        intro k' kn2 lf2 cnt2 st2 B2 f0 a1 a2 a3 a4 a5 a6 a7 a8 a9 a10 a11 a12 a13 a14 a15 a16 a17 a18 a19 a20 a21 a22 hk' hI2 hC2
        have hU2 := hI2.2.2.2.2.2.2.2.1
        have hT2 := hI2.2.2.2.2.2.2.1
        have s4 := hC2.2.2.2.1
        have bnd : ∀ d, d < 8 → st n d < 2 ^ 31 := fun d hd => by
          have t1 := ((hT2 n hn).2.1 d hd).1
          have t2 := (hT2 n hn).1
          have t3 := hC2.2.2.2.2.2.2.2.2
          rw [s4 d hd] at t1
          omega
        refine ⟨by rw [ds_i8]; exact vp_in_nI (by omega) (by omega), nm_r (e' := nI (st n b)) (by rw [ds_i8, nI_clamp (by omega), (hU2 n hn).2.1 b b1, s4 b b1]) ?_⟩
        refine ds_w_nx (s := st n) hn (fun d hd => by rw [(hU2 n hn).2.1 d hd, s4 d hd]) bnd (bnd b b1) (fun best' hx' => nm_r (nI_1 i) ?_)
        exact ih (i + 1) fu' k' (st n b) best' kn2 lf2 cnt2 st2 B2 f0 a1 a2 a3 a4 a5 a6 a7 a8 a9 a10 a11 a12 a13 a14 a15 a16 a17 a18 a19 a20 a21 a22 (by omega) (by omega) hk' hI2 hC2 hx' (fun z => by cases (hz z).2)
      refine ds_w_cd hI hn ht hnt b1 (fun u hu hsub => ?_) (fun lf' u hu => ?_)
      · obtain ⟨f0, a1, a2, a3, a4, a5, a6, a7, a8, a9, a10, a11, a12, a13, a14, a15, a16, a17, a18, a19, a20, a21, a22⟩ := u
        refine br_t rfl (go k kn1 lf1 cnt1 st1 B1 f0 a1 a2 a3 a4 a5 a6 a7 a8 a9 a10 a11 a12 a13 a14 a15 a16 a17 a18 a19 a20 a21 a22 (by omega) hu ?_)
        refine ds_CL_0 hT hn hC hx (fun _ _ _ => rfl) (fun _ h => h) (fun _ h => Or.inl h) (fun _ _ => rfl) rfl (fun _ => Nat.le_refl _) (fun r h1 h2 => hsub r (by rw [hC.1 n r hnt]; exact h1) h2) (by omega)
      · obtain ⟨f0, a1, a2, a3, a4, a5, a6, a7, a8, a9, a10, a11, a12, a13, a14, a15, a16, a17, a18, a19, a20, a21, a22⟩ := u
        refine br_f (show ¬ (1 : Int32) = 0 by decide) ?_
        rw [nI_1]
        refine go (k + 1) _ lf' _ _ _ f0 a1 a2 a3 a4 a5 a6 a7 a8 a9 a10 a11 a12 a13 a14 a15 a16 a17 a18 a19 a20 a21 a22 (by omega) hu ?_
        refine ds_CL_0 hT hn hC hx (fun n' r h => ds_mgd_o h) (fun r h => ds_mgd_t.mpr (Or.inl h)) (fun r h => ?_) (fun d _ => ds_u2n (fun z => hnt z.1)) (ds_u1n hnt) (fun n' => ?_) (fun r h1 h2 => ds_mgd_t.mpr (Or.inr ⟨?_, h2, ?_⟩)) (Nat.le_refl _)
        · rcases ds_mgd_t.mp h with z | z
          · exact Or.inl z
          · rw [hC.1 n r hnt] at z
            exact Or.inr z.1
        · by_cases e : n' = to
          · rw [e, ds_u1s]; omega
          · rw [ds_u1n e]
            exact Nat.le_refl _
        · rw [hC.1 n r hnt]; exact h1
        · exact ((hI.2.2.2.1 n hn).1 r (by rw [hC.1 n r hnt]; exact h1)).1
variable {f0 : Int32} {a1 a2 a3 a4 a5 a6 a7 a8 a9 a10 a11 a12 a13 a14 a15 a16 a17 a18 a19 a20 a21 a22 : Nat → Int32}
theorem ds_w_bs {post : Int32 → Prop} {u : St1} {n : Nat} (hn : n < 3) (H : post 0) : wpX_badStore post u (nI n) := by
  obtain ⟨f0, a1, a2, a3, a4, a5, a6, a7, a8, a9, a10, a11, a12, a13, a14, a15, a16, a17, a18, a19, a20, a21, a22⟩ := u
  exact br_f (nI_pos (by omega)) (br_t (nI_lt (b := 3) hn (by omega)) H)
theorem ds_w_bd {post : Int32 → Prop} {u : St1} {d : Nat} (hd : d < 8) (H : post 0) : wpX_badDocument post u (nI d) := by
  obtain ⟨f0, a1, a2, a3, a4, a5, a6, a7, a8, a9, a10, a11, a12, a13, a14, a15, a16, a17, a18, a19, a20, a21, a22⟩ := u
  exact br_f (nI_pos (by omega)) (br_t (nI_lt (b := 8) hd (by omega)) H)
/-- copy -/
theorem ds_w_copy {post : Int32 → St1 → Prop} {n to : Nat} (hI : ds_I M rv kn lf cnt st cp B (f0, a1, a2, a3, a4, a5, a6, a7, a8, a9, a10, a11, a12, a13, a14, a15, a16, a17, a18, a19, a20, a21, a22)) (hn : n < 3) (ht : to < 3) (hnt : n ≠ to) (hB : B < 2 ^ 30)
    (H : ∀ k lf' cnt' st' u, ds_I M rv (ds_mg kn n to) lf' cnt' st' (ds_u2 cp n to (cnt' n)) (B + 8) u → k ≤ 8 → ((∀ d, d < 8 → st n d ≤ cp n to) → k = 0) → (∀ n', cnt n' ≤ cnt' n') → post (nI k) u) :
    wpX_copy post (f0, a1, a2, a3, a4, a5, a6, a7, a8, a9, a10, a11, a12, a13, a14, a15, a16, a17, a18, a19, a20, a21, a22) (nI n) (nI to) := by
  have hI' := hI
  obtain ⟨hR, hA, hC, hS, hK, hL, hT, hU, vw, hV⟩ := hI'
  have bnd : ∀ d, d < 8 → st n d < 2 ^ 31 := fun d hd => by
    have t1 := ((hT n hn).2.1 d hd).1
    have t2 := (hT n hn).1
    omega
  have cb : cp n to < 2 ^ 31 := by
    have t1 := ((hT n hn).2.2 to ht).1
    have t2 := (hT n hn).1
    omega
  unfold wpX_copy
  dsimp only
  refine ds_w_bs hn ?_
  refine br_t rfl ?_
  refine ds_w_bs ht ?_
  refine br_t rfl ?_
  refine br_f (fun z => hnt ((nI_eq (by omega) (by omega)).mp z)) ⟨by rw [ds_i3]; exact vp_in_nI (by omega) (by omega), nm_r (e' := nI (cp n to)) (by rw [ds_i3, nI_clamp (by omega), (hU n hn).2.2 to ht]) ?_⟩
  refine ds_w_nx (s := st n) hn (fun d hd => (hU n hn).2.1 d hd) bnd cb (fun best hx => ⟨9, ?_⟩)
  refine ds_w_copy50 hn ht hnt hB H 8 0 9 0 (cp n to) best kn lf cnt st B f0 a1 a2 a3 a4 a5 a6 a7 a8 a9 a10 a11 a12 a13 a14 a15 a16 a17 a18 a19 a20 a21 a22 (by omega) (by omega) (by omega) hI ?_ hx (fun z => ⟨rfl, ?_⟩)
  · refine ⟨fun _ _ _ => rfl, fun _ h => h, fun _ h => Or.inl h, fun _ _ => rfl, rfl, fun _ => Nat.le_refl _, fun d hd hs r hr hdr => ((hT n hn).2.2 to ht).2 (fun e => hnt e.symm) d hd hs r hr hdr, ?_, by omega⟩
    have := ds_cp_le (fun d => decide (cp n to < st n d)) 8
    omega
  · cases best with
    | none => rfl
    | some b =>
      obtain ⟨b1, b2, _⟩ := hx.2 b rfl
      have := z b b1
      omega
end
end
section
/-! compact -/
def ds_dp (rv : Nat → ds_N) (kn : Nat → Nat → Bool) (a11 : Nat → Int32) (n r : Nat) : Bool := kn n r && decide (¬ a11 (80 * n + r) = 0) && decide (0 < ds_kc rv kn n r)
theorem ds_dp_iff {rv : Nat → ds_N} {kn : Nat → Nat → Bool} {a11 : Nat → Int32} {n r : Nat} : ds_dp rv kn a11 n r = true ↔ kn n r = true ∧ ¬ a11 (80 * n + r) = 0 ∧ 0 < ds_kc rv kn n r := by
  unfold ds_dp
  simp only [Bool.and_eq_true, decide_eq_true_eq, and_assoc]
section
variable {M : Nat} {rv : Nat → ds_N} {kn : Nat → Nat → Bool} {lf : Nat → Nat → List Nat} {cnt : Nat → Nat} {st cp : Nat → Nat → Nat} {B : Nat} {f0 : Int32} {a1 a2 a3 a4 a5 a6 a7 a8 a9 a10 a11 a12 a13 a14 a15 a16 a17 a18 a19 a20 a21 a22 : Nat → Int32}
theorem ds_w_cp80 {post : Int32 → St1 → Prop} {J : Int32 → Int32 → (Nat → Int32) → (Nat → Int32) → (Nat → Int32) → (Nat → Int32) → (Nat → Int32) → (Nat → Int32) → (Nat → Int32) → (Nat → Int32) → (Nat → Int32) → (Nat → Int32) → (Nat → Int32) → (Nat → Int32) → (Nat → Int32) → (Nat → Int32) → (Nat → Int32) → (Nat → Int32) → (Nat → Int32) → (Nat → Int32) → (Nat → Int32) → (Nat → Int32) → (Nat → Int32) → (Nat → Int32) → Prop} {x1 x5 z : Int32} {at' j : Nat} (hat : at' < 240)
    (H : ∀ b, (b at' = 0 ↔ (a11 at' = 0 ∨ ¬ x5 = 0)) → (∀ i, i ≠ at' → b i = a11 i) → J z (nI (j + 1)) a1 a2 a3 a4 a5 a6 a7 a8 a9 a10 b a12 a13 a14 a15 a16 a17 a18 a19 a20 a21 a22) : wX_compact_80 post J x1 (nI j) (nI at') x5 z f0 a1 a2 a3 a4 a5 a6 a7 a8 a9 a10 a11 a12 a13 a14 a15 a16 a17 a18 a19 a20 a21 a22 := by
  have ia : vp_in (nI at') 240 := vp_in_nI hat (by omega)
  have ca : (nI at').toNatClampNeg = at' := nI_clamp (by omega)
  refine ⟨ia, ?_⟩
  rw [ca]
  refine br_c (fun y => ⟨ia, nm_e (nm_r (nI_1 j) (H _ ?_ (fun i hi => pk_un hi)))⟩) (fun y => br_c (fun w => ⟨ia, nm_e (nm_r (nI_1 j) (H _ ?_ (fun i hi => pk_un hi)))⟩) (fun w => ⟨ia, nm_e (nm_r (nI_1 j) (H _ ?_ (fun i hi => pk_un hi)))⟩))
  · rw [pk_us]
    exact ⟨fun _ => Or.inl y, fun _ => rfl⟩
  · rw [pk_us]
    exact ⟨fun v => absurd v (by decide), fun v => v.elim (fun t => absurd t y) (fun t => absurd w t)⟩
  · rw [pk_us]
    exact ⟨fun _ => Or.inr w, fun _ => rfl⟩
theorem ds_w_cp15 {post : Int32 → St1 → Prop} {n : Nat} (hn : n < 3) (hM : M ≤ 80) (hf : f0 = nI M) (hK : ds_AK rv kn a9 a10)
    (H : ∀ b, (∀ r, r < M → (b (80 * n + r) = 0 ↔ a11 (80 * n + r) = 0 ∨ ds_dp rv kn a11 n r = true)) → post (nI ((List.range M).countP (ds_dp rv kn a11 n))) (f0, a1, a2, a3, a4, a5, a6, a7, a8, a9, a10, b, a12, a13, a14, a15, a16, a17, a18, a19, a20, a21, a22)) :
    ∀ (i j fu : Nat) (b : Nat → Int32), j + i = M → i + 1 ≤ fu → (∀ r, r < j → (b (80 * n + r) = 0 ↔ a11 (80 * n + r) = 0 ∨ ds_dp rv kn a11 n r = true)) → (∀ r, j ≤ r → b (80 * n + r) = a11 (80 * n + r)) →
      wX_compact_15 post (nI n) f0 fu (nI ((List.range j).countP (ds_dp rv kn a11 n))) (nI j) a1 a2 a3 a4 a5 a6 a7 a8 a9 a10 b a12 a13 a14 a15 a16 a17 a18 a19 a20 a21 a22 := by
  intro i
  induction i with
  | zero =>
    intro j fu b e hfu h1 h2
    obtain ⟨fu', rfl⟩ : ∃ f, fu = f + 1 := ⟨fu - 1, by omega⟩
    have e2 : j = M := by omega
    subst e2
    exact br_t (by rw [hf]; exact nI_le (Nat.le_refl _) (by omega)) (H b h1)
  | succ i ih =>
    intro j fu b e hfu h1 h2
    obtain ⟨fu', rfl⟩ : ∃ f, fu = f + 1 := ⟨fu - 1, by omega⟩
    have ix : vp_in (nI (80 * n + j)) 240 := vp_in_nI (by omega) (by omega)
    have cx : (nI (80 * n + j)).toNatClampNeg = 80 * n + j := nI_clamp (by omega)
    obtain ⟨k9, k10⟩ := hK n j hn (by omega)
    have bj := h2 j (Nat.le_refl _)
    have next : ∀ b', (b' (80 * n + j) = 0 ↔ a11 (80 * n + j) = 0 ∨ ds_dp rv kn a11 n j = true) → (∀ i, i ≠ 80 * n + j → b' i = b i) → wX_compact_15 post (nI n) f0 fu' (nI ((List.range (j + 1)).countP (ds_dp rv kn a11 n))) (nI (j + 1)) a1 a2 a3 a4 a5 a6 a7 a8 a9 a10 b' a12 a13 a14 a15 a16 a17 a18 a19 a20 a21 a22 := by
      intro b' hb1 hb2
      refine ih (j + 1) fu' b' (by omega) (by omega) (fun r hr => ?_) (fun r hr => ?_)
      · by_cases er : r = j
        · subst er; exact hb1
        · rw [hb2 _ (by omega)]
          exact h1 r (by omega)
      · rw [hb2 _ (by omega)]
        exact h2 r (by omega)
    have no : ds_dp rv kn a11 n j = false → wX_compact_65 post (wX_compact_15 post (nI n) f0 fu') (nI n) (nI ((List.range j).countP (ds_dp rv kn a11 n))) (nI j) (nI (80 * n + j)) f0 a1 a2 a3 a4 a5 a6 a7 a8 a9 a10 b a12 a13 a14 a15 a16 a17 a18 a19 a20 a21 a22 := by
      intro hd
      refine br_t rfl (ds_w_cp80 (a11 := b) (by omega) (fun b' hb1 hb2 => ?_))
      have t := next b' (by rw [hb1, bj, hd]; simp) hb2
      rw [ds_cp_succ, hd] at t
      exact t
    have yes : ds_dp rv kn a11 n j = true → wX_compact_66 post (wX_compact_15 post (nI n) f0 fu') (nI n) (nI ((List.range j).countP (ds_dp rv kn a11 n))) (nI j) (nI (80 * n + j)) 1 f0 a1 a2 a3 a4 a5 a6 a7 a8 a9 a10 b a12 a13 a14 a15 a16 a17 a18 a19 a20 a21 a22 := by
      intro hd
      refine br_f (by decide) (ds_w_cp80 (a11 := b) (by omega) (fun b' hb1 hb2 => ?_))
      have t := next b' (by rw [hb1, bj, hd]; simp) hb2
      rw [ds_cp_succ, hd, if_pos rfl, ← nI_1] at t
      exact t
    refine br_f (by rw [hf]; exact nI_ge (by omega) (by omega)) (nm_r (ds_i80 n j) ⟨ix, ?_⟩)
    rw [cx, k9]
    refine br_c (fun z => no ?_) (fun z => ⟨ix, ?_⟩)
    · rw [Bool.eq_false_iff]
      intro w
      rw [ds_b01.mp z] at k10
      have := (ds_dp_iff.mp w).1
      rw [ds_b01.mp z] at this
      cases this
    · have kj : kn n j = true := by
        cases hk : kn n j with
        | true => rfl
        | false => exact absurd (ds_b01.mpr hk) z
      rw [bj]
      refine br_c (fun y => no ?_) (fun y => ⟨ix, ?_⟩)
      · rw [Bool.eq_false_iff]
        intro w
        exact (ds_dp_iff.mp w).2.1 y
      · have kle := ds_kc_le (rv := rv) (kn := kn) n j
        rw [k10 kj]
        refine pk_le (ds_kc rv kn n j) 0 (fun w => no ?_) (fun w => yes (ds_dp_iff.mpr ⟨kj, y, w⟩))
        rw [Bool.eq_false_iff]
        intro v
        have := (ds_dp_iff.mp v).2.2
        omega
theorem ds_w_compact {post : Int32 → St1 → Prop} {n : Nat} (hI : ds_I M rv kn lf cnt st cp B (f0, a1, a2, a3, a4, a5, a6, a7, a8, a9, a10, a11, a12, a13, a14, a15, a16, a17, a18, a19, a20, a21, a22)) (hn : n < 3)
    (H : ∀ b, ds_I M rv kn lf cnt st cp B (f0, a1, a2, a3, a4, a5, a6, a7, a8, a9, a10, b, a12, a13, a14, a15, a16, a17, a18, a19, a20, a21, a22) → (∀ r, r < M → (b (80 * n + r) = 0 ↔ a11 (80 * n + r) = 0 ∨ ds_dp rv kn a11 n r = true)) → post (nI ((List.range M).countP (ds_dp rv kn a11 n))) (f0, a1, a2, a3, a4, a5, a6, a7, a8, a9, a10, b, a12, a13, a14, a15, a16, a17, a18, a19, a20, a21, a22)) :
    wpX_compact post (f0, a1, a2, a3, a4, a5, a6, a7, a8, a9, a10, a11, a12, a13, a14, a15, a16, a17, a18, a19, a20, a21, a22) (nI n) := by
  have hI' := hI
  obtain ⟨hR, hA, hC, hS, hK, hL, hT, hU, vw, hV⟩ := hI'
  unfold wpX_compact
  dsimp only
  refine ds_w_bs hn ?_
  refine br_t rfl ⟨M + 1, ?_⟩
  exact ds_w_cp15 hn hR.1 hA.1 hK (fun b hb => H b hI hb) M 0 (M + 1) a11 (by omega) (Nat.le_refl _) (fun r hr => by omega) (fun r _ => rfl)
end
/-! purge -/
def ds_pgd (rv : Nat → ds_N) (kn : Nat → Nat → Bool) (n d j : Nat) : Nat → Nat → Bool := fun n' r => if n' = n ∧ ds_dc rv r = d ∧ r < j then false else kn n' r
def ds_pg (rv : Nat → ds_N) (kn : Nat → Nat → Bool) (n d : Nat) : Nat → Nat → Bool := fun n' r => if n' = n ∧ ds_dc rv r = d then false else kn n' r
def ds_cz (cp : Nat → Nat → Nat) (n : Nat) : Nat → Nat → Nat := fun m m' => if m' = n then 0 else cp m m'
section
variable {M : Nat} {rv : Nat → ds_N} {kn : Nat → Nat → Bool} {lf : Nat → Nat → List Nat} {cnt : Nat → Nat} {st cp : Nat → Nat → Nat} {B : Nat}
theorem ds_pg_t {n d n' r : Nat} : ds_pg rv kn n d n' r = true ↔ kn n' r = true ∧ ¬ (n' = n ∧ ds_dc rv r = d) := by
  unfold ds_pg
  by_cases e : n' = n ∧ ds_dc rv r = d
  · rw [if_pos e]
    exact ⟨fun z => (by cases z), fun z => absurd e z.2⟩
  · rw [if_neg e]
    exact ⟨fun z => ⟨z, e⟩, fun z => z.1⟩
theorem ds_pg_PS {n d : Nat} (hR : ds_PR M rv) (hS : ds_PS M rv kn lf) : ds_PS M rv (ds_pg rv kn n d) (ds_u2 lf n d []) := by
  intro n' hn'
  obtain ⟨k1, k2⟩ := hS n' hn'
  have chd : ∀ c r, kn n' c = true → ds_pa rv c = some r → ds_dc rv c = ds_dc rv r := fun c r hc hp => (((hR.2.1 c (k1 c hc).1).2.2.2.2 r hp).2.1).symm
  refine ⟨fun r hr => ?_, fun d' hd' => ?_⟩
  · obtain ⟨z1, z2⟩ := ds_pg_t.mp hr
    refine ⟨(k1 r z1).1, fun p hp => ds_pg_t.mpr ⟨(k1 r z1).2 p hp, ?_⟩⟩
    rw [← chd r p z1 hp]
    exact z2
  · by_cases e : n' = n ∧ d' = d
    · obtain ⟨rfl, rfl⟩ := e
      rw [ds_u2s]
      refine ⟨List.Pairwise.nil, fun r => ⟨fun z => absurd z List.not_mem_nil, fun z => ?_⟩⟩
      exact absurd ⟨rfl, z.2.1⟩ (ds_pg_t.mp z.1).2
    · rw [ds_u2n e]
      obtain ⟨g1, g2⟩ := k2 d' hd'
      refine ⟨g1, fun r => ?_⟩
      rw [g2]
      constructor
      · rintro ⟨z1, z2, z3⟩
        exact ⟨ds_pg_t.mpr ⟨z1, fun w => e ⟨w.1, by omega⟩⟩, z2, fun c hc => z3 c (ds_pg_t.mp hc).1⟩
      · rintro ⟨z1, z2, z3⟩
        refine ⟨(ds_pg_t.mp z1).1, z2, fun c hc hp => z3 c (ds_pg_t.mpr ⟨hc, fun w => e ⟨w.1, ?_⟩⟩) hp⟩
        have := chd c r hc hp
        omega
theorem ds_pg_kc {n d n' r : Nat} (hR : ds_PR M rv) (hS : ds_PS M rv kn lf) (hn' : n' < 3) (hr : ds_pg rv kn n d n' r = true) : ds_kc rv (ds_pg rv kn n d) n' r = ds_kc rv kn n' r := by
  obtain ⟨k1, k2⟩ := hS n' hn'
  unfold ds_kc
  refine ds_cp_eq 80 (fun i hi => ?_)
  by_cases c : ds_pa rv i = some r
  · by_cases k : kn n' i = true
    · have t : ds_pg rv kn n d n' i = true := ds_pg_t.mpr ⟨k, fun w => (ds_pg_t.mp hr).2 ⟨w.1, by
        have := ((hR.2.1 i (k1 i k).1).2.2.2.2 r c).2.1
        omega⟩⟩
      rw [t, k]
    · have t : ds_pg rv kn n d n' i = false := by
        rw [Bool.eq_false_iff]
        exact fun w => k (ds_pg_t.mp w).1
      rw [t]
      simp [k]
  · simp [c]
theorem ds_pg_PT {n d : Nat} (hT : ds_PT rv kn cnt st cp B) : ds_PT rv (ds_pg rv kn n d) cnt (ds_u2 st n d 0) (ds_cz cp n) B := by
  intro n' hn'
  obtain ⟨t1, t2, t3⟩ := hT n' hn'
  refine ⟨t1, fun d' hd' => ?_, fun m hm => ?_⟩
  · by_cases e : n' = n ∧ d' = d
    · obtain ⟨rfl, rfl⟩ := e
      rw [ds_u2s]
      refine ⟨by omega, fun _ r hr z => (ds_pg_t.mp hr).2 ⟨rfl, z⟩, fun e he _ z => absurd rfl z⟩
    · rw [ds_u2n e]
      obtain ⟨q1, q2, q3⟩ := t2 d' hd'
      refine ⟨q1, fun z r hr => q2 z r (ds_pg_t.mp hr).1, fun e' he z y => ?_⟩
      by_cases e2 : n' = n ∧ e' = d
      · obtain ⟨rfl, rfl⟩ := e2
        rw [ds_u2s] at z
        exact absurd z y
      · rw [ds_u2n e2] at z
        exact q3 e' he z y
  · unfold ds_cz
    obtain ⟨q1, q2⟩ := t3 m hm
    by_cases em : m = n
    · rw [if_pos em]
      refine ⟨by omega, fun hmn d' hd' z r hr hdr => ?_⟩
      rw [ds_u2n (fun w => hmn (by rw [em, w.1]))] at z
      exact absurd hdr ((t2 d' hd').2.1 (by omega) r (ds_pg_t.mp hr).1)
    · rw [if_neg em]
      refine ⟨q1, fun hmn d' hd' z r hr hdr => ?_⟩
      by_cases e : n' = n ∧ d' = d
      · exact absurd ⟨e.1, by omega⟩ (ds_pg_t.mp hr).2
      · rw [ds_u2n e] at z
        exact ds_pg_t.mpr ⟨q2 hmn d' hd' z r (ds_pg_t.mp hr).1 hdr, fun w => em w.1⟩
variable {f0 : Int32} {a1 a2 a3 a4 a5 a6 a7 a8 a9 a10 a11 a12 a13 a14 a15 a16 a17 a18 a19 a20 a21 a22 : Nat → Int32}
theorem ds_w_pg128 {post : Int32 → St1 → Prop} {n : Nat} {x : Int32} (hn : n < 3) (hU : ∀ m m', m < 3 → m' < 3 → a16 (3 * m + m') = nI (cp m m'))
    (H : ∀ b, (∀ m m', m < 3 → m' < 3 → b (3 * m + m') = nI (ds_cz cp n m m')) → post x (f0, a1, a2, a3, a4, a5, a6, a7, a8, a9, a10, a11, a12, a13, a14, a15, b, a17, a18, a19, a20, a21, a22)) :
    ∀ (i j : Nat) (b : Nat → Int32), j + i = 3 → (∀ m m', m < 3 → m' < 3 → b (3 * m + m') = nI (if m < j then ds_cz cp n m m' else cp m m')) → ∃ fu, wX_purge_128 post (nI n) x f0 fu (nI j) a1 a2 a3 a4 a5 a6 a7 a8 a9 a10 a11 a12 a13 a14 a15 b a17 a18 a19 a20 a21 a22 := by
  intro i
  induction i with
  | zero =>
    intro j b e h
    have e2 : j = 3 := by omega
    subst e2
    refine ⟨1, br_t (nI_le (a := 3) (Nat.le_refl _) (by omega)) (H b (fun m m' h1 h2 => ?_))⟩
    rw [h m m' h1 h2, if_pos h1]
  | succ i ih =>
    intro j b e h
    obtain ⟨fu, hf⟩ := ih (j + 1) (upd b (3 * j + n) 0) (by omega) (fun m m' h1 h2 => by
      by_cases e3 : m = j ∧ m' = n
      · obtain ⟨rfl, rfl⟩ := e3
        rw [pk_us, if_pos (by omega)]
        unfold ds_cz
        rw [if_pos rfl]
        rfl
      · rw [pk_un (by omega), h m m' h1 h2]
        by_cases e4 : m = j
        · subst e4
          rw [if_neg (by omega), if_pos (by omega)]
          unfold ds_cz
          rw [if_neg (fun z => e3 ⟨rfl, z⟩)]
        · by_cases e5 : m < j
          · rw [if_pos e5, if_pos (by omega)]
          · rw [if_neg e5, if_neg (by omega)])
    refine ⟨fu + 1, br_f (nI_ge (b := 3) (by omega) (by omega)) ⟨by rw [ds_i3]; exact vp_in_nI (by omega) (by omega), nm_r (e' := upd b (3 * j + n) 0) (by rw [ds_i3, nI_clamp (by omega)]) (nm_r (nI_1 j) hf)⟩⟩
theorem ds_w_pg24 {post : Int32 → St1 → Prop} {n d : Nat} (hI : ds_I M rv kn lf cnt st cp B (f0, a1, a2, a3, a4, a5, a6, a7, a8, a9, a10, a11, a12, a13, a14, a15, a16, a17, a18, a19, a20, a21, a22)) (hn : n < 3) (hd : d < 8)
    (H0 : ∀ u, ds_I M rv kn lf cnt st cp B u → post (-1000000003) u)
    (H1 : ∀ k lf' st' cp' u, ds_I M rv (ds_pg rv kn n d) lf' cnt st' cp' B u → post (nI k) u) :
    ∀ (i j fu : Nat) (b9 b11 : Nat → Int32), j + i = M → i + 1 ≤ fu → (∀ n' r, n' < 3 → r < 80 → b9 (80 * n' + r) = nI (if ds_pgd rv kn n d j n' r = true then 1 else 0)) →
      wX_purge_24 post (nI n) (nI d) f0 fu (nI ((List.range j).countP (fun r => kn n r && decide (ds_dc rv r = d)))) (nI j) a1 a2 a3 a4 a5 a6 a7 a8 b9 a10 b11 a12 a13 a14 a15 a16 a17 a18 a19 a20 a21 a22 := by
  obtain ⟨hR, hA, hC, hS, hK, hL, hT, hU, vw, hV⟩ := hI
  have hM := hR.1
  have hf := hA.1
  intro i
  induction i with
  | zero =>
    intro j fu b9 b11 e hfu h
    obtain ⟨fu', rfl⟩ : ∃ f, fu = f + 1 := ⟨fu - 1, by omega⟩
    have e2 : j = M := by omega
    subst e2
    have same : ∀ n' r, n' < 3 → ds_pgd rv kn n d j n' r = ds_pg rv kn n d n' r := by
      intro n' r hn'
      unfold ds_pgd ds_pg
      by_cases c : n' = n ∧ ds_dc rv r = d
      · rw [if_pos c]
        by_cases c2 : r < j
        · rw [if_pos ⟨c.1, c.2, c2⟩]
        · rw [if_neg (fun z => c2 z.2.2)]
          cases hk : kn n' r with
          | false => rfl
          | true => exact absurd ((hS n' hn').1 r hk).1 c2
      · rw [if_neg c, if_neg (fun z => c ⟨z.1, z.2.1⟩)]
    have cle := ds_cp_le (fun r => kn n r && decide (ds_dc rv r = d)) j
    refine br_t (by rw [hf]; exact nI_le (Nat.le_refl _) (by omega)) ?_
    refine pk_eq ((List.range j).countP (fun r => kn n r && decide (ds_dc rv r = d))) 0 (fun z => ?_) (fun z => ?_)
    · have none' : ∀ r, kn n r = true → ds_dc rv r ≠ d := fun r hr hd' => by
        have := ds_cp_0.mp z r ((hS n hn).1 r hr).1
        simp [hr, hd'] at this
      refine H0 _ ⟨hR, hA, hC, hS, fun n' r hn' hr => ⟨?_, (hK n' r hn' hr).2⟩, hL, hT, hU, vw, hV⟩
      rw [h n' r hn' hr, same n' r hn']
      congr 2
      refine congrArg (· = true) (ds_bext ?_)
      rw [ds_pg_t]
      exact ⟨fun w => w.1, fun w => ⟨w, fun y => none' r (by rw [← y.1]; exact w) y.2⟩⟩
    · have id : vp_in (8 * nI n + nI d) 24 := by rw [ds_i8]; exact vp_in_nI (by omega) (by omega)
      have cd : (8 * nI n + nI d).toNatClampNeg = 8 * n + d := by rw [ds_i8]; exact nI_clamp (by omega)
      have hL2 : ds_AL (ds_u2 lf n d []) (upd a12 (8 * n + d) (nI 0)) a13 := ds_AL_put (l := []) hL hn hd (by simp) (fun k x hk => by simp at hk) (fun _ _ => rfl)
      have hS2 := ds_pg_PS (n := n) (d := d) hR hS
      refine ⟨id, nm_r (e' := upd a12 (8 * n + d) (nI 0)) (by rw [cd]; rfl) ⟨id, nm_r (e' := upd a15 (8 * n + d) (nI 0)) (by rw [cd]; rfl) ?_⟩⟩
      refine ds_w_renew (W := fun n d => ds_wv rv (lf n d)) hR hA hn hd hL2 (fun x hx => by rw [ds_u2s] at hx; exact absurd hx List.not_mem_nil) hV (fun vw' b17 b18 b19 b20 hV2 => ?_)
      refine ds_w_pg128 (cp := cp) hn (fun m m' h1 h2 => (hU m h1).2.2 m' h2) (fun b hb => ?_) 3 0 a16 (by omega) (fun m m' h1 h2 => by rw [if_neg (by omega)]; exact (hU m h1).2.2 m' h2)
      refine H1 _ (ds_u2 lf n d []) (ds_u2 st n d 0) (ds_cz cp n) _ ⟨hR, hA, hC, hS2, fun n' r hn' hr => ⟨?_, fun hk => ?_⟩, hL2, ds_pg_PT hT, fun n' hn' => ⟨(hU n' hn').1, fun d' hd' => ?_, fun m hm => hb n' m hn' hm⟩, vw', ds_VW_c hV2 (fun n' d' hn' hd' => ?_)⟩
      · rw [h n' r hn' hr, same n' r hn']
      · rw [ds_pg_kc hR hS hn' hk]
        exact (hK n' r hn' hr).2 (ds_pg_t.mp hk).1
      · by_cases c : n' = n ∧ d' = d
        · obtain ⟨rfl, rfl⟩ := c
          rw [pk_us, ds_u2s]
        · rw [pk_un (by omega), ds_u2n c]
          exact (hU n' hn').2.1 d' hd'
      · by_cases c : n' = n ∧ d' = d
        · obtain ⟨rfl, rfl⟩ := c
          rw [ds_u2s, ds_u2s]
        · rw [ds_u2n c, ds_u2n c]
  | succ i ih =>
    intro j fu b9 b11 e hfu h
    obtain ⟨fu', rfl⟩ : ∃ f, fu = f + 1 := ⟨fu - 1, by omega⟩
    have jM : j < M := by omega
    have ix : vp_in (nI (80 * n + j)) 240 := vp_in_nI (by omega) (by omega)
    have cx : (nI (80 * n + j)).toNatClampNeg = 80 * n + j := nI_clamp (by omega)
    have d8 := (hR.2.1 j jM).1
    have hj : ds_pgd rv kn n d j n j = kn n j := by
      unfold ds_pgd
      rw [if_neg (fun z => by omega)]
    have step : ∀ n' r, ¬ (n' = n ∧ r = j) ∨ ¬ ds_dc rv j = d ∨ kn n j = false → ds_pgd rv kn n d (j + 1) n' r = ds_pgd rv kn n d j n' r := by
      intro n' r hc
      by_cases c : n' = n ∧ r = j
      · obtain ⟨rfl, rfl⟩ := c
        rw [hj]
        unfold ds_pgd
        by_cases c2 : ds_dc rv r = d
        · rw [if_pos ⟨rfl, c2, by omega⟩]
          rcases hc with z | z | z
          · exact absurd ⟨rfl, rfl⟩ z
          · exact absurd c2 z
          · exact z.symm
        · rw [if_neg (fun z => c2 z.2.1)]
      · unfold ds_pgd
        by_cases c2 : n' = n ∧ ds_dc rv r = d ∧ r < j
        · rw [if_pos c2, if_pos ⟨c2.1, c2.2.1, by omega⟩]
        · rw [if_neg c2, if_neg (fun z => c2 ⟨z.1, z.2.1, by
            have : r ≠ j := fun w => c ⟨z.1, w⟩
            omega⟩)]
    have skip : ¬ ds_dc rv j = d ∨ kn n j = false → wX_purge_24 post (nI n) (nI d) f0 fu' (nI ((List.range j).countP (fun r => kn n r && decide (ds_dc rv r = d)))) (nI (j + 1)) a1 a2 a3 a4 a5 a6 a7 a8 b9 a10 b11 a12 a13 a14 a15 a16 a17 a18 a19 a20 a21 a22 := by
      intro hc
      have t := ih (j + 1) fu' b9 b11 (by omega) (by omega) (fun n' r hn' hr => by rw [step n' r (Or.inr hc)]; exact h n' r hn' hr)
      have c0 : (kn n j && decide (ds_dc rv j = d)) = false := by
        rcases hc with z | z
        · simp [z]
        · simp [z]
      rw [ds_cp_succ, c0] at t
      exact t
    refine br_f (by rw [hf]; exact nI_ge (by omega) (by omega)) (nm_r (ds_i80 n j) ⟨vp_in_nI (by omega) (by omega), ?_⟩)
    rw [nI_clamp (show j < 2 ^ 31 by omega), (hA.2 j jM).1]
    refine pk_eq (ds_dc rv j) d (fun ed => ⟨ix, ?_⟩) (fun ed => nm_r (nI_1 j) (skip (Or.inl ed)))
    rw [cx, h n j hn (by omega), hj]
    refine br_c (fun z => nm_r (nI_1 j) (skip (Or.inr (ds_b01.mp z)))) (fun z => ⟨ix, nm_e ⟨ix, nm_e (nm_r (nI_1 _) (nm_r (nI_1 j) ?_))⟩⟩)
    have kj : kn n j = true := by
      cases hk : kn n j with
      | true => rfl
      | false => exact absurd (ds_b01.mpr hk) z
    have t := ih (j + 1) fu' (upd b9 (80 * n + j) 0) (upd b11 (80 * n + j) 0) (by omega) (by omega) (fun n' r hn' hr => by
      by_cases c : n' = n ∧ r = j
      · obtain ⟨rfl, rfl⟩ := c
        have t0 : ds_pgd rv kn n' d (r + 1) n' r = false := by
          unfold ds_pgd
          rw [if_pos ⟨rfl, ed, by omega⟩]
        rw [pk_us, t0]
        rfl
      · rw [pk_un (by omega), step n' r (Or.inl c)]
        exact h n' r hn' hr)
    have c1 : (kn n j && decide (ds_dc rv j = d)) = true := by simp [kj, ed]
    rw [ds_cp_succ, c1, if_pos rfl] at t
    exact t
theorem ds_w_purge {post : Int32 → St1 → Prop} {n d : Nat} (hI : ds_I M rv kn lf cnt st cp B (f0, a1, a2, a3, a4, a5, a6, a7, a8, a9, a10, a11, a12, a13, a14, a15, a16, a17, a18, a19, a20, a21, a22)) (hn : n < 3) (hd : d < 8)
    (H0 : ∀ u, ds_I M rv kn lf cnt st cp B u → post (-1000000003) u)
    (H1 : ∀ k lf' st' cp' u, ds_I M rv (ds_pg rv kn n d) lf' cnt st' cp' B u → post (nI k) u) : wpX_purge post (f0, a1, a2, a3, a4, a5, a6, a7, a8, a9, a10, a11, a12, a13, a14, a15, a16, a17, a18, a19, a20, a21, a22) (nI n) (nI d) := by
  unfold wpX_purge
  dsimp only
  refine ds_w_bs hn ?_
  refine br_t rfl ?_
  refine ds_w_bd hd ?_
  refine br_t rfl ⟨M + 1, ?_⟩
  refine ds_w_pg24 hI hn hd H0 H1 M 0 (M + 1) a9 a11 (by omega) (Nat.le_refl _) (fun n' r hn' hr => ?_)
  have e : ds_pgd rv kn n d 0 n' r = kn n' r := by
    unfold ds_pgd
    rw [if_neg (fun z => by omega)]
  rw [e]
  exact (hI.2.2.2.2.1 n' r hn' hr).1
end
end
section
/-! edits -/
/-- what an edit in store n, document d does -/
def ds_E (M : Nat) (rv : Nat → ds_N) (kn : Nat → Nat → Bool) (lf : Nat → Nat → List Nat) (n d M' : Nat) (rv' : Nat → ds_N) (kn' : Nat → Nat → Bool) : Prop :=
  ∃ (q : Option Nat) (r : Nat), (q = none → lf n d = []) ∧ (∀ p, q = some p → p ∈ lf n d) ∧ kn n r = false ∧ kn' = ds_u2 kn n r true ∧
    ((M' = M ∧ rv' = rv ∧ r < M ∧ ds_dc rv r = d ∧ ds_pa rv r = q) ∨ (M' = M + 1 ∧ r = M ∧ ∃ x m g k, rv' = ds_ad rv M (d, q, x, m, g, k)))
section
variable {M : Nat} {rv : Nat → ds_N} {kn : Nat → Nat → Bool} {lf : Nat → Nat → List Nat} {cnt : Nat → Nat} {st cp : Nat → Nat → Nat} {B : Nat} {f0 : Int32} {a1 a2 a3 a4 a5 a6 a7 a8 a9 a10 a11 a12 a13 a14 a15 a16 a17 a18 a19 a20 a21 a22 : Nat → Int32}
theorem ds_w_ch {post : Int32 → St1 → Prop} {n d x m : Nat} {q : Option Nat} (hI : ds_I M rv kn lf cnt st cp B (f0, a1, a2, a3, a4, a5, a6, a7, a8, a9, a10, a11, a12, a13, a14, a15, a16, a17, a18, a19, a20, a21, a22)) (hn : n < 3) (hd : d < 8) (hx : x < 4) (hm : m < 2) (hM8 : M < 80)
    (hq0 : q = none → lf n d = []) (hq1 : ∀ p, q = some p → p ∈ lf n d)
    (H : ∀ r M' rv' kn' lf' st' u, ds_E M rv kn lf n d M' rv' kn' → ds_I M' rv' kn' lf' (ds_u1 cnt n (cnt n + 1)) st' cp (B + 1) u → post r u) :
    wpX_change post (f0, a1, a2, a3, a4, a5, a6, a7, a8, a9, a10, a11, a12, a13, a14, a15, a16, a17, a18, a19, a20, a21, a22) (nI n) (nI d) (ds_o q) (nI x) (nI m) := by
  have hS := hI.2.2.2.1
  refine ds_w_change hI hn hd hx hm hM8 hq0 hq1 (fun r lf' u h1 h2 h3 h4 hu => ?_) (fun g k lf' u hu => ?_)
  · exact H _ M rv _ lf' _ u ⟨q, r, hq0, hq1, h4, rfl, Or.inl ⟨rfl, rfl, h1, h2, h3⟩⟩ hu
  · refine H _ (M + 1) _ _ lf' _ u ⟨q, M, hq0, hq1, ?_, rfl, Or.inr ⟨rfl, rfl, x, m, g, k, rfl⟩⟩ hu
    cases hk : kn n M with
    | false => rfl
    | true => exact absurd ((hS n hn).1 M hk).1 (by omega)
theorem ds_w_edit {post : Int32 → St1 → Prop} {n d x : Nat} (hI : ds_I M rv kn lf cnt st cp B (f0, a1, a2, a3, a4, a5, a6, a7, a8, a9, a10, a11, a12, a13, a14, a15, a16, a17, a18, a19, a20, a21, a22)) (hn : n < 3) (hd : d < 8) (hx : x < 4) (hM8 : M < 80)
    (H : ∀ r M' rv' kn' lf' st' u, ds_E M rv kn lf n d M' rv' kn' → ds_I M' rv' kn' lf' (ds_u1 cnt n (cnt n + 1)) st' cp (B + 1) u → post r u) :
    wpX_edit post (f0, a1, a2, a3, a4, a5, a6, a7, a8, a9, a10, a11, a12, a13, a14, a15, a16, a17, a18, a19, a20, a21, a22) (nI n) (nI d) (nI x) := by
  have hI' := hI
  obtain ⟨hR, hA, hC, hS, hK, hL, hT, hU, vw, hV⟩ := hI'
  unfold wpX_edit
  dsimp only
  refine ds_w_bs hn ?_
  refine br_t rfl ?_
  refine ds_w_bd hd ?_
  refine br_t rfl ?_
  refine ds_w_fw hR hA hn hd hL (fun y hy => ((hS n hn).1 y ((((hS n hn).2 d hd).2 y).mp hy).1).1) ?_
  have h0 : ds_win rv (lf n d) = none → lf n d = [] := fun z => by
    rcases ds_win_cases (rv := rv) (lf n d) with ⟨w, w1, _⟩ | ⟨_, ⟨w, _⟩ | ⟨w, w1, _⟩⟩
    · rw [w1] at z; cases z
    · exact w
    · rw [w1] at z; cases z
  have h1 : ∀ p, ds_win rv (lf n d) = some p → p ∈ lf n d := fun p z => by
    rcases ds_win_cases (rv := rv) (lf n d) with ⟨w, w1, w2, _⟩ | ⟨_, ⟨_, w⟩ | ⟨w, w1, w2, _⟩⟩
    · rw [w1, Option.some.injEq] at z; rw [← z]; exact w2
    · rw [w] at z; cases z
    · rw [w1, Option.some.injEq] at z; rw [← z]; exact w2
  refine ds_w_ch (m := 0) hI hn hd hx (by omega) hM8 h0 h1 (fun r M' rv' kn' lf' st' u hE hu => ?_)
  obtain ⟨f0, a1, a2, a3, a4, a5, a6, a7, a8, a9, a10, a11, a12, a13, a14, a15, a16, a17, a18, a19, a20, a21, a22⟩ := u
  exact H r M' rv' kn' lf' st' _ hE hu
theorem ds_w_noLeaf {post : Int32 → Prop} {n d k : Nat} (hn : n < 3) (hd : d < 8) (hk : k < 2 ^ 31) (hL : ds_AL lf a12 a13) (H1 : (lf n d).length ≤ k → post 1) (H0 : k < (lf n d).length → post 0) : wpX_noLeaf post (f0, a1, a2, a3, a4, a5, a6, a7, a8, a9, a10, a11, a12, a13, a14, a15, a16, a17, a18, a19, a20, a21, a22) (nI n) (nI d) (nI k) := by
  obtain ⟨l1, l2, l3⟩ := hL n d hn hd
  refine br_f (nI_pos hk) ⟨by rw [ds_i8]; exact vp_in_nI (by omega) (by omega), ?_⟩
  rw [ds_i8, nI_clamp (by omega), l2]
  exact pk_lt k (lf n d).length H0 H1
theorem ds_w_leafG {post : Int32 → Prop} {n d k : Nat} (hn : n < 3) (hd : d < 8) (hL : ds_AL lf a12 a13) (hk : k < (lf n d).length) (H : post (nI ((lf n d)[k]))) : wpX_leafAt post (f0, a1, a2, a3, a4, a5, a6, a7, a8, a9, a10, a11, a12, a13, a14, a15, a16, a17, a18, a19, a20, a21, a22) (nI n) (nI d) (nI k) := by
  obtain ⟨l1, l2, l3⟩ := hL n d hn hd
  refine ds_w_leafAt hn hd (by omega) ?_
  rw [l3 k _ (List.getElem?_eq_getElem hk)]
  exact H
theorem ds_w_editLeaf {post : Int32 → St1 → Prop} {n d k x : Nat} (hI : ds_I M rv kn lf cnt st cp B (f0, a1, a2, a3, a4, a5, a6, a7, a8, a9, a10, a11, a12, a13, a14, a15, a16, a17, a18, a19, a20, a21, a22)) (hn : n < 3) (hd : d < 8) (hk : k < 2) (hx : x < 4) (hM8 : M < 80)
    (H0 : ∀ r, post r (f0, a1, a2, a3, a4, a5, a6, a7, a8, a9, a10, a11, a12, a13, a14, a15, a16, a17, a18, a19, a20, a21, a22))
    (H : ∀ r M' rv' kn' lf' st' u, ds_E M rv kn lf n d M' rv' kn' → ds_I M' rv' kn' lf' (ds_u1 cnt n (cnt n + 1)) st' cp (B + 1) u → post r u) :
    wpX_editLeaf post (f0, a1, a2, a3, a4, a5, a6, a7, a8, a9, a10, a11, a12, a13, a14, a15, a16, a17, a18, a19, a20, a21, a22) (nI n) (nI d) (nI k) (nI x) := by
  have hI' := hI
  obtain ⟨hR, hA, hC, hS, hK, hL, hT, hU, vw, hV⟩ := hI'
  unfold wpX_editLeaf
  dsimp only
  refine ds_w_bs hn ?_
  refine br_t rfl ?_
  refine ds_w_bd hd ?_
  refine br_t rfl ?_
  refine ds_w_noLeaf hn hd (by omega) hL (fun _ => br_f (by decide) (H0 _)) (fun z => br_t rfl ?_)
  refine ds_w_leafG hn hd hL z ?_
  refine ds_w_ch (q := some (lf n d)[k]) (m := 0) hI hn hd hx (by omega) hM8 (fun z => by cases z) (fun p hp => ?_) (fun r M' rv' kn' lf' st' u hE hu => ?_)
  · rw [Option.some.injEq] at hp
    rw [← hp]
    exact List.getElem_mem z
  · obtain ⟨f0, a1, a2, a3, a4, a5, a6, a7, a8, a9, a10, a11, a12, a13, a14, a15, a16, a17, a18, a19, a20, a21, a22⟩ := u
    exact H r M' rv' kn' lf' st' _ hE hu
theorem ds_w_delete {post : Int32 → St1 → Prop} {n d k : Nat} (hI : ds_I M rv kn lf cnt st cp B (f0, a1, a2, a3, a4, a5, a6, a7, a8, a9, a10, a11, a12, a13, a14, a15, a16, a17, a18, a19, a20, a21, a22)) (hn : n < 3) (hd : d < 8) (hk : k < 2) (hM8 : M < 80)
    (H0 : ∀ r, post r (f0, a1, a2, a3, a4, a5, a6, a7, a8, a9, a10, a11, a12, a13, a14, a15, a16, a17, a18, a19, a20, a21, a22))
    (H : ∀ r M' rv' kn' lf' st' u, ds_E M rv kn lf n d M' rv' kn' → ds_I M' rv' kn' lf' (ds_u1 cnt n (cnt n + 1)) st' cp (B + 1) u → post r u) :
    wpX_delete post (f0, a1, a2, a3, a4, a5, a6, a7, a8, a9, a10, a11, a12, a13, a14, a15, a16, a17, a18, a19, a20, a21, a22) (nI n) (nI d) (nI k) := by
  have hI' := hI
  obtain ⟨hR, hA, hC, hS, hK, hL, hT, hU, vw, hV⟩ := hI'
  have hM := hR.1
  unfold wpX_delete
  dsimp only
  refine ds_w_bs hn ?_
  refine br_t rfl ?_
  refine ds_w_bd hd ?_
  refine br_t rfl ?_
  refine ds_w_noLeaf hn hd (by omega) hL (fun _ => br_f (by decide) (H0 _)) (fun z => br_t rfl ?_)
  have hlt : (lf n d)[k] < M := ((hS n hn).1 _ ((((hS n hn).2 d hd).2 _).mp (List.getElem_mem z)).1).1
  refine ds_w_leafG hn hd hL z ⟨vp_in_nI (by omega) (by omega), ?_⟩
  refine br_c (fun _ => ?_) (fun _ => H0 _)
  refine ds_w_leafG hn hd hL z ?_
  refine ds_w_ch (q := some (lf n d)[k]) (x := 0) (m := 1) hI hn hd (by omega) (by omega) hM8 (fun z => by cases z) (fun p hp => ?_) (fun r M' rv' kn' lf' st' u hE hu => ?_)
  · rw [Option.some.injEq] at hp
    rw [← hp]
    exact List.getElem_mem z
  · obtain ⟨f0, a1, a2, a3, a4, a5, a6, a7, a8, a9, a10, a11, a12, a13, a14, a15, a16, a17, a18, a19, a20, a21, a22⟩ := u
    exact H r M' rv' kn' lf' st' _ hE hu
end
end
section
/-! how many leaves there can be -/
theorem ds_sub : ∀ (l l' : List Nat), l.Nodup → (∀ x, x ∈ l → x ∈ l') → l.length ≤ l'.length := by
  intro l
  induction l with
  | nil => intro l' _ _; simp
  | cons a l ih =>
    intro l' hn h
    obtain ⟨n1, n2⟩ := List.nodup_cons.mp hn
    have ha := h a List.mem_cons_self
    have t := ih (l'.erase a) n2 (fun x hx => by
      have e : x ≠ a := fun z => n1 (by rw [← z]; exact hx)
      exact (List.mem_erase_of_ne e).mpr (h x (List.mem_cons_of_mem _ hx)))
    rw [List.length_erase_of_mem ha] at t
    have : 0 < l'.length := List.length_pos_of_mem ha
    rw [List.length_cons]
    omega
def ds_fb : Nat → Nat × Nat
  | 0 => (1, 2)
  | c + 1 => ((ds_fb c).2, (ds_fb c).1 + (ds_fb c).2)
theorem ds_fb_ok : ∀ c, 1 ≤ (ds_fb c).1 ∧ (ds_fb c).1 + 1 ≤ (ds_fb c).2 := by
  intro c
  induction c with
  | zero => decide
  | succ c ih =>
    show 1 ≤ (ds_fb c).2 ∧ (ds_fb c).2 + 1 ≤ (ds_fb c).1 + (ds_fb c).2
    omega
theorem ds_fb_6 : ∀ c, c < 7 → (ds_fb c).1 ≤ 21 := by decide
/-- whether store n knows a revision of the fibre -/
def ds_ix (rv : Nat → ds_N) (kn : Nat → Nat → Bool) (d : Nat) (q : Option Nat) (n : Nat) : Nat := if (List.range 80).any (fun r => kn n r && decide (ds_dc rv r = d) && decide (ds_pa rv r = q)) = true then 1 else 0
def ds_fc (M : Nat) (rv : Nat → ds_N) (d : Nat) (q : Option Nat) : Nat := (List.range M).countP (fun r => decide (ds_dc rv r = d) && decide (ds_pa rv r = q))
def ds_GB (M : Nat) (rv : Nat → ds_N) (kn : Nat → Nat → Bool) (lf : Nat → Nat → List Nat) (c p : Nat) : Prop :=
  (∀ d, d < 8 → (∀ n, n < 3 → (lf n d).length ≤ (ds_fb c).1) ∧ ∀ n m, n < 3 → m < 3 → n ≠ m → (lf n d).length + (lf m d).length ≤ (ds_fb c).2) ∧
  ∀ d q, ds_fc M rv d q ≤ p + (ds_ix rv kn d q 0 + ds_ix rv kn d q 1 + ds_ix rv kn d q 2)
theorem ds_ix_le (rv : Nat → ds_N) (kn : Nat → Nat → Bool) (d : Nat) (q : Option Nat) (n : Nat) : ds_ix rv kn d q n ≤ 1 := by
  unfold ds_ix
  split <;> omega
theorem ds_ix_1 {rv : Nat → ds_N} {kn : Nat → Nat → Bool} {d : Nat} {q : Option Nat} {n : Nat} : ds_ix rv kn d q n = 1 ↔ ∃ r, r < 80 ∧ kn n r = true ∧ ds_dc rv r = d ∧ ds_pa rv r = q := by
  unfold ds_ix
  have e : (List.range 80).any (fun r => kn n r && decide (ds_dc rv r = d) && decide (ds_pa rv r = q)) = true ↔ ∃ r, r < 80 ∧ kn n r = true ∧ ds_dc rv r = d ∧ ds_pa rv r = q := by
    rw [List.any_eq_true]
    simp only [List.mem_range, Bool.and_eq_true, decide_eq_true_eq, and_assoc]
  by_cases c : (List.range 80).any (fun r => kn n r && decide (ds_dc rv r = d) && decide (ds_pa rv r = q)) = true
  · rw [if_pos c]
    exact ⟨fun _ => e.mp c, fun _ => rfl⟩
  · rw [if_neg c]
    exact ⟨fun z => by omega, fun z => absurd (e.mpr z) c⟩
theorem ds_ix_mono {rv rv' : Nat → ds_N} {kn kn' : Nat → Nat → Bool} {d : Nat} {q : Option Nat} {n : Nat} (h : ∀ r, kn n r = true → ds_dc rv r = d → ds_pa rv r = q → kn' n r = true ∧ ds_dc rv' r = d ∧ ds_pa rv' r = q) : ds_ix rv kn d q n ≤ ds_ix rv' kn' d q n := by
  have l1 := ds_ix_le rv kn d q n
  by_cases c : ds_ix rv kn d q n = 1
  · obtain ⟨r, h1, h2, h3, h4⟩ := ds_ix_1.mp c
    have t : ds_ix rv' kn' d q n = 1 := ds_ix_1.mpr ⟨r, h1, h r h2 h3 h4⟩
    omega
  · omega
section
variable {M M' : Nat} {rv rv' : Nat → ds_N} {kn kn' : Nat → Nat → Bool} {lf lf' : Nat → Nat → List Nat} {c p : Nat}
theorem ds_PS_nd (hS : ds_PS M rv kn lf) {n d : Nat} (hn : n < 3) (hd : d < 8) : (lf n d).Nodup := ds_nodup ds_as ((hS n hn).2 d hd).1
/-- the lists stay where nothing changes -/
theorem ds_len_same (hS : ds_PS M rv kn lf) (hS' : ds_PS M' rv' kn' lf') {n d : Nat} (hn : n < 3) (hd : d < 8)
    (h1 : ∀ r, kn' n r = true → ds_dc rv' r = d → kn n r = true) (h2 : ∀ r, kn n r = true → kn' n r = true ∧ ds_dc rv' r = ds_dc rv r ∧ ds_pa rv' r = ds_pa rv r) : (lf' n d).length ≤ (lf n d).length := by
  refine ds_sub _ _ (ds_PS_nd hS' hn hd) (fun x hx => ?_)
  obtain ⟨z1, z2, z3⟩ := (((hS' n hn).2 d hd).2 x).mp hx
  have kx := h1 x z1 z2
  refine (((hS n hn).2 d hd).2 x).mpr ⟨kx, by rw [← (h2 x kx).2.1]; exact z2, fun c hc => ?_⟩
  have t := h2 c hc
  rw [← t.2.2]
  exact z3 c t.1
theorem ds_GB_copy {n to : Nat} (hG : ds_GB M rv kn lf c p) (hS : ds_PS M rv kn lf) (hS' : ds_PS M rv (ds_mg kn n to) lf') (hn : n < 3) (ht : to < 3) (hnt : n ≠ to) : ds_GB M rv (ds_mg kn n to) lf' (c + 1) p := by
  obtain ⟨g1, g2⟩ := hG
  have fb := ds_fb_ok c
  have up : ∀ n' r, kn n' r = true → ds_mg kn n to n' r = true := fun n' r hr => by
    by_cases e : n' = to
    · subst e; exact ds_mg_t.mpr (Or.inl hr)
    · rw [ds_mg_o e]; exact hr
  refine ⟨fun d hd => ?_, fun d q => ?_⟩
  · obtain ⟨l1, l2⟩ := g1 d hd
    have same : ∀ n', n' < 3 → n' ≠ to → (lf' n' d).length ≤ (lf n' d).length := fun n' hn' e => by
      refine ds_len_same hS hS' hn' hd (fun r hr _ => ?_) (fun r hr => ⟨up n' r hr, rfl, rfl⟩)
      rw [ds_mg_o e] at hr
      exact hr
    have tl : (lf' to d).length ≤ (lf to d).length + (lf n d).length := by
      rw [← List.length_append]
      refine ds_sub _ _ (ds_PS_nd hS' ht hd) (fun x hx => ?_)
      obtain ⟨z1, z2, z3⟩ := (((hS' to ht).2 d hd).2 x).mp hx
      rcases ds_mg_t.mp z1 with w | w
      · exact List.mem_append_left _ ((((hS to ht).2 d hd).2 x).mpr ⟨w, z2, fun c hc => z3 c (up to c hc)⟩)
      · exact List.mem_append_right _ ((((hS n hn).2 d hd).2 x).mpr ⟨w, z2, fun c hc => z3 c (ds_mg_t.mpr (Or.inr hc))⟩)
    have tn := l2 to n ht hn (fun z => hnt z.symm)
    show (∀ n, n < 3 → (lf' n d).length ≤ (ds_fb c).2) ∧ ∀ n m, n < 3 → m < 3 → n ≠ m → (lf' n d).length + (lf' m d).length ≤ (ds_fb c).1 + (ds_fb c).2
    refine ⟨fun n' hn' => ?_, fun n' m' hn' hm' hne => ?_⟩
    · by_cases e : n' = to
      · subst e; omega
      · have := same n' hn' e
        have := l1 n' hn'
        omega
    · by_cases e : n' = to
      · subst e
        have t1 := same m' hm' (fun z => hne z.symm)
        have t2 := l1 m' hm'
        omega
      · by_cases e2 : m' = to
        · subst e2
          have t1 := same n' hn' e
          have t2 := l1 n' hn'
          omega
        · have t1 := same n' hn' e
          have t2 := same m' hm' e2
          have t3 := l2 n' m' hn' hm' hne
          omega
  · have t := g2 d q
    have m0 : ∀ n', ds_ix rv kn d q n' ≤ ds_ix rv (ds_mg kn n to) d q n' := fun n' => ds_ix_mono (fun r h1 h2 h3 => ⟨up n' r h1, h2, h3⟩)
    have a0 := m0 0
    have a1 := m0 1
    have a2 := m0 2
    omega
theorem ds_GB_purge {n d : Nat} (hG : ds_GB M rv kn lf c p) (hR : ds_PR M rv) (hS : ds_PS M rv kn lf) (hS' : ds_PS M rv (ds_pg rv kn n d) lf') (hn : n < 3) : ds_GB M rv (ds_pg rv kn n d) lf' c (p + 1) := by
  obtain ⟨g1, g2⟩ := hG
  have le : ∀ n' d', n' < 3 → d' < 8 → (lf' n' d').length ≤ (lf n' d').length := fun n' d' hn' hd' => by
    refine ds_sub _ _ (ds_PS_nd hS' hn' hd') (fun x hx => ?_)
    obtain ⟨z1, z2, z3⟩ := (((hS' n' hn').2 d' hd').2 x).mp hx
    obtain ⟨w1, w2⟩ := ds_pg_t.mp z1
    refine (((hS n' hn').2 d' hd').2 x).mpr ⟨w1, z2, fun c hc hp => z3 c (ds_pg_t.mpr ⟨hc, fun y => w2 ⟨y.1, ?_⟩⟩) hp⟩
    rw [((hR.2.1 c ((hS n' hn').1 c hc).1).2.2.2.2 x hp).2.1]
    exact y.2
  refine ⟨fun d' hd' => ⟨fun n' hn' => Nat.le_trans (le n' d' hn' hd') ((g1 d' hd').1 n' hn'), fun n' m' hn' hm' hne => ?_⟩, fun d' q => ?_⟩
  · have t1 := le n' d' hn' hd'
    have t2 := le m' d' hm' hd'
    have t3 := (g1 d' hd').2 n' m' hn' hm' hne
    omega
  · have t := g2 d' q
    have m0 : ∀ n', n' ≠ n → ds_ix rv kn d' q n' ≤ ds_ix rv (ds_pg rv kn n d) d' q n' := fun n' hne => ds_ix_mono (fun r h1 h2 h3 => ⟨ds_pg_t.mpr ⟨h1, fun z => hne z.1⟩, h2, h3⟩)
    have l0 := ds_ix_le rv kn d' q
    have a0 := l0 0
    have a1 := l0 1
    have a2 := l0 2
    have e : n = 0 ∨ n = 1 ∨ n = 2 := by omega
    rcases e with rfl | rfl | rfl
    · have b1 := m0 1 (by omega)
      have b2 := m0 2 (by omega)
      omega
    · have b1 := m0 0 (by omega)
      have b2 := m0 2 (by omega)
      omega
    · have b1 := m0 0 (by omega)
      have b2 := m0 1 (by omega)
      omega
theorem ds_GB_edit {n d : Nat} (hG : ds_GB M rv kn lf c p) (hR : ds_PR M rv) (hS : ds_PS M rv kn lf) (hS' : ds_PS M' rv' kn' lf') (hR' : ds_PR M' rv') (hn : n < 3) (hd : d < 8) (hE : ds_E M rv kn lf n d M' rv' kn') : ds_GB M' rv' kn' lf' c p ∧ M' ≤ M + 1 := by
  obtain ⟨q, r, q0, q1, hk, hkn, hM⟩ := hE
  obtain ⟨g1, g2⟩ := hG
  have fb := ds_fb_ok c
  have oldr : ∀ j, j < M → ds_dc rv' j = ds_dc rv j ∧ ds_pa rv' j = ds_pa rv j := fun j hj => by
    rcases hM with ⟨_, e, _⟩ | ⟨_, _, x, m, g, k, e⟩
    · rw [e]; exact ⟨rfl, rfl⟩
    · rw [e]
      have := ds_ad_old (rv := rv) (e := (d, q, x, m, g, k)) hj
      exact ⟨this.1, this.2.1⟩
  have newr : ds_dc rv' r = d ∧ ds_pa rv' r = q := by
    rcases hM with ⟨_, e, _, e1, e2⟩ | ⟨_, e1, x, m, g, k, e⟩
    · rw [e]; exact ⟨e1, e2⟩
    · rw [e, e1]
      unfold ds_dc ds_pa
      rw [ds_ad_s]
      exact ⟨rfl, rfl⟩
  have rM' : r < M' := by
    rcases hM with ⟨e, _, e1, _⟩ | ⟨e, e1, _⟩ <;> omega
  have kr : kn' n r = true := by rw [hkn]; exact ds_u2s
  have ko : ∀ n' x, ¬ (n' = n ∧ x = r) → kn' n' x = kn n' x := fun n' x h => by rw [hkn]; exact ds_u2n h
  have up : ∀ n' x, kn n' x = true → kn' n' x = true := fun n' x hx => by
    by_cases e : n' = n ∧ x = r
    · obtain ⟨rfl, rfl⟩ := e; exact kr
    · rw [ko n' x e]; exact hx
  have same : ∀ n' d', n' < 3 → d' < 8 → ¬ (n' = n ∧ d' = d) → (lf' n' d').length ≤ (lf n' d').length := fun n' d' hn' hd' e => by
    refine ds_len_same hS hS' hn' hd' (fun x hx hx2 => ?_) (fun x hx => ⟨up n' x hx, oldr x ((hS n' hn').1 x hx).1⟩)
    rw [ko n' x (fun z => e ⟨z.1, by rw [← hx2, z.2]; exact newr.1⟩)] at hx
    exact hx
  have memN : ∀ x, x ∈ lf' n d → x = r ∨ (x ∈ lf n d ∧ q ≠ some x) := fun x hx => by
    obtain ⟨z1, z2, z3⟩ := (((hS' n hn).2 d hd).2 x).mp hx
    by_cases e : x = r
    · exact Or.inl e
    · rw [ko n x (fun z => e z.2)] at z1
      have xM := ((hS n hn).1 x z1).1
      refine Or.inr ⟨(((hS n hn).2 d hd).2 x).mpr ⟨z1, by rw [← (oldr x xM).1]; exact z2, fun c hc => ?_⟩, ?_⟩
      · rw [← (oldr c ((hS n hn).1 c hc).1).2]
        exact z3 c (up n c hc)
      · rw [← newr.2]
        exact z3 r kr
  have lenN : (lf' n d).length ≤ (lf n d).length ∨ (lf' n d).length ≤ 1 := by
    cases hq : q with
    | none =>
      refine Or.inr (ds_sub (lf' n d) [r] (ds_PS_nd hS' hn hd) (fun x hx => ?_))
      rcases memN x hx with z | z
      · rw [z]; exact List.mem_singleton.mpr rfl
      · rw [q0 hq] at z
        exact absurd z.1 List.not_mem_nil
    | some y =>
      have hy := q1 y hq
      have t := ds_sub (lf' n d) (r :: (lf n d).erase y) (ds_PS_nd hS' hn hd) (fun x hx => by
        rcases memN x hx with z | z
        · rw [z]; exact List.mem_cons_self
        · refine List.mem_cons_of_mem _ ((List.mem_erase_of_ne (fun w => z.2 ?_)).mpr z.1)
          rw [hq, w])
      rw [List.length_cons, List.length_erase_of_mem hy] at t
      have : 0 < (lf n d).length := List.length_pos_of_mem hy
      exact Or.inl (by omega)
  refine ⟨⟨fun d' hd' => ?_, fun d' q' => ?_⟩, ?_⟩
  · obtain ⟨l1, l2⟩ := g1 d' hd'
    have one : ∀ n', n' < 3 → (lf' n' d').length ≤ (lf n' d').length ∨ (n' = n ∧ (lf' n' d').length ≤ 1) := fun n' hn' => by
      by_cases e : n' = n ∧ d' = d
      · obtain ⟨rfl, rfl⟩ := e
        rcases lenN with z | z
        · exact Or.inl z
        · exact Or.inr ⟨rfl, z⟩
      · exact Or.inl (same n' d' hn' hd' e)
    refine ⟨fun n' hn' => ?_, fun n' m' hn' hm' hne => ?_⟩
    · have t := l1 n' hn'
      rcases one n' hn' with z | z <;> omega
    · have t1 := l1 n' hn'
      have t2 := l1 m' hm'
      have t3 := l2 n' m' hn' hm' hne
      rcases one n' hn' with z | z <;> rcases one m' hm' with w | w <;> omega
  · have t := g2 d' q'
    have m0 : ∀ n', n' < 3 → ds_ix rv kn d' q' n' ≤ ds_ix rv' kn' d' q' n' := fun n' hn' => ds_ix_mono (fun x h1 h2 h3 => by
      have o := oldr x ((hS n' hn').1 x h1).1
      exact ⟨up n' x h1, by rw [o.1]; exact h2, by rw [o.2]; exact h3⟩)
    have a0 := m0 0 (by omega)
    have a1 := m0 1 (by omega)
    have a2 := m0 2 (by omega)
    have fold : (List.range M).countP (fun r => decide (ds_dc rv' r = d') && decide (ds_pa rv' r = q')) = ds_fc M rv d' q' := by
      unfold ds_fc
      refine ds_cp_eq M (fun i hi => ?_)
      rw [(oldr i hi).1, (oldr i hi).2]
    rcases hM with ⟨e, _⟩ | ⟨e, e1, _⟩
    · rw [e]
      unfold ds_fc
      rw [fold]
      omega
    · rw [e]
      unfold ds_fc
      rw [ds_cp_succ, fold]
      by_cases cc : d = d' ∧ q = q'
      · obtain ⟨rfl, rfl⟩ := cc
        have i1 : ds_ix rv' kn' d q n = 1 := ds_ix_1.mpr ⟨r, by have := hR'.1; omega, kr, newr.1, newr.2⟩
        have i0 : ds_ix rv kn d q n = 0 := by
          have := ds_ix_le rv kn d q n
          by_cases c1 : ds_ix rv kn d q n = 1
          · exfalso
            obtain ⟨x, x1, x2, x3, x4⟩ := ds_ix_1.mp c1
            cases hq : q with
            | none =>
              obtain ⟨y, hy⟩ := ds_PS_ne hR hS hn hd (M - x) x (Nat.le_refl _) x2 x3
              rw [q0 hq] at hy
              exact List.not_mem_nil hy
            | some y => exact ((((hS n hn).2 d hd).2 y).mp (q1 y hq)).2.2 x x2 (by rw [x4, hq])
          · omega
        have en : n = 0 ∨ n = 1 ∨ n = 2 := by omega
        have ifle : (if (decide (ds_dc rv' M = d) && decide (ds_pa rv' M = q)) = true then 1 else 0) ≤ 1 := by split <;> omega
        rcases en with rfl | rfl | rfl <;> omega
      · have nf : (decide (ds_dc rv' M = d') && decide (ds_pa rv' M = q')) = false := by
          rw [Bool.eq_false_iff]
          intro z
          simp only [Bool.and_eq_true, decide_eq_true_eq] at z
          rw [← e1, newr.1, newr.2] at z
          exact cc z
        rw [nf]
        simp only [Bool.false_eq_true, if_false]
        omega
  · rcases hM with ⟨e, _⟩ | ⟨e, _⟩ <;> omega
/-- at most thirty leaves in forty-five turns -/
theorem ds_30 (hG : ds_GB M rv kn lf c p) (hR : ds_PR M rv) (hS : ds_PS M rv kn lf) (hT : M + c + p ≤ 45) {n d : Nat} (hn : n < 3) (hd : d < 8) : (lf n d).length ≤ 30 := by
  obtain ⟨g1, g2⟩ := hG
  refine Classical.byContradiction (fun hlen => ?_)
  have c7 : 7 ≤ c := by
    refine Classical.byContradiction (fun z => ?_)
    have t1 := ds_fb_6 c (by omega)
    have t2 := (g1 d hd).1 n hn
    omega
  obtain ⟨k1, k2⟩ := hS n hn
  obtain ⟨s1, s2⟩ := k2 d hd
  let K := (List.range M).filter (fun r => kn n r && decide (ds_dc rv r = d))
  let I := K.filter (fun r => decide (¬ r ∈ lf n d))
  have memK : ∀ x, x ∈ K ↔ kn n x = true ∧ ds_dc rv x = d := fun x => by
    show x ∈ (List.range M).filter (fun r => kn n r && decide (ds_dc rv r = d)) ↔ _
    rw [List.mem_filter, List.mem_range, Bool.and_eq_true, decide_eq_true_eq]
    exact ⟨fun z => z.2, fun z => ⟨(k1 x z.1).1, z⟩⟩
  have memI : ∀ x, x ∈ I ↔ x ∈ K ∧ ¬ x ∈ lf n d := fun x => by
    show x ∈ K.filter (fun r => decide (¬ r ∈ lf n d)) ↔ _
    rw [List.mem_filter, decide_eq_true_eq]
  have kM : K.length ≤ M := by
    have := List.length_filter_le (fun r => kn n r && decide (ds_dc rv r = d)) (List.range M)
    rw [List.length_range] at this
    exact this
  have kI : (lf n d).length + I.length ≤ K.length := by
    have t1 : K.length = (K.filter (fun r => decide (r ∈ lf n d))).length + I.length := by
      have h := List.length_eq_countP_add_countP (fun r => decide (r ∈ lf n d)) (l := K)
      rw [List.countP_eq_length_filter, List.countP_eq_length_filter] at h
      have e : K.filter (fun r => decide (¬ (decide (r ∈ lf n d)) = true)) = I := by
        show _ = K.filter (fun r => decide (¬ r ∈ lf n d))
        congr 1
        funext r
        simp
      rw [e] at h
      exact h
    have t2 := ds_sub (lf n d) (K.filter (fun r => decide (r ∈ lf n d))) (ds_PS_nd hS hn hd) (fun x hx => by
      rw [List.mem_filter, decide_eq_true_eq]
      obtain ⟨z1, z2, _⟩ := (s2 x).mp hx
      exact ⟨(memK x).mpr ⟨z1, z2⟩, hx⟩)
    omega
  have fibre : K.length ≤ (p + 3) * (none :: I.map some).length := by
    refine ds_fib (ds_pa rv) (p + 3) (none :: I.map some) K (fun x hx => ?_) (fun q _ => ?_)
    · obtain ⟨z1, z2⟩ := (memK x).mp hx
      cases hq : ds_pa rv x with
      | none => exact List.mem_cons_self
      | some y =>
        refine List.mem_cons_of_mem _ (List.mem_map.mpr ⟨y, (memI y).mpr ⟨(memK y).mpr ⟨(k1 x z1).2 y hq, ?_⟩, fun w => ?_⟩, rfl⟩)
        · rw [((hR.2.1 x (k1 x z1).1).2.2.2.2 y hq).2.1]
          exact z2
        · exact ((s2 y).mp w).2.2 x z1 hq
    · have t := g2 d q
      have l0 := ds_ix_le rv kn d q
      have a0 := l0 0
      have a1 := l0 1
      have a2 := l0 2
      have f : K.countP (fun x => decide (ds_pa rv x = q)) ≤ ds_fc M rv d q := by
        show ((List.range M).filter (fun r => kn n r && decide (ds_dc rv r = d))).countP (fun x => decide (ds_pa rv x = q)) ≤ _
        rw [List.countP_filter]
        unfold ds_fc
        refine List.countP_mono_left (fun x _ hx => ?_)
        simp only [Bool.and_eq_true, decide_eq_true_eq] at hx ⊢
        exact ⟨hx.2.2, hx.1⟩
      omega
  rw [List.length_cons, List.length_map] at fibre
  have pI : I.length + p ≤ 7 := by omega
  have e : p = 0 ∨ p = 1 ∨ p = 2 ∨ p = 3 ∨ p = 4 ∨ p = 5 ∨ p = 6 ∨ p = 7 := by omega
  rcases e with rfl | rfl | rfl | rfl | rfl | rfl | rfl | rfl <;> omega
end
end
section
/-! questions -/
def ds_on : Option Nat → Int32
  | none => -1000000003
  | some p => nI p
theorem ds_neg : (-1000000003 : Int32) < 0 := by decide
def ds_bv (rv : Nat → ds_N) (kn : Nat → Nat → Bool) (a11 : Nat → Int32) (n r : Nat) : Int32 := if kn n r = true then (if a11 (80 * n + r) = 0 then -1000000004 else nI (ds_vl rv r)) else -1000000003
def ds_sum (f : Nat → Int32) : List Nat → Int32 → Int32
  | [], acc => acc
  | d :: l, acc => ds_sum f l (acc + f d)
def ds_bel (f : Nat → Int32) (x : Int32) : Nat → Nat → Nat → Nat
  | 0, lo, _ => lo
  | k + 1, lo, hi => if lo < hi then (if x ≤ f ((lo + hi) / 2) then ds_bel f x k lo ((lo + hi) / 2) else ds_bel f x k ((lo + hi) / 2 + 1) hi) else lo
section
variable {M : Nat} {rv : Nat → ds_N} {kn : Nat → Nat → Bool} {lf : Nat → Nat → List Nat} {cnt : Nat → Nat} {st cp : Nat → Nat → Nat} {B : Nat} {W : Nat → Nat → Option Nat} {vw : Nat → List Nat} {post : Int32 → Prop} {f0 : Int32} {a1 a2 a3 a4 a5 a6 a7 a8 a9 a10 a11 a12 a13 a14 a15 a16 a17 a18 a19 a20 a21 a22 : Nat → Int32}
theorem ds_q_count {n : Nat} (hI : ds_I M rv kn lf cnt st cp B (f0, a1, a2, a3, a4, a5, a6, a7, a8, a9, a10, a11, a12, a13, a14, a15, a16, a17, a18, a19, a20, a21, a22)) (hn : n < 3) (H : post (nI (cnt n))) : wpX_count post (f0, a1, a2, a3, a4, a5, a6, a7, a8, a9, a10, a11, a12, a13, a14, a15, a16, a17, a18, a19, a20, a21, a22) (nI n) := by
  obtain ⟨hR, hA, hC, hS, hK, hL, hT, hU, _⟩ := hI
  unfold wpX_count
  dsimp only
  refine ds_w_bs hn ?_
  refine br_t rfl ⟨vp_in_nI hn (by omega), ?_⟩
  rw [nI_clamp (by omega), (hU n hn).1]
  exact H
theorem ds_q_winner {n d : Nat} (hI : ds_I M rv kn lf cnt st cp B (f0, a1, a2, a3, a4, a5, a6, a7, a8, a9, a10, a11, a12, a13, a14, a15, a16, a17, a18, a19, a20, a21, a22)) (hn : n < 3) (hd : d < 8) (H : post (ds_on (ds_win rv (lf n d)))) : wpX_winner post (f0, a1, a2, a3, a4, a5, a6, a7, a8, a9, a10, a11, a12, a13, a14, a15, a16, a17, a18, a19, a20, a21, a22) (nI n) (nI d) := by
  obtain ⟨hR, hA, hC, hS, hK, hL, hT, hU, _⟩ := hI
  have hM := hR.1
  have hm : ∀ y, y ∈ lf n d → y < M := fun y hy => ((hS n hn).1 y ((((hS n hn).2 d hd).2 y).mp hy).1).1
  unfold wpX_winner
  dsimp only
  refine ds_w_bs hn ?_
  refine br_t rfl ?_
  refine ds_w_bd hd ?_
  refine br_t rfl ?_
  refine ds_w_fw hR hA hn hd hL hm ?_
  rcases ds_win_cases (rv := rv) (lf n d) with ⟨w, w1, w2, _⟩ | ⟨_, ⟨_, w1⟩ | ⟨w, w1, w2, _⟩⟩
  · rw [w1] at H ⊢
    exact br_f (ds_nm (by have := hm w w2; omega)) H
  · rw [w1] at H ⊢
    exact br_t rfl H
  · rw [w1] at H ⊢
    exact br_f (ds_nm (by have := hm w w2; omega)) H
theorem ds_q_leaves {n d : Nat} (hI : ds_I M rv kn lf cnt st cp B (f0, a1, a2, a3, a4, a5, a6, a7, a8, a9, a10, a11, a12, a13, a14, a15, a16, a17, a18, a19, a20, a21, a22)) (hn : n < 3) (hd : d < 8) (H : post (nI (lf n d).length)) : wpX_leaves post (f0, a1, a2, a3, a4, a5, a6, a7, a8, a9, a10, a11, a12, a13, a14, a15, a16, a17, a18, a19, a20, a21, a22) (nI n) (nI d) := by
  obtain ⟨hR, hA, hC, hS, hK, hL, hT, hU, _⟩ := hI
  unfold wpX_leaves
  dsimp only
  refine ds_w_bs hn ?_
  refine br_t rfl ?_
  refine ds_w_bd hd ?_
  refine br_t rfl ⟨by rw [ds_i8]; exact vp_in_nI (by omega) (by omega), ?_⟩
  rw [ds_i8, nI_clamp (by omega), (hL n d hn hd).2.1]
  exact H
theorem ds_q_leaf {n d k : Nat} (hI : ds_I M rv kn lf cnt st cp B (f0, a1, a2, a3, a4, a5, a6, a7, a8, a9, a10, a11, a12, a13, a14, a15, a16, a17, a18, a19, a20, a21, a22)) (hn : n < 3) (hd : d < 8) (hk : k < 2 ^ 31) (H : post (ds_on (lf n d)[k]?)) : wpX_leaf post (f0, a1, a2, a3, a4, a5, a6, a7, a8, a9, a10, a11, a12, a13, a14, a15, a16, a17, a18, a19, a20, a21, a22) (nI n) (nI d) (nI k) := by
  obtain ⟨hR, hA, hC, hS, hK, hL, hT, hU, _⟩ := hI
  unfold wpX_leaf
  dsimp only
  refine ds_w_bs hn ?_
  refine br_t rfl ?_
  refine ds_w_bd hd ?_
  refine br_t rfl ?_
  refine ds_w_noLeaf hn hd hk hL (fun z => br_f (by decide) ?_) (fun z => br_t rfl (ds_w_leafG hn hd hL z ?_))
  · rw [List.getElem?_eq_none z] at H
    exact H
  · rw [List.getElem?_eq_getElem z] at H
    exact H
theorem ds_q_noRev0 {r : Nat} {Q : Int32 → Prop} (hf : f0 = nI M) (hM : M ≤ 80) (hr : r < M) (H : Q 0) : wpX_noRevision Q (f0, a1, a2, a3, a4, a5, a6, a7, a8, a9, a10, a11, a12, a13, a14, a15, a16, a17, a18, a19, a20, a21, a22) (nI r) :=
  br_f (nI_pos (by omega)) (br_t (by rw [hf]; exact nI_lt hr (by omega)) H)
theorem ds_q_noRev1 {x : Int32} {Q : Int32 → Prop} (hf : f0 = nI M) (hM : M ≤ 80) (hx : x < 0 ∨ ∃ r, x = nI r ∧ M ≤ r ∧ r < 2 ^ 31) (H : Q 1) : wpX_noRevision Q (f0, a1, a2, a3, a4, a5, a6, a7, a8, a9, a10, a11, a12, a13, a14, a15, a16, a17, a18, a19, a20, a21, a22) x := by
  rcases hx with z | ⟨r, rfl, h1, h2⟩
  · exact br_t z H
  · exact br_f (nI_pos h2) (br_f (by rw [hf]; exact nI_nlt h1 h2) H)
theorem ds_q_rev0 {r : Nat} (hI : ds_I M rv kn lf cnt st cp B (f0, a1, a2, a3, a4, a5, a6, a7, a8, a9, a10, a11, a12, a13, a14, a15, a16, a17, a18, a19, a20, a21, a22)) (hr : r < M) (H : post (nI (ds_dc rv r))) : wpX_revision post (f0, a1, a2, a3, a4, a5, a6, a7, a8, a9, a10, a11, a12, a13, a14, a15, a16, a17, a18, a19, a20, a21, a22) (nI r) 0 := by
  obtain ⟨hR, hA, hC, hS, hK, hL, hT, hU, _⟩ := hI
  have hM := hR.1
  refine br_f (by decide) (br_t (by decide) ?_)
  refine ds_q_noRev0 hA.1 hR.1 hr ?_
  refine br_t rfl (br_t rfl ⟨vp_in_nI (by omega) (by omega), ?_⟩)
  rw [nI_clamp (by omega), (hA.2 r hr).1]
  exact H
theorem ds_q_revN {x : Int32} (hI : ds_I M rv kn lf cnt st cp B (f0, a1, a2, a3, a4, a5, a6, a7, a8, a9, a10, a11, a12, a13, a14, a15, a16, a17, a18, a19, a20, a21, a22)) (hx : x < 0 ∨ ∃ r, x = nI r ∧ M ≤ r ∧ r < 2 ^ 31) (H : post (-1000000003)) : wpX_revision post (f0, a1, a2, a3, a4, a5, a6, a7, a8, a9, a10, a11, a12, a13, a14, a15, a16, a17, a18, a19, a20, a21, a22) x 0 := by
  obtain ⟨hR, hA, hC, hS, hK, hL, hT, hU, _⟩ := hI
  refine br_f (by decide) (br_t (by decide) ?_)
  refine ds_q_noRev1 hA.1 hR.1 hx ?_
  exact br_f (by decide) H
theorem ds_q_rev3 {r : Nat} (hI : ds_I M rv kn lf cnt st cp B (f0, a1, a2, a3, a4, a5, a6, a7, a8, a9, a10, a11, a12, a13, a14, a15, a16, a17, a18, a19, a20, a21, a22)) (hr : r < M) (H : post (nI (ds_mk rv r))) : wpX_revision post (f0, a1, a2, a3, a4, a5, a6, a7, a8, a9, a10, a11, a12, a13, a14, a15, a16, a17, a18, a19, a20, a21, a22) (nI r) 3 := by
  obtain ⟨hR, hA, hC, hS, hK, hL, hT, hU, _⟩ := hI
  have hM := hR.1
  have m2 := (hR.2.1 r hr).2.2.1
  refine br_f (by decide) (br_t (by decide) ?_)
  refine ds_q_noRev0 hA.1 hR.1 hr ?_
  refine br_t rfl (br_f (by decide) (br_f (by decide) (br_f (by decide) ⟨vp_in_nI (by omega) (by omega), ?_⟩)))
  rw [nI_clamp (by omega), (hA.2 r hr).2.2.2.1]
  refine pk_eq (ds_mk rv r) 0 (fun z => ?_) (fun z => ?_)
  · rw [z] at H
    exact H
  · rw [show ds_mk rv r = 1 by omega] at H
    exact H
theorem ds_q_body {n r : Nat} (hI : ds_I M rv kn lf cnt st cp B (f0, a1, a2, a3, a4, a5, a6, a7, a8, a9, a10, a11, a12, a13, a14, a15, a16, a17, a18, a19, a20, a21, a22)) (hn : n < 3) (hr : r < 80) (H : post (ds_bv rv kn a11 n r)) : wpX_body post (f0, a1, a2, a3, a4, a5, a6, a7, a8, a9, a10, a11, a12, a13, a14, a15, a16, a17, a18, a19, a20, a21, a22) (nI n) (nI r) := by
  obtain ⟨hR, hA, hC, hS, hK, hL, hT, hU, _⟩ := hI
  have hM := hR.1
  have ix : vp_in (80 * nI n + nI r) 240 := by rw [ds_i80]; exact vp_in_nI (by omega) (by omega)
  have cx : (80 * nI n + nI r).toNatClampNeg = 80 * n + r := by rw [ds_i80]; exact nI_clamp (by omega)
  unfold ds_bv at H
  unfold wpX_body
  dsimp only
  refine ds_w_bs hn ?_
  refine br_t rfl ?_
  by_cases c : r < M
  · refine ds_q_noRev0 hA.1 hR.1 c ?_
    refine br_t rfl ⟨ix, ?_⟩
    rw [cx, (hK n r hn hr).1]
    refine br_c (fun z => ?_) (fun z => ⟨ix, ?_⟩)
    · rw [ds_b01.mp z] at H
      exact H
    · have kr : kn n r = true := by
        cases hk : kn n r with
        | true => rfl
        | false => exact absurd (ds_b01.mpr hk) z
      rw [if_pos kr] at H
      refine br_c (fun y => ?_) (fun y => ⟨vp_in_nI hr (by omega), ?_⟩)
      · rw [if_pos y] at H
        exact H
      · rw [if_neg y] at H
        rw [nI_clamp (by omega), (hA.2 r c).2.2.1]
        exact H
  · have kr : ¬ kn n r = true := fun z => c ((hS n hn).1 r z).1
    rw [if_neg kr] at H
    refine ds_q_noRev1 hA.1 hR.1 (Or.inr ⟨r, rfl, by omega, by omega⟩) ?_
    exact br_f (by decide) H
theorem ds_q_size {n : Nat} (hV : ds_VW W vw a17 a18 a19 a20) (hn : n < 3) (H : post (nI (vw n).length)) : wpX_size post (f0, a1, a2, a3, a4, a5, a6, a7, a8, a9, a10, a11, a12, a13, a14, a15, a16, a17, a18, a19, a20, a21, a22) (nI n) := by
  unfold wpX_size
  dsimp only
  refine ds_w_bs hn ?_
  refine br_t rfl ⟨vp_in_nI hn (by omega), ?_⟩
  rw [nI_clamp (by omega), (hV n hn).1]
  exact H
theorem ds_q_viewed {n k : Nat} (hV : ds_VW W vw a17 a18 a19 a20) (hn : n < 3) (hk : k < 8) (H : post (ds_on (vw n)[k]?)) : wpX_viewed post (f0, a1, a2, a3, a4, a5, a6, a7, a8, a9, a10, a11, a12, a13, a14, a15, a16, a17, a18, a19, a20, a21, a22) (nI n) (nI k) := by
  have len := ds_VW_len hV hn
  obtain ⟨g1, g2, _⟩ := hV n hn
  unfold wpX_viewed
  dsimp only
  refine ds_w_bs hn ?_
  refine br_t rfl (br_f (nI_pos (by omega)) ⟨vp_in_nI hn (by omega), ?_⟩)
  rw [nI_clamp (show n < 2 ^ 31 by omega), g1]
  refine pk_lt k (vw n).length (fun z => ⟨by rw [ds_i8]; exact vp_in_nI (by omega) (by omega), ?_⟩) (fun z => ?_)
  · rw [ds_i8, nI_clamp (by omega), g2 k _ (List.getElem?_eq_getElem z)]
    rw [List.getElem?_eq_getElem z] at H
    exact H
  · rw [List.getElem?_eq_none z] at H
    exact H
/-- the value at a place of the view -/
theorem ds_vat {n k d : Nat} (hV : ds_VW W vw a17 a18 a19 a20) (hn : n < 3) (h : (vw n)[k]? = some d) : d < 8 ∧ a18 (8 * n + k) = nI d ∧ a20 (8 * n + d) = nI ((W n d).getD 0) := by
  obtain ⟨g1, g2, g3, g4, g5⟩ := hV n hn
  obtain ⟨d8, dw⟩ := (g5 d).mp (List.mem_of_getElem? h)
  refine ⟨d8, g2 k d h, ?_⟩
  cases hw : W n d with
  | none => exact absurd hw dw
  | some v => exact ((g3 d d8).2 v hw).2
theorem ds_q_total15 {n : Nat} (hV : ds_VW W vw a17 a18 a19 a20) (hn : n < 3) : ∀ (s p : List Nat) (acc : Int32), vw n = p ++ s → post (ds_sum (fun d => nI ((W n d).getD 0)) s acc) → ∃ fu, wX_total_15 post (nI n) f0 a1 a2 a3 a4 a5 a6 a7 a8 a9 a10 a11 a12 a13 a14 a15 a16 a17 a18 a19 a20 a21 a22 fu acc (nI p.length) := by
  have len := ds_VW_len hV hn
  have in3 : vp_in (nI n) 3 := vp_in_nI hn (by omega)
  have cn : (nI n).toNatClampNeg = n := nI_clamp (by omega)
  have g1 := (hV n hn).1
  intro s
  induction s with
  | nil =>
    intro p acc e H
    rw [List.append_nil] at e
    refine ⟨1, in3, br_t ?_ H⟩
    rw [cn, g1, e]
    exact nI_le (Nat.le_refl _) (by rw [← e]; omega)
  | cons d s ih =>
    intro p acc e H
    have hl : (vw n).length = p.length + s.length + 1 := by rw [e, List.length_append, List.length_cons]; omega
    obtain ⟨d8, v1, v2⟩ := ds_vat (k := p.length) (d := d) hV hn (by rw [e, List.getElem?_append_right (Nat.le_refl _), Nat.sub_self, List.getElem?_cons_zero])
    obtain ⟨fu, hf⟩ := ih (p ++ [d]) (acc + nI ((W n d).getD 0)) (by rw [e]; simp) H
    rw [List.length_append, List.length_singleton] at hf
    have e1 : a18 (8 * nI n + nI p.length).toNatClampNeg = nI d := by rw [ds_i8, nI_clamp (by omega), v1]
    refine ⟨fu + 1, in3, br_f ?_ ⟨by rw [ds_i8]; exact vp_in_nI (by omega) (by omega), ?_⟩⟩
    · rw [cn, g1]
      exact nI_ge (by omega) (by omega)
    · rw [e1]
      refine ⟨by rw [ds_i8]; exact vp_in_nI (by omega) (by omega), nm_r (e' := acc + nI ((W n d).getD 0)) (by rw [ds_i8, nI_clamp (by omega), v2]) (nm_r (nI_1 _) hf)⟩
theorem ds_q_total {n : Nat} (hV : ds_VW W vw a17 a18 a19 a20) (hn : n < 3) (H : post (ds_sum (fun d => nI ((W n d).getD 0)) (vw n) 0)) : wpX_total post (f0, a1, a2, a3, a4, a5, a6, a7, a8, a9, a10, a11, a12, a13, a14, a15, a16, a17, a18, a19, a20, a21, a22) (nI n) := by
  unfold wpX_total
  dsimp only
  refine ds_w_bs hn ?_
  refine br_t rfl ?_
  exact ds_q_total15 hV hn (vw n) [] 0 rfl H
theorem ds_q_below24 {n : Nat} {x : Int32} (hV : ds_VW W vw a17 a18 a19 a20) (hn : n < 3) : ∀ (k lo hi : Nat), k ≤ 5 → lo ≤ 8 → hi ≤ (vw n).length → post (nI (ds_bel (fun k => nI ((W n ((vw n).getD k 0)).getD 0)) x k lo hi)) → ∃ fu, wX_below_24 post (nI n) x f0 a1 a2 a3 a4 a5 a6 a7 a8 a9 a10 a11 a12 a13 a14 a15 a16 a17 a18 a19 a20 a21 a22 fu (nI lo) (nI hi) (nI (5 - k)) := by
  have len := ds_VW_len hV hn
  intro k
  induction k with
  | zero =>
    intro lo hi _ _ _ H
    exact ⟨1, br_t (nI_le (a := 5) (Nat.le_refl _) (by omega)) H⟩
  | succ k ih =>
    intro lo hi hk hlo hhi H
    unfold ds_bel at H
    have big : ¬ (5 : Int32) ≤ nI (5 - (k + 1)) := nI_ge (b := 5) (by omega) (by omega)
    have en : nI (5 - (k + 1)) + 1 = nI (5 - k) := by rw [nI_1]; congr 1; omega
    by_cases c : lo < hi
    · rw [if_pos c] at H
      have ml : (lo + hi) / 2 < hi := by omega
      have esh : (nI lo + nI hi) >>> ((1 : Int32) &&& 31) = nI ((lo + hi) / 2) := by
        rw [nI_add, pk_shrN (by omega) _ 1 (by decide)]
      have hgd : (vw n).getD ((lo + hi) / 2) 0 = (vw n)[(lo + hi) / 2]'(by omega) := by
        rw [List.getD_eq_getElem?_getD, List.getElem?_eq_getElem (by omega)]
        rfl
      obtain ⟨d8, v1, v2⟩ := ds_vat (k := (lo + hi) / 2) (d := (vw n)[(lo + hi) / 2]'(by omega)) hV hn (List.getElem?_eq_getElem (by omega))
      rw [hgd] at H
      generalize (vw n)[(lo + hi) / 2]'(by omega) = dd at *
      generalize (lo + hi) / 2 = mid at *
      have e1 : a18 (8 * nI n + nI mid).toNatClampNeg = nI dd := by rw [ds_i8, nI_clamp (by omega), v1]
      have e2 : a20 (8 * nI n + nI dd).toNatClampNeg = nI ((W n dd).getD 0) := by rw [ds_i8, nI_clamp (by omega), v2]
      have i1 : vp_in (8 * nI n + nI mid) 24 := by rw [ds_i8]; exact vp_in_nI (by omega) (by omega)
      have i2 : vp_in (8 * nI n + nI dd) 24 := by rw [ds_i8]; exact vp_in_nI (by omega) (by omega)
      by_cases cx : x ≤ nI ((W n dd).getD 0)
      · rw [if_pos cx] at H
        obtain ⟨fu, hf⟩ := ih lo mid (by omega) hlo (by omega) H
        refine ⟨fu + 1, br_f big (br_f (nI_ge c (by omega)) (nm_r esh ⟨i1, ?_⟩))⟩
        rw [e1, e2]
        exact ⟨i2, br_t cx (nm_r en hf)⟩
      · rw [if_neg cx] at H
        obtain ⟨fu, hf⟩ := ih (mid + 1) hi (by omega) (by omega) hhi H
        refine ⟨fu + 1, br_f big (br_f (nI_ge c (by omega)) (nm_r esh ⟨i1, ?_⟩))⟩
        rw [e1, e2]
        exact ⟨i2, br_f cx (nm_r (nI_1 _) (nm_r en hf))⟩
    · rw [if_neg c] at H
      exact ⟨1, br_f big (br_t (nI_le (by omega) (by omega)) H)⟩
theorem ds_q_below {n : Nat} {x : Int32} (hV : ds_VW W vw a17 a18 a19 a20) (hn : n < 3) (H : post (nI (ds_bel (fun k => nI ((W n ((vw n).getD k 0)).getD 0)) x 5 0 (vw n).length))) : wpX_below post (f0, a1, a2, a3, a4, a5, a6, a7, a8, a9, a10, a11, a12, a13, a14, a15, a16, a17, a18, a19, a20, a21, a22) (nI n) x := by
  unfold wpX_below
  dsimp only
  refine ds_w_bs hn ?_
  refine br_t rfl ⟨vp_in_nI hn (by omega), nm_r (e' := nI (vw n).length) (by rw [nI_clamp (by omega), (hV n hn).1]) ?_⟩
  exact ds_q_below24 hV hn 5 0 (vw n).length (Nat.le_refl _) (by omega) (Nat.le_refl _) H
theorem ds_q_open5 {n d : Nat} (hI : ds_I M rv kn lf cnt st cp B (f0, a1, a2, a3, a4, a5, a6, a7, a8, a9, a10, a11, a12, a13, a14, a15, a16, a17, a18, a19, a20, a21, a22)) (hn : n < 3) (hd : d < 8) : ∀ (s p : List Nat) (acc : Nat), lf n d = p ++ s → post (nI (acc + s.countP (fun r => ds_mk rv r == 0))) → ∃ fu, wX_openLeaves_5 post (nI n) (nI d) f0 a1 a2 a3 a4 a5 a6 a7 a8 a9 a10 a11 a12 a13 a14 a15 a16 a17 a18 a19 a20 a21 a22 fu (nI acc) (nI p.length) := by
  obtain ⟨hR, hA, hC, hS, hK, hL, hT, hU, _⟩ := hI
  have hM := hR.1
  obtain ⟨l1, l2, l3⟩ := hL n d hn hd
  have ix : vp_in (8 * nI n + nI d) 24 := by rw [ds_i8]; exact vp_in_nI (by omega) (by omega)
  have cx : (8 * nI n + nI d).toNatClampNeg = 8 * n + d := by rw [ds_i8]; exact nI_clamp (by omega)
  intro s
  induction s with
  | nil =>
    intro p acc e H
    rw [List.append_nil] at e
    refine ⟨1, ix, br_t ?_ H⟩
    rw [cx, l2, e]
    exact nI_le (Nat.le_refl _) (by rw [← e]; omega)
  | cons y s ih =>
    intro p acc e H
    have hl : (lf n d).length = p.length + s.length + 1 := by rw [e, List.length_append, List.length_cons]; omega
    have hy : y < M := by
      have : y ∈ lf n d := by rw [e]; exact List.mem_append_right _ List.mem_cons_self
      exact ((hS n hn).1 y ((((hS n hn).2 d hd).2 y).mp this).1).1
    have ry : a13 (640 * n + 80 * d + p.length) = nI y := l3 _ _ (by rw [e, List.getElem?_append_right (Nat.le_refl _), Nat.sub_self, List.getElem?_cons_zero])
    have m2 := (hR.2.1 y hy).2.2.1
    have go : ¬ a12 (8 * nI n + nI d).toNatClampNeg ≤ nI p.length := by
      rw [cx, l2]
      exact nI_ge (by omega) (by omega)
    have cy : a4 (nI y).toNatClampNeg = nI (ds_mk rv y) := by rw [nI_clamp (by omega), (hA.2 y hy).2.2.2.1]
    by_cases c : ds_mk rv y = 0
    · rw [List.countP_cons_of_pos (by simp [c])] at H
      obtain ⟨fu, hf⟩ := ih (p ++ [y]) (acc + 1) (by rw [e]; simp) (by rw [show acc + 1 + s.countP (fun r => ds_mk rv r == 0) = acc + (s.countP (fun r => ds_mk rv r == 0) + 1) by omega]; exact H)
      rw [List.length_append, List.length_singleton] at hf
      refine ⟨fu + 1, ix, br_f go (ds_w_leafAt hn hd (by omega) ?_)⟩
      rw [ry]
      refine ⟨vp_in_nI (by omega) (by omega), br_t (by rw [cy, c]; rfl) (nm_r (nI_1 _) (nm_r (nI_1 _) hf))⟩
    · rw [List.countP_cons_of_neg (by simp [c])] at H
      obtain ⟨fu, hf⟩ := ih (p ++ [y]) acc (by rw [e]; simp) H
      rw [List.length_append, List.length_singleton] at hf
      refine ⟨fu + 1, ix, br_f go (ds_w_leafAt hn hd (by omega) ?_)⟩
      rw [ry]
      refine ⟨vp_in_nI (by omega) (by omega), br_f (by rw [cy]; exact nI_ne0 (by omega) (by omega)) (nm_r (nI_1 _) hf)⟩
theorem ds_q_conf {n : Nat} (hI : ds_I M rv kn lf cnt st cp B (f0, a1, a2, a3, a4, a5, a6, a7, a8, a9, a10, a11, a12, a13, a14, a15, a16, a17, a18, a19, a20, a21, a22)) (hn : n < 3) (H : post (nI ((List.range 8).countP (fun d => decide (1 < (lf n d).countP (fun r => ds_mk rv r == 0)))))) : wpX_conflicts post (f0, a1, a2, a3, a4, a5, a6, a7, a8, a9, a10, a11, a12, a13, a14, a15, a16, a17, a18, a19, a20, a21, a22) (nI n) := by
  unfold wpX_conflicts
  dsimp only
  refine ds_w_bs hn ?_
  refine br_t rfl ?_
  have main : ∀ (i j fu : Nat), j + i = 8 → i + 1 ≤ fu → wX_conflicts_15 post (nI n) f0 a1 a2 a3 a4 a5 a6 a7 a8 a9 a10 a11 a12 a13 a14 a15 a16 a17 a18 a19 a20 a21 a22 fu (nI ((List.range j).countP (fun d => decide (1 < (lf n d).countP (fun r => ds_mk rv r == 0))))) (nI j) := by
    intro i
    induction i with
    | zero =>
      intro j fu e hfu
      obtain ⟨fu', rfl⟩ : ∃ f, fu = f + 1 := ⟨fu - 1, by omega⟩
      have e2 : j = 8 := by omega
      subst e2
      exact br_t (nI_le (a := 8) (Nat.le_refl _) (by omega)) H
    | succ i ih =>
      intro j fu e hfu
      obtain ⟨fu', rfl⟩ : ∃ f, fu = f + 1 := ⟨fu - 1, by omega⟩
      have t := ih (j + 1) fu' (by omega) (by omega)
      have cl : (lf n j).countP (fun r => ds_mk rv r == 0) ≤ 80 := Nat.le_trans List.countP_le_length (hI.2.2.2.2.2.1 n j hn (by omega)).1
      refine br_f (nI_ge (b := 8) (by omega) (by omega)) (ds_q_open5 hI hn (by omega) (lf n j) [] 0 rfl ?_)
      rw [Nat.zero_add]
      rw [ds_cp_succ] at t
      refine pk_le _ 1 (fun z => nm_r (nI_1 j) ?_) (fun z => nm_r (nI_1 _) (nm_r (nI_1 j) ?_))
      · rw [if_neg (by simpa using z)] at t
        exact t
      · rw [if_pos (by simpa using z)] at t
        exact t
  exact ⟨9, main 8 0 9 (by omega) (by omega)⟩
theorem ds_q_agree {n m : Nat} (hI : ds_I M rv kn lf cnt st cp B (f0, a1, a2, a3, a4, a5, a6, a7, a8, a9, a10, a11, a12, a13, a14, a15, a16, a17, a18, a19, a20, a21, a22)) (hn : n < 3) (hm : m < 3) (h : ∀ r, kn n r = kn m r) (H : post 1) : wpX_agree post (f0, a1, a2, a3, a4, a5, a6, a7, a8, a9, a10, a11, a12, a13, a14, a15, a16, a17, a18, a19, a20, a21, a22) (nI n) (nI m) := by
  obtain ⟨hR, hA, hC, hS, hK, hL, hT, hU, _⟩ := hI
  have hM := hR.1
  have hf := hA.1
  unfold wpX_agree
  dsimp only
  refine ds_w_bs hn ?_
  refine br_t rfl ?_
  refine ds_w_bs hm ?_
  refine br_t rfl ?_
  have main : ∀ (i j : Nat), j + i = M → ∃ fu, wX_agree_23 post (nI n) (nI m) f0 a1 a2 a3 a4 a5 a6 a7 a8 a9 a10 a11 a12 a13 a14 a15 a16 a17 a18 a19 a20 a21 a22 fu 1 (nI j) := by
    intro i
    induction i with
    | zero =>
      intro j e
      have e2 : j = M := by omega
      subst e2
      exact ⟨1, br_t (by rw [hf]; exact nI_le (Nat.le_refl _) (by omega)) ⟨rfl, H⟩⟩
    | succ i ih =>
      intro j e
      obtain ⟨fu, t⟩ := ih (j + 1) (by omega)
      refine ⟨fu + 1, br_f (by rw [hf]; exact nI_ge (by omega) (by omega)) (br_f (by decide) ⟨by rw [ds_i80]; exact vp_in_nI (by omega) (by omega), by rw [ds_i80]; exact vp_in_nI (by omega) (by omega), br_t ?_ (nm_r (nI_1 j) t)⟩)⟩
      rw [ds_i80, ds_i80, nI_clamp (by omega), nI_clamp (by omega), (hK n j hn (by omega)).1, (hK m j hm (by omega)).1, h j]
  exact main M 0 (by omega)
end
end
section
section
variable {M : Nat} {rv : Nat → ds_N} {kn : Nat → Nat → Bool} {lf : Nat → Nat → List Nat} {cnt : Nat → Nat} {st cp : Nat → Nat → Nat} {B : Nat} {W : Nat → Nat → Option Nat} {vw : Nat → List Nat} {post : Int32 → Prop} {f0 : Int32} {a1 a2 a3 a4 a5 a6 a7 a8 a9 a10 a11 a12 a13 a14 a15 a16 a17 a18 a19 a20 a21 a22 : Nat → Int32}
theorem ds_lf_eq (hS : ds_PS M rv kn lf) {n m : Nat} (hn : n < 3) (hm : m < 3) (h : ∀ r, kn n r = kn m r) {d : Nat} (hd : d < 8) : lf n d = lf m d := by
  obtain ⟨s1, s2⟩ := (hS n hn).2 d hd
  obtain ⟨t1, t2⟩ := (hS m hm).2 d hd
  refine ds_uniq (ds_as (rv := rv)) s1 t1 (fun x => ?_)
  rw [s2, t2, h x]
  constructor
  · rintro ⟨z1, z2, z3⟩
    exact ⟨z1, z2, fun c hc => z3 c (by rw [h c]; exact hc)⟩
  · rintro ⟨z1, z2, z3⟩
    exact ⟨z1, z2, fun c hc => z3 c (by rw [← h c]; exact hc)⟩
theorem ds_vw_eq (hV : ds_VW W vw a17 a18 a19 a20) {n m : Nat} (hn : n < 3) (hm : m < 3) (h : ∀ d, d < 8 → W n d = W m d) : vw n = vw m := by
  obtain ⟨_, _, _, s4, s5⟩ := hV n hn
  obtain ⟨_, _, _, t4, t5⟩ := hV m hm
  refine ds_uniq (ds_vks (W n)) s4 (List.Pairwise.imp_of_mem (fun {a b} ha hb hab => ?_) t4) (fun x => ?_)
  · unfold ds_vk at hab ⊢
    rw [h a ((t5 a).mp ha).1, h b ((t5 b).mp hb).1]
    exact hab
  · rw [s5, t5]
    constructor
    · rintro ⟨z1, z2⟩
      exact ⟨z1, by rw [← h x z1]; exact z2⟩
    · rintro ⟨z1, z2⟩
      exact ⟨z1, by rw [h x z1]; exact z2⟩
theorem ds_sum_c {f g : Nat → Int32} : ∀ (l : List Nat) (acc : Int32), (∀ x, x ∈ l → f x = g x) → ds_sum f l acc = ds_sum g l acc := by
  intro l
  induction l with
  | nil => intro acc _; rfl
  | cons y l ih =>
    intro acc h
    show ds_sum f l (acc + f y) = ds_sum g l (acc + g y)
    rw [h y List.mem_cons_self]
    exact ih _ (fun x hx => h x (List.mem_cons_of_mem _ hx))
theorem ds_q_eq73 {n m d : Nat} {J : Int32 → Prop} (hI : ds_I M rv kn lf cnt st cp B (f0, a1, a2, a3, a4, a5, a6, a7, a8, a9, a10, a11, a12, a13, a14, a15, a16, a17, a18, a19, a20, a21, a22)) (hn : n < 3) (hm : m < 3) (hd : d < 8) (hl : lf n d = lf m d) (H : J (nI (d + 1))) : ∀ (i j : Nat), j + i = 6 → ∃ fu, wL_equal_73 post J (nI n) (nI m) (nI d) f0 a1 a2 a3 a4 a5 a6 a7 a8 a9 a10 a11 a12 a13 a14 a15 a16 a17 a18 a19 a20 a21 a22 fu (nI j) := by
  intro i
  induction i with
  | zero =>
    intro j e
    have e2 : j = 6 := by omega
    subst e2
    exact ⟨1, br_t (nI_le (a := 6) (Nat.le_refl _) (by omega)) (nm_r (nI_1 d) H)⟩
  | succ i ih =>
    intro j e
    obtain ⟨fu, t⟩ := ih (j + 1) (by omega)
    refine ⟨fu + 1, br_f (nI_ge (b := 6) (by omega) (by omega)) (ds_q_leaf hI hn hd (by omega) (ds_q_leaf hI hm hd (by omega) ?_))⟩
    rw [hl]
    exact br_t rfl (nm_r (nI_1 j) t)
theorem ds_q_equal {n m : Nat} (hI : ds_I M rv kn lf cnt st cp B (f0, a1, a2, a3, a4, a5, a6, a7, a8, a9, a10, a11, a12, a13, a14, a15, a16, a17, a18, a19, a20, a21, a22)) (hn : n < 3) (hm : m < 3) (h : ∀ r, kn n r = kn m r) (H : post 1) : wpL_equal post (f0, a1, a2, a3, a4, a5, a6, a7, a8, a9, a10, a11, a12, a13, a14, a15, a16, a17, a18, a19, a20, a21, a22) (nI n) (nI m) := by
  have hI' := hI
  obtain ⟨hR, hA, hC, hS, hK, hL, hT, hU, vw, hV⟩ := hI'
  have hlf : ∀ d, d < 8 → lf n d = lf m d := fun d hd => ds_lf_eq hS hn hm h hd
  have hW : ∀ d, d < 8 → ds_wv rv (lf n d) = ds_wv rv (lf m d) := fun d hd => by rw [hlf d hd]
  have hvw : vw n = vw m := ds_vw_eq hV hn hm hW
  have hmem : ∀ x, x ∈ vw m → x < 8 := fun x hx => (((hV m hm).2.2.2.2 x).mp hx).1
  have main : ∀ (i j fu : Nat), j + i = 8 → i + 1 ≤ fu → wL_equal_2 post (nI n) (nI m) f0 a1 a2 a3 a4 a5 a6 a7 a8 a9 a10 a11 a12 a13 a14 a15 a16 a17 a18 a19 a20 a21 a22 fu (nI j) := by
    intro i
    induction i with
    | zero =>
      intro j fu e hfu
      obtain ⟨fu', rfl⟩ : ∃ f, fu = f + 1 := ⟨fu - 1, by omega⟩
      have e2 : j = 8 := by omega
      subst e2
      refine br_t (nI_le (a := 8) (Nat.le_refl _) (by omega)) (ds_q_conf hI hn (ds_q_conf hI hm (br_t ?_ ?_)))
      · congr 1
        refine ds_cp_eq 8 (fun d hd => ?_)
        rw [hlf d hd]
      · refine ds_q_size hV hn (ds_q_size hV hm (br_t (by rw [hvw]) ?_))
        refine ds_q_total hV hn (ds_q_total hV hm (br_t ?_ H))
        rw [hvw]
        refine ds_sum_c _ _ (fun x hx => ?_)
        rw [hW x (hmem x hx)]
    | succ i ih =>
      intro j fu e hfu
      obtain ⟨fu', rfl⟩ : ∃ f, fu = f + 1 := ⟨fu - 1, by omega⟩
      have j8 : j < 8 := by omega
      have t := ih (j + 1) fu' (by omega) (by omega)
      refine br_f (nI_ge (b := 8) (by omega) (by omega)) (ds_q_winner hI hn j8 (ds_q_winner hI hm j8 (br_t (by rw [hlf j j8]) ?_)))
      refine ds_q_leaves hI hn j8 (ds_q_leaves hI hm j8 (br_t (by rw [hlf j j8]) ?_))
      refine ds_q_viewed hV hn j8 (ds_q_viewed hV hm j8 (br_t (by rw [hvw]) ?_))
      refine ds_q_below hV hn (ds_q_below hV hm (br_t ?_ ?_))
      · have e3 : (fun k => nI ((ds_wv rv (lf n ((vw n).getD k 0))).getD 0)) = (fun k => nI ((ds_wv rv (lf m ((vw m).getD k 0))).getD 0)) := by
          funext k
          rw [hvw]
          have d8 : (vw m).getD k 0 < 8 := by
            rw [List.getD_eq_getElem?_getD]
            cases hk : (vw m)[k]? with
            | none => show 0 < 8; omega
            | some x => exact hmem x (List.mem_of_getElem? hk)
          rw [hlf _ d8]
        rw [e3, hvw]
      · exact ds_q_eq73 hI hn hm j8 (hlf j j8) t 6 0 (by omega)
  exact ⟨9, main 8 0 9 (by omega) (by omega)⟩
end
end
section
/-! the law's end: copies and agreement -/
section
variable {M : Nat} {rv : Nat → ds_N} {post : Int32 → Prop} {L : Nat} {xs : Nat → Int32} {kc ks : Nat}
theorem ds_rem3 (j : Nat) (hj : j < 2 ^ 31) : nI j - nI j / 3 * 3 = nI (j % 3) := pk_rem (d := 3) hj (by omega) (by omega)
theorem ds_t_767 {kn : Nat → Nat → Bool} {lf : Nat → Nat → List Nat} {cnt : Nat → Nat} {st cp : Nat → Nat → Nat} {B n : Nat} {f0 : Int32} {a1 a2 a3 a4 a5 a6 a7 a8 a9 a10 a11 a12 a13 a14 a15 a16 a17 a18 a19 a20 a21 a22 : Nat → Int32} (hI : ds_I M rv kn lf cnt st cp B (f0, a1, a2, a3, a4, a5, a6, a7, a8, a9, a10, a11, a12, a13, a14, a15, a16, a17, a18, a19, a20, a21, a22)) (hn : n < 3) (H : post 1) : wL_law_767 post L xs (nI n) kc ks f0 a1 a2 a3 a4 a5 a6 a7 a8 a9 a10 a11 a12 a13 a14 a15 a16 a17 a18 a19 a20 a21 a22 := by
  obtain ⟨_, _, _, _, _, _, _, _, vw, hV⟩ := hI
  have len := ds_VW_len hV hn
  refine ds_q_size hV hn ?_
  exact pk_lt 8 (vw n).length (fun z => by omega) (fun z => H)
theorem ds_t_6 (kn : Nat → Nat → Bool) (r : Nat) :
    ds_mg (ds_mg (ds_mg (ds_mg (ds_mg (ds_mg kn 0 1) 1 2) 2 0) 1 0) 2 1) 0 2 0 r = ds_mg (ds_mg (ds_mg (ds_mg (ds_mg (ds_mg kn 0 1) 1 2) 2 0) 1 0) 2 1) 0 2 1 r ∧
    ds_mg (ds_mg (ds_mg (ds_mg (ds_mg (ds_mg kn 0 1) 1 2) 2 0) 1 0) 2 1) 0 2 1 r = ds_mg (ds_mg (ds_mg (ds_mg (ds_mg (ds_mg kn 0 1) 1 2) 2 0) 1 0) 2 1) 0 2 2 r := by
  simp only [ds_mg]
  cases h0 : kn 0 r <;> cases h1 : kn 1 r <;> cases h2 : kn 2 r <;> simp [h0, h1, h2]
theorem ds_t_656 {n : Nat} (hn : n < 3) (H : post 1) : ∀ (i j fu : Nat) (kn : Nat → Nat → Bool) (lf : Nat → Nat → List Nat) (cnt : Nat → Nat) (st cp : Nat → Nat → Nat) (B : Nat) (f0 : Int32) (a1 a2 a3 a4 a5 a6 a7 a8 a9 a10 a11 a12 a13 a14 a15 a16 a17 a18 a19 a20 a21 a22 : Nat → Int32), j + i = 4 → i + 1 ≤ fu → B + 8 * i ≤ 2000 → ds_I M rv kn lf cnt st cp B (f0, a1, a2, a3, a4, a5, a6, a7, a8, a9, a10, a11, a12, a13, a14, a15, a16, a17, a18, a19, a20, a21, a22) →
    wL_law_656 post L xs (nI n) 0 1 kc ks fu (nI j) f0 a1 a2 a3 a4 a5 a6 a7 a8 a9 a10 a11 a12 a13 a14 a15 a16 a17 a18 a19 a20 a21 a22 := by
  intro i
  induction i with
  | zero =>
    intro j fu kn lf cnt st cp B f0 a1 a2 a3 a4 a5 a6 a7 a8 a9 a10 a11 a12 a13 a14 a15 a16 a17 a18 a19 a20 a21 a22 e hfu hB hI
    obtain ⟨fu', rfl⟩ : ∃ f, fu = f + 1 := ⟨fu - 1, by omega⟩
    have e2 : j = 4 := by omega
    subst e2
    refine br_t (nI_le (a := 4) (Nat.le_refl _) (by omega)) ?_
    refine ds_w_copy (n := 0) (to := 1) hI (by omega) (by omega) (by omega) (by omega) (fun k1 l1 n1 s1 u h1 b1 _ _ => ?_)
    obtain ⟨f0, a1, a2, a3, a4, a5, a6, a7, a8, a9, a10, a11, a12, a13, a14, a15, a16, a17, a18, a19, a20, a21, a22⟩ := u
    refine ds_w_copy (n := 1) (to := 2) h1 (by omega) (by omega) (by omega) (by omega) (fun k2 l2 n2 s2 u h2 b2 _ _ => ?_)
    obtain ⟨f0, a1, a2, a3, a4, a5, a6, a7, a8, a9, a10, a11, a12, a13, a14, a15, a16, a17, a18, a19, a20, a21, a22⟩ := u
    refine ds_w_copy (n := 2) (to := 0) h2 (by omega) (by omega) (by omega) (by omega) (fun k3 l3 n3 s3 u h3 b3 _ _ => ?_)
    obtain ⟨f0, a1, a2, a3, a4, a5, a6, a7, a8, a9, a10, a11, a12, a13, a14, a15, a16, a17, a18, a19, a20, a21, a22⟩ := u
    refine ds_w_copy (n := 1) (to := 0) h3 (by omega) (by omega) (by omega) (by omega) (fun k4 l4 n4 s4 u h4 b4 _ _ => ?_)
    obtain ⟨f0, a1, a2, a3, a4, a5, a6, a7, a8, a9, a10, a11, a12, a13, a14, a15, a16, a17, a18, a19, a20, a21, a22⟩ := u
    refine ds_w_copy (n := 2) (to := 1) h4 (by omega) (by omega) (by omega) (by omega) (fun k5 l5 n5 s5 u h5 b5 _ _ => ?_)
    obtain ⟨f0, a1, a2, a3, a4, a5, a6, a7, a8, a9, a10, a11, a12, a13, a14, a15, a16, a17, a18, a19, a20, a21, a22⟩ := u
    refine ds_w_copy (n := 0) (to := 2) h5 (by omega) (by omega) (by omega) (by omega) (fun k6 l6 n6 s6 u h6 b6 _ _ => ?_)
    obtain ⟨f0, a1, a2, a3, a4, a5, a6, a7, a8, a9, a10, a11, a12, a13, a14, a15, a16, a17, a18, a19, a20, a21, a22⟩ := u
    refine nm_r (e' := nI (k1 + k2 + k3 + k4 + k5 + k6)) (by rw [nI_add, nI_add, nI_add, nI_add, nI_add]) ?_
    refine br_t rfl (br_f (by decide) ?_)
    refine pk_eq (k1 + k2 + k3 + k4 + k5 + k6) 0 (fun z => ?_) (fun z => ?_)
    · refine ds_q_agree (n := 0) (m := 1) h6 (by omega) (by omega) (fun r => (ds_t_6 kn r).1) (br_f (by decide) ?_)
      refine ds_q_agree (n := 1) (m := 2) h6 (by omega) (by omega) (fun r => (ds_t_6 kn r).2) (br_f (by decide) ?_)
      exact ds_t_767 h6 hn H
    · exact br_f (nI_nle (by omega) (by omega)) (ds_t_767 h6 hn H)
  | succ i ih =>
    intro j fu kn lf cnt st cp B f0 a1 a2 a3 a4 a5 a6 a7 a8 a9 a10 a11 a12 a13 a14 a15 a16 a17 a18 a19 a20 a21 a22 e hfu hB hI
    obtain ⟨fu', rfl⟩ : ∃ f, fu = f + 1 := ⟨fu - 1, by omega⟩
    refine br_f (nI_ge (b := 4) (by omega) (by omega)) ⟨by decide, by decide, ?_⟩
    rw [nI_1, ds_rem3 j (by omega), ds_rem3 (j + 1) (by omega)]
    refine ds_w_copy hI (by omega) (by omega) (by omega) (by omega) (fun k1 l1 n1 s1 u h1 b1 _ _ => ?_)
    obtain ⟨f0, a1, a2, a3, a4, a5, a6, a7, a8, a9, a10, a11, a12, a13, a14, a15, a16, a17, a18, a19, a20, a21, a22⟩ := u
    exact nm_e (ih (j + 1) fu' _ _ _ _ _ _ f0 a1 a2 a3 a4 a5 a6 a7 a8 a9 a10 a11 a12 a13 a14 a15 a16 a17 a18 a19 a20 a21 a22 (by omega) (by omega) (by omega) h1)
theorem ds_t_3 (kn : Nat → Nat → Bool) {n m : Nat} (h : n ≠ m) (r : Nat) : ds_mg (ds_mg (ds_mg kn n m) n m) m n n r = ds_mg (ds_mg (ds_mg kn n m) n m) m n m r := by
  have h' : m ≠ n := fun z => h z.symm
  simp only [ds_mg, if_pos, if_neg h, if_neg h']
  cases h0 : kn n r <;> cases h1 : kn m r <;> simp
end
end
section
/-! the law's looks at the bodies -/
def ds_lb (M : Nat) (rv : Nat → ds_N) (lf : Nat → Nat → List Nat) (n r : Nat) : Bool := decide (r < M) && decide (r ∈ lf n (ds_dc rv r))
def ds_fold (f : Nat → Int32) (b : Nat → Bool) : Nat → Int64
  | 0 => 0
  | r + 1 => if b r = true then ds_fold f b r * 31 + (f r).toInt64 else ds_fold f b r
theorem ds_fold_c {f g : Nat → Int32} {b : Nat → Bool} : ∀ N, (∀ r, r < N → b r = true → f r = g r) → ds_fold f b N = ds_fold g b N := by
  intro N
  induction N with
  | zero => intro _; rfl
  | succ N ih =>
    intro h
    have t := ih (fun r hr => h r (by omega))
    unfold ds_fold
    by_cases c : b N = true
    · rw [if_pos c, if_pos c, t, h N (by omega) c]
    · rw [if_neg c, if_neg c, t]
section
variable {M : Nat} {rv : Nat → ds_N} {kn : Nat → Nat → Bool} {lf : Nat → Nat → List Nat} {cnt : Nat → Nat} {st cp : Nat → Nat → Nat} {B : Nat} {post : Int32 → Prop} {L : Nat} {xs : Nat → Int32} {kc ks : Nat}
theorem ds_lb_iff {n r : Nat} (hr : r < M) : ds_lb M rv lf n r = true ↔ r ∈ lf n (ds_dc rv r) := by
  unfold ds_lb
  simp only [Bool.and_eq_true, decide_eq_true_eq]
  exact ⟨fun z => z.2, fun z => ⟨hr, z⟩⟩
/-- a leaf, by the count of known children -/
theorem ds_lb_kc (hR : ds_PR M rv) (hS : ds_PS M rv kn lf) {n r : Nat} (hn : n < 3) (hr : r < M) : ds_lb M rv lf n r = true ↔ kn n r = true ∧ ds_kc rv kn n r = 0 := by
  rw [ds_lb_iff hr, (((hS n hn).2 _ (hR.2.1 r hr).1).2 r), ds_kc_0]
  have hM := hR.1
  constructor
  · rintro ⟨z1, _, z3⟩
    exact ⟨z1, fun c _ hc => z3 c hc⟩
  · rintro ⟨z1, z2⟩
    exact ⟨z1, rfl, fun c hc => z2 c (by have := ((hS n hn).1 c hc).1; omega) hc⟩
variable {f0 : Int32} {a1 a2 a3 a4 a5 a6 a7 a8 a9 a10 a11 a12 a13 a14 a15 a16 a17 a18 a19 a20 a21 a22 : Nat → Int32}
/-- the search for a leaf: 446 -/
theorem ds_b_446 {J : Int64 → Int32 → Prop} {n r : Nat} {x2 x7 x8 x9 x10 x11 d : Int32} {x5 x12 : Int64} (hI : ds_I M rv kn lf cnt st cp B (f0, a1, a2, a3, a4, a5, a6, a7, a8, a9, a10, a11, a12, a13, a14, a15, a16, a17, a18, a19, a20, a21, a22)) (hn : n < 3) (hr : r < 80) (h30 : ∀ d, d < 8 → (lf n d).length ≤ 30)
    (hd : (r < M ∧ d = nI (ds_dc rv r)) ∨ (M ≤ r ∧ d = -1000000003))
    (H0 : ds_lb M rv lf n r = false → J x12 (nI (r + 1))) (H1 : ds_lb M rv lf n r = true → J (x12 * 31 + (ds_bv rv kn a11 n r).toInt64) (nI (r + 1))) :
    ∀ (i j : Nat) (x : Int32), j + i = 30 → (x = 0 ∧ (r < M → ∀ k, k < j → (lf n (ds_dc rv r))[k]? ≠ some r) ∨ (x = 1 ∧ ds_lb M rv lf n r = true)) →
      ∃ fu, wL_law_446 post L xs J x2 (nI n) x5 x7 x8 x9 x10 x11 x12 (nI r) d kc ks f0 a1 a2 a3 a4 a5 a6 a7 a8 a9 a10 a11 a12 a13 a14 a15 a16 a17 a18 a19 a20 a21 a22 fu x (nI j) := by
  have hR := hI.1
  have hS := hI.2.2.2.1
  intro i
  induction i with
  | zero =>
    intro j x e hx
    have e2 : j = 30 := by omega
    subst e2
    refine ⟨1, br_t (nI_le (a := 30) (Nat.le_refl _) (by omega)) ?_⟩
    rcases hx with ⟨rfl, h⟩ | ⟨rfl, h⟩
    · refine br_t rfl (nm_r (nI_1 r) (H0 ?_))
      rw [Bool.eq_false_iff]
      intro z
      unfold ds_lb at z
      simp only [Bool.and_eq_true, decide_eq_true_eq] at z
      obtain ⟨k, hk⟩ := List.getElem?_of_mem z.2
      have kl := (List.getElem?_eq_some_iff.mp hk).1
      have := h30 _ (hR.2.1 r z.1).1
      exact h z.1 k (by omega) hk
    · exact br_f (by decide) (ds_q_body hI hn hr (nm_e (nm_r (nI_1 r) (H1 h))))
  | succ i ih =>
    intro j x e hx
    have go : ¬ (30 : Int32) ≤ nI j := nI_ge (b := 30) (by omega) (by omega)
    rcases hx with ⟨rfl, h⟩ | ⟨rfl, h⟩
    · rcases hd with ⟨rM, rfl⟩ | ⟨rM, rfl⟩
      · have d8 := (hR.2.1 r rM).1
        by_cases c : (lf n (ds_dc rv r)).length ≤ j
        · obtain ⟨fu, t⟩ := ih (j + 1) 0 (by omega) (Or.inl ⟨rfl, fun _ k hk z => by
            have kl := (List.getElem?_eq_some_iff.mp z).1
            exact h rM k (by omega) z⟩)
          refine ⟨fu + 1, br_f go (br_t rfl (br_f (nI_pos (by omega)) (ds_q_leaves hI hn d8 (br_t (nI_le c (by omega)) (nm_r (nI_1 j) t)))))⟩
        · have l30 := h30 _ d8
          have jl : j < (lf n (ds_dc rv r)).length := by omega
          have gj : (lf n (ds_dc rv r))[j]? = some ((lf n (ds_dc rv r))[j]) := List.getElem?_eq_getElem jl
          have mem := List.getElem_mem jl
          have lM : (lf n (ds_dc rv r))[j] < M := ((hS n hn).1 _ ((((hS n hn).2 _ d8).2 _).mp mem).1).1
          have hM := hR.1
          by_cases c2 : (lf n (ds_dc rv r))[j] = r
          · obtain ⟨fu, t⟩ := ih (j + 1) 1 (by omega) (Or.inr ⟨rfl, (ds_lb_iff rM).mpr (by rw [c2] at mem; exact mem)⟩)
            refine ⟨fu + 1, br_f go (br_t rfl (br_f (nI_pos (by omega)) (ds_q_leaves hI hn d8 (br_f (nI_ge jl (by omega)) (ds_q_leaf hI hn d8 (by omega) ?_)))))⟩
            rw [gj, c2]
            exact br_t rfl (nm_r (nI_1 j) t)
          · obtain ⟨fu, t⟩ := ih (j + 1) 0 (by omega) (Or.inl ⟨rfl, fun _ k hk z => by
              by_cases ek : k = j
              · subst ek
                rw [gj, Option.some.injEq] at z
                exact c2 z
              · exact h rM k (by omega) z⟩)
            refine ⟨fu + 1, br_f go (br_t rfl (br_f (nI_pos (by omega)) (ds_q_leaves hI hn d8 (br_f (nI_ge jl (by omega)) (ds_q_leaf hI hn d8 (by omega) ?_)))))⟩
            rw [gj]
            exact br_f (fun z => c2 ((nI_eq (by omega) (by omega)).mp z)) (nm_r (nI_1 j) t)
      · obtain ⟨fu, t⟩ := ih (j + 1) 0 (by omega) (Or.inl ⟨rfl, fun z => by omega⟩)
        exact ⟨fu + 1, br_f go (br_t rfl (br_t ds_neg (nm_r (nI_1 j) t)))⟩
    · obtain ⟨fu, t⟩ := ih (j + 1) 1 (by omega) (Or.inr ⟨rfl, h⟩)
      exact ⟨fu + 1, br_f go (br_f (by decide) (nm_r (nI_1 j) t))⟩
/-- the search for a leaf: 277 -/
theorem ds_b_277 {J : Int64 → Int32 → Int32 → Prop} {n r g : Nat} {x2 d : Int32} {x5 : Int64} (hI : ds_I M rv kn lf cnt st cp B (f0, a1, a2, a3, a4, a5, a6, a7, a8, a9, a10, a11, a12, a13, a14, a15, a16, a17, a18, a19, a20, a21, a22)) (hn : n < 3) (hr : r < 80) (h30 : ∀ d, d < 8 → (lf n d).length ≤ 30)
    (hd : (r < M ∧ d = nI (ds_dc rv r)) ∨ (M ≤ r ∧ d = -1000000003))
    (H : J (if ds_lb M rv lf n r = true then x5 * 31 + (ds_bv rv kn a11 n r).toInt64 else x5) (nI (g + if (kn n r && decide (¬ a11 (80 * n + r) = 0) && !ds_lb M rv lf n r) = true then 1 else 0)) (nI (r + 1))) :
    ∀ (i j : Nat) (x : Int32), j + i = 30 → (x = 0 ∧ (r < M → ∀ k, k < j → (lf n (ds_dc rv r))[k]? ≠ some r) ∨ (x = 1 ∧ ds_lb M rv lf n r = true)) →
      ∃ fu, wL_law_277 post L xs J x2 (nI n) x5 (nI g) (nI r) (ds_bv rv kn a11 n r) d kc ks f0 a1 a2 a3 a4 a5 a6 a7 a8 a9 a10 a11 a12 a13 a14 a15 a16 a17 a18 a19 a20 a21 a22 fu x (nI j) := by
  have hR := hI.1
  have hS := hI.2.2.2.1
  have hM := hR.1
  have bvle : ds_bv rv kn a11 n r ≤ -1000000003 ↔ ¬ (kn n r = true ∧ ¬ a11 (80 * n + r) = 0) := by
    unfold ds_bv
    by_cases k : kn n r = true
    · rw [if_pos k]
      by_cases a : a11 (80 * n + r) = 0
      · rw [if_pos a]
        exact ⟨fun _ z => z.2 a, fun _ => by decide⟩
      · rw [if_neg a]
        refine ⟨fun z => ?_, fun z => absurd ⟨k, a⟩ z⟩
        have v4 := (hR.2.1 r ((hS n hn).1 r k).1).2.1
        have z1 := Int32.le_iff_toInt_le.mp z
        rw [nI_toInt (by omega)] at z1
        have z2 : (-1000000003 : Int32).toInt = -1000000003 := by decide
        omega
    · rw [if_neg k]
      exact ⟨fun _ z => k z.1, fun _ => by decide⟩
  intro i
  induction i with
  | zero =>
    intro j x e hx
    have e2 : j = 30 := by omega
    subst e2
    refine ⟨1, br_t (nI_le (a := 30) (Nat.le_refl _) (by omega)) ?_⟩
    rcases hx with ⟨rfl, h⟩ | ⟨rfl, h⟩
    · have nl : ds_lb M rv lf n r = false := by
        rw [Bool.eq_false_iff]
        intro z
        unfold ds_lb at z
        simp only [Bool.and_eq_true, decide_eq_true_eq] at z
        obtain ⟨k, hk⟩ := List.getElem?_of_mem z.2
        have kl := (List.getElem?_eq_some_iff.mp hk).1
        have := h30 _ (hR.2.1 r z.1).1
        exact h z.1 k (by omega) hk
      rw [nl] at H
      refine br_c (fun z => br_t rfl (nm_r (nI_1 r) ?_)) (fun z => br_t rfl (br_t rfl (nm_r (nI_1 r) ?_)))
      · have f : (kn n r && decide (¬ a11 (80 * n + r) = 0) && !false) = false := by
          rw [Bool.eq_false_iff]
          intro w
          simp only [Bool.and_eq_true, decide_eq_true_eq] at w
          exact bvle.mp z w.1
        rw [f] at H
        exact H
      · have f : (kn n r && decide (¬ a11 (80 * n + r) = 0) && !false) = true := by
          have w : kn n r = true ∧ ¬ a11 (80 * n + r) = 0 := Classical.byContradiction (fun y => z (bvle.mpr y))
          simp [w.1, w.2]
        rw [f, if_pos rfl, ← nI_1] at H
        exact H
    · rw [h] at H
      have f : (kn n r && decide (¬ a11 (80 * n + r) = 0) && !true) = false := by simp
      rw [f] at H
      have fin : wL_law_354 post L xs J x2 (nI n) x5 (nI g) (nI r) (ds_bv rv kn a11 n r) 1 kc ks f0 a1 a2 a3 a4 a5 a6 a7 a8 a9 a10 a11 a12 a13 a14 a15 a16 a17 a18 a19 a20 a21 a22 := br_f (by decide) (nm_e (nm_r (nI_1 r) H))
      exact br_c (fun _ => fin) (fun _ => br_f (by decide) fin)
  | succ i ih =>
    intro j x e hx
    have go : ¬ (30 : Int32) ≤ nI j := nI_ge (b := 30) (by omega) (by omega)
    rcases hx with ⟨rfl, h⟩ | ⟨rfl, h⟩
    · rcases hd with ⟨rM, rfl⟩ | ⟨rM, rfl⟩
      · have d8 := (hR.2.1 r rM).1
        by_cases c : (lf n (ds_dc rv r)).length ≤ j
        · obtain ⟨fu, t⟩ := ih (j + 1) 0 (by omega) (Or.inl ⟨rfl, fun _ k hk z => by
            have kl := (List.getElem?_eq_some_iff.mp z).1
            exact h rM k (by omega) z⟩)
          refine ⟨fu + 1, br_f go (br_t rfl (br_f (nI_pos (by omega)) (ds_q_leaves hI hn d8 (br_t (nI_le c (by omega)) (nm_r (nI_1 j) t)))))⟩
        · have l30 := h30 _ d8
          have jl : j < (lf n (ds_dc rv r)).length := by omega
          have gj : (lf n (ds_dc rv r))[j]? = some ((lf n (ds_dc rv r))[j]) := List.getElem?_eq_getElem jl
          have mem := List.getElem_mem jl
          have lM : (lf n (ds_dc rv r))[j] < M := ((hS n hn).1 _ ((((hS n hn).2 _ d8).2 _).mp mem).1).1
          by_cases c2 : (lf n (ds_dc rv r))[j] = r
          · obtain ⟨fu, t⟩ := ih (j + 1) 1 (by omega) (Or.inr ⟨rfl, (ds_lb_iff rM).mpr (by rw [c2] at mem; exact mem)⟩)
            refine ⟨fu + 1, br_f go (br_t rfl (br_f (nI_pos (by omega)) (ds_q_leaves hI hn d8 (br_f (nI_ge jl (by omega)) (ds_q_leaf hI hn d8 (by omega) ?_)))))⟩
            rw [gj, c2]
            exact br_t rfl (nm_r (nI_1 j) t)
          · obtain ⟨fu, t⟩ := ih (j + 1) 0 (by omega) (Or.inl ⟨rfl, fun _ k hk z => by
              by_cases ek : k = j
              · subst ek
                rw [gj, Option.some.injEq] at z
                exact c2 z
              · exact h rM k (by omega) z⟩)
            refine ⟨fu + 1, br_f go (br_t rfl (br_f (nI_pos (by omega)) (ds_q_leaves hI hn d8 (br_f (nI_ge jl (by omega)) (ds_q_leaf hI hn d8 (by omega) ?_)))))⟩
            rw [gj]
            exact br_f (fun z => c2 ((nI_eq (by omega) (by omega)).mp z)) (nm_r (nI_1 j) t)
      · obtain ⟨fu, t⟩ := ih (j + 1) 0 (by omega) (Or.inl ⟨rfl, fun z => by omega⟩)
        exact ⟨fu + 1, br_f go (br_t rfl (br_t ds_neg (nm_r (nI_1 j) t)))⟩
    · obtain ⟨fu, t⟩ := ih (j + 1) 1 (by omega) (Or.inr ⟨rfl, h⟩)
      exact ⟨fu + 1, br_f go (br_f (by decide) (nm_r (nI_1 j) t))⟩
/-- revision(r, 0) for any r of the law's loops -/
theorem ds_b_rev {Q : Int32 → Prop} {r : Nat} (hI : ds_I M rv kn lf cnt st cp B (f0, a1, a2, a3, a4, a5, a6, a7, a8, a9, a10, a11, a12, a13, a14, a15, a16, a17, a18, a19, a20, a21, a22)) (hr : r < 80) (H : ∀ d, ((r < M ∧ d = nI (ds_dc rv r)) ∨ (M ≤ r ∧ d = -1000000003)) → Q d) : wpX_revision Q (f0, a1, a2, a3, a4, a5, a6, a7, a8, a9, a10, a11, a12, a13, a14, a15, a16, a17, a18, a19, a20, a21, a22) (nI r) 0 := by
  by_cases c : r < M
  · exact ds_q_rev0 hI c (H _ (Or.inl ⟨c, rfl⟩))
  · exact ds_q_revN hI (Or.inr ⟨r, rfl, by omega, by omega⟩) (H _ (Or.inr ⟨by omega, rfl⟩))
end
end
section
/-! one turn of the script -/
section
variable {M : Nat} {rv : Nat → ds_N} {kn : Nat → Nat → Bool} {lf : Nat → Nat → List Nat} {cnt : Nat → Nat} {st cp : Nat → Nat → Nat} {B : Nat}
theorem ds_I_B {B' : Nat} {u : St1} (hI : ds_I M rv kn lf cnt st cp B u) (h : B ≤ B') : ds_I M rv kn lf cnt st cp B' u := by
  obtain ⟨f0, a1, a2, a3, a4, a5, a6, a7, a8, a9, a10, a11, a12, a13, a14, a15, a16, a17, a18, a19, a20, a21, a22⟩ := u
  obtain ⟨hR, hA, hC, hS, hK, hL, hT, hU, vw, hV⟩ := hI
  exact ⟨hR, hA, hC, hS, hK, hL, fun n hn => ⟨Nat.le_trans (hT n hn).1 h, (hT n hn).2⟩, hU, vw, hV⟩
variable {f0 : Int32} {a1 a2 a3 a4 a5 a6 a7 a8 a9 a10 a11 a12 a13 a14 a15 a16 a17 a18 a19 a20 a21 a22 : Nat → Int32}
theorem ds_w_turn {post : Int32 → St1 → Prop} {c p : Nat} {op x : Int32} (hI : ds_I M rv kn lf cnt st cp B (f0, a1, a2, a3, a4, a5, a6, a7, a8, a9, a10, a11, a12, a13, a14, a15, a16, a17, a18, a19, a20, a21, a22)) (hG : ds_GB M rv kn lf c p) (hM8 : M < 80) (hB : B < 2 ^ 30)
    (H : ∀ r M' rv' kn' lf' cnt' st' cp' c' p' u, ds_I M' rv' kn' lf' cnt' st' cp' (B + 8) u → ds_GB M' rv' kn' lf' c' p' → M' + c' + p' ≤ M + c + p + 1 → (∀ n, cnt n ≤ cnt' n) → post r u) :
    wpL_turn post (f0, a1, a2, a3, a4, a5, a6, a7, a8, a9, a10, a11, a12, a13, a14, a15, a16, a17, a18, a19, a20, a21, a22) op x 1 := by
  obtain ⟨jn, jn4, en⟩ := pk_andE x (m := 3) 2 (by decide)
  obtain ⟨d, d2, ed⟩ := pk_andE (x >>> ((2 : Int32) &&& 31)) (m := 1) 1 (by decide)
  obtain ⟨v, v4, ev⟩ := pk_andE (x >>> ((3 : Int32) &&& 31)) (m := 3) 2 (by decide)
  obtain ⟨k, k2, ek⟩ := pk_andE (x >>> ((5 : Int32) &&& 31)) (m := 1) 1 (by decide)
  have hn : jn % 3 < 3 := Nat.mod_lt _ (by omega)
  have en3 : (x &&& 3) - (x &&& 3) / 3 * 3 = nI (jn % 3) := by rw [en]; exact ds_rem3 jn (by omega)
  generalize jn % 3 = n at *
  have hd : d < 8 := by omega
  have same : ∀ r, post r (f0, a1, a2, a3, a4, a5, a6, a7, a8, a9, a10, a11, a12, a13, a14, a15, a16, a17, a18, a19, a20, a21, a22) := fun r => H r M rv kn lf cnt st cp c p _ (ds_I_B hI (by omega)) hG (by omega) (fun _ => Nat.le_refl _)
  have ed1 : ∀ r M' rv' kn' lf' st' u, ds_E M rv kn lf n d M' rv' kn' → ds_I M' rv' kn' lf' (ds_u1 cnt n (cnt n + 1)) st' cp (B + 1) u → post r u := by
    intro r M' rv' kn' lf' st' u hE hu
    obtain ⟨f0, a1, a2, a3, a4, a5, a6, a7, a8, a9, a10, a11, a12, a13, a14, a15, a16, a17, a18, a19, a20, a21, a22⟩ := u
    have g := ds_GB_edit hG hI.1 hI.2.2.2.1 hu.2.2.2.1 hu.1 hn hd hE
    refine H r M' rv' kn' lf' _ st' cp c p _ (ds_I_B hu (by omega)) g.1 (by have := g.2; omega) (fun n' => ?_)
    by_cases e : n' = n
    · rw [e, ds_u1s]; omega
    · rw [ds_u1n e]; exact Nat.le_refl _
  have cpy : wL_turn_99 post x (nI n) f0 a1 a2 a3 a4 a5 a6 a7 a8 a9 a10 a11 a12 a13 a14 a15 a16 a17 a18 a19 a20 a21 a22 := by
    refine ⟨by decide, ?_⟩
    rw [ek, nI_1, nI_add, ds_rem3 _ (by omega)]
    refine ds_w_copy hI hn (Nat.mod_lt _ (by omega)) (by omega) hB (fun k1 l1 n1 s1 u h1 _ _ c1 => ?_)
    obtain ⟨f0, a1, a2, a3, a4, a5, a6, a7, a8, a9, a10, a11, a12, a13, a14, a15, a16, a17, a18, a19, a20, a21, a22⟩ := u
    exact H _ M rv _ l1 n1 s1 _ (c + 1) p _ h1 (ds_GB_copy hG hI.2.2.2.1 h1.2.2.2.1 hn (Nat.mod_lt _ (by omega)) (by omega)) (by omega) c1
  refine nm_e ⟨by decide, nm_r en3 (nm_r ed (nm_r ev ?_))⟩
  refine br_c (fun _ => br_c (fun _ => br_c (fun _ => br_c (fun _ => cpy) (fun _ => br_f (by decide) (br_c (fun _ => ?_) (fun _ => ?_)))) (fun _ => ?_)) (fun _ => ?_)) (fun _ => ?_)
  · exact ds_w_compact hI hn (fun b hb _ => H _ M rv kn lf cnt st cp c p _ (ds_I_B hb (by omega)) hG (by omega) (fun _ => Nat.le_refl _))
  · refine ds_w_purge hI hn hd (fun u hu => ?_) (fun k' lf' st' cp' u hu => ?_)
    · obtain ⟨f0, a1, a2, a3, a4, a5, a6, a7, a8, a9, a10, a11, a12, a13, a14, a15, a16, a17, a18, a19, a20, a21, a22⟩ := u
      exact H _ M rv kn lf cnt st cp c p _ (ds_I_B hu (by omega)) hG (by omega) (fun _ => Nat.le_refl _)
    · obtain ⟨f0, a1, a2, a3, a4, a5, a6, a7, a8, a9, a10, a11, a12, a13, a14, a15, a16, a17, a18, a19, a20, a21, a22⟩ := u
      exact H _ M rv _ lf' cnt st' cp' c (p + 1) _ (ds_I_B hu (by omega)) (ds_GB_purge hG hI.1 hI.2.2.2.1 hu.2.2.2.1 hn) (by omega) (fun _ => Nat.le_refl _)
  · rw [ek]
    refine ds_w_delete hI hn hd (by omega) hM8 same (fun r M' rv' kn' lf' st' u hE hu => ?_)
    obtain ⟨f0, a1, a2, a3, a4, a5, a6, a7, a8, a9, a10, a11, a12, a13, a14, a15, a16, a17, a18, a19, a20, a21, a22⟩ := u
    exact ed1 r M' rv' kn' lf' st' _ hE hu
  · rw [ek]
    refine ds_w_editLeaf hI hn hd (by omega) (by omega) hM8 same (fun r M' rv' kn' lf' st' u hE hu => ?_)
    obtain ⟨f0, a1, a2, a3, a4, a5, a6, a7, a8, a9, a10, a11, a12, a13, a14, a15, a16, a17, a18, a19, a20, a21, a22⟩ := u
    exact ed1 r M' rv' kn' lf' st' _ hE hu
  · refine ds_w_edit hI hn hd (by omega) hM8 (fun r M' rv' kn' lf' st' u hE hu => ?_)
    obtain ⟨f0, a1, a2, a3, a4, a5, a6, a7, a8, a9, a10, a11, a12, a13, a14, a15, a16, a17, a18, a19, a20, a21, a22⟩ := u
    exact ed1 r M' rv' kn' lf' st' _ hE hu
end
end
section
/-! the law -/
section
variable {M : Nat} {rv : Nat → ds_N} {kn : Nat → Nat → Bool} {lf : Nat → Nat → List Nat} {cnt : Nat → Nat} {st cp : Nat → Nat → Nat} {B : Nat} {post : Int32 → Prop} {L : Nat} {xs : Nat → Int32} {kc ks : Nat} {f0 : Int32} {a1 a2 a3 a4 a5 a6 a7 a8 a9 a10 a11 a12 a13 a14 a15 a16 a17 a18 a19 a20 a21 a22 : Nat → Int32}
theorem ds_c_424 {n : Nat} {vw : Nat → List Nat} {x2 x7 x10 : Int32} {x5 : Int64} (hI : ds_I M rv kn lf cnt st cp B (f0, a1, a2, a3, a4, a5, a6, a7, a8, a9, a10, a11, a12, a13, a14, a15, a16, a17, a18, a19, a20, a21, a22)) (hV : ds_VW (fun n d => ds_wv rv (lf n d)) vw a17 a18 a19 a20) (hB : B ≤ 1000) (hn : n < 3) (h30 : ∀ d, d < 8 → (lf n d).length ≤ 30) (H : post 1)
    (h10 : x10 = x7) (h5 : ds_fold (ds_bv rv kn a11 n) (ds_lb M rv lf n) 80 = x5) :
    ∀ (i j fu : Nat), j + i = 80 → i + 1 ≤ fu → wL_law_424 post L xs x2 (nI n) x5 x7 (ds_sum (fun d => nI ((ds_wv rv (lf n d)).getD 0)) (vw n) 0) (nI (vw n).length) x10 0 kc ks f0 a1 a2 a3 a4 a5 a6 a7 a8 a9 a10 a11 a12 a13 a14 a15 a16 a17 a18 a19 a20 a21 a22 fu (ds_fold (ds_bv rv kn a11 n) (ds_lb M rv lf n) j) (nI j) := by
  intro i
  induction i with
  | zero =>
    intro j fu e hfu
    obtain ⟨fu', rfl⟩ : ∃ f, fu = f + 1 := ⟨fu - 1, by omega⟩
    have e2 : j = 80 := by omega
    subst e2
    obtain ⟨b, b2, eb⟩ := pk_andE (x2 >>> ((2 : Int32) &&& 31)) (m := 1) 1 (by decide)
    refine br_t (nI_le (a := 80) (Nat.le_refl _) (by omega)) (br_t h10 (br_t rfl (br_t h5 ?_)))
    refine ds_q_total hV hn (br_t rfl ?_)
    refine ds_q_size hV hn (br_t rfl ⟨by decide, nm_r (e' := nI ((n + 1 + b) % 3)) ?_ ?_⟩)
    · rw [eb, nI_1, nI_add]
      exact ds_rem3 _ (by omega)
    have hm : (n + 1 + b) % 3 < 3 := Nat.mod_lt _ (by omega)
    have hnm : n ≠ (n + 1 + b) % 3 := by omega
    generalize (n + 1 + b) % 3 = m at *
    refine ds_w_copy hI hn hm hnm (by omega) (fun k1 l1 n1 s1 u h1 b1 _ _ => ?_)
    obtain ⟨f0, a1, a2, a3, a4, a5, a6, a7, a8, a9, a10, a11, a12, a13, a14, a15, a16, a17, a18, a19, a20, a21, a22⟩ := u
    refine ds_w_copy h1 hn hm hnm (by omega) (fun k2 l2 n2 s2 u h2 b2 z2 _ => ?_)
    have k0 : k2 = 0 := z2 (fun d hd => by
      rw [ds_u2s]
      exact ((h1.2.2.2.2.2.2.1 n hn).2.1 d hd).1)
    subst k0
    obtain ⟨f0, a1, a2, a3, a4, a5, a6, a7, a8, a9, a10, a11, a12, a13, a14, a15, a16, a17, a18, a19, a20, a21, a22⟩ := u
    refine ds_w_copy h2 hm hn (fun z => hnm z.symm) (by omega) (fun k3 l3 n3 s3 u h3 b3 _ _ => ?_)
    obtain ⟨f0, a1, a2, a3, a4, a5, a6, a7, a8, a9, a10, a11, a12, a13, a14, a15, a16, a17, a18, a19, a20, a21, a22⟩ := u
    have ag := ds_t_3 kn hnm
    refine ds_q_agree h3 hn hm ag (br_f (by decide) ?_)
    refine ds_q_equal h3 hn hm ag (br_f (by decide) ?_)
    exact ⟨5, ds_t_656 hn H 4 0 5 _ _ _ _ _ _ f0 a1 a2 a3 a4 a5 a6 a7 a8 a9 a10 a11 a12 a13 a14 a15 a16 a17 a18 a19 a20 a21 a22 (by omega) (by omega) (by omega) h3⟩
  | succ i ih =>
    intro j fu e hfu
    obtain ⟨fu', rfl⟩ : ∃ f, fu = f + 1 := ⟨fu - 1, by omega⟩
    have t := ih (j + 1) fu' (by omega) (by omega)
    refine br_f (nI_ge (b := 80) (by omega) (by omega)) (ds_b_rev hI (by omega) (fun d hd => ?_))
    refine ds_b_446 hI hn (by omega) h30 hd (fun z => ?_) (fun z => ?_) 30 0 0 (by omega) (Or.inl ⟨rfl, fun _ k hk => by omega⟩)
    · unfold ds_fold at t
      rw [if_neg (by rw [z]; decide)] at t
      exact t
    · unfold ds_fold at t
      rw [if_pos z] at t
      exact t
theorem ds_c_245 {n : Nat} {x2 : Int32} (hI : ds_I M rv kn lf cnt st cp B (f0, a1, a2, a3, a4, a5, a6, a7, a8, a9, a10, a11, a12, a13, a14, a15, a16, a17, a18, a19, a20, a21, a22)) (hB : B ≤ 1000) (hn : n < 3) (h30 : ∀ d, d < 8 → (lf n d).length ≤ 30) (H : post 1) :
    ∀ (i j fu : Nat), j + i = 80 → i + 1 ≤ fu → wL_law_245 post L xs x2 (nI n) kc ks f0 a1 a2 a3 a4 a5 a6 a7 a8 a9 a10 a11 a12 a13 a14 a15 a16 a17 a18 a19 a20 a21 a22 fu (ds_fold (ds_bv rv kn a11 n) (ds_lb M rv lf n) j) (nI ((List.range j).countP (fun r => kn n r && decide (¬ a11 (80 * n + r) = 0) && !ds_lb M rv lf n r))) (nI j) := by
  have hI' := hI
  obtain ⟨hR, hA, hC, hS, hK, hL, hT, hU, vw, hV⟩ := hI'
  have hM := hR.1
  intro i
  induction i with
  | zero =>
    intro j fu e hfu
    obtain ⟨fu', rfl⟩ : ∃ f, fu = f + 1 := ⟨fu - 1, by omega⟩
    have e2 : j = 80 := by omega
    subst e2
    refine br_t (nI_le (a := 80) (Nat.le_refl _) (by omega)) (ds_q_total hV hn (ds_q_size hV hn ?_))
    refine ds_w_compact hI hn (fun b hIb hb => ?_)
    refine ds_w_compact hIb hn (fun c hIc hc => ?_)
    have z0 : ∀ r, r < M → ds_dp rv kn b n r = false := by
      intro r hr
      rw [Bool.eq_false_iff]
      intro w
      obtain ⟨w1, w2, w3⟩ := ds_dp_iff.mp w
      refine w2 ((hb r hr).mpr ?_)
      by_cases a : a11 (80 * n + r) = 0
      · exact Or.inl a
      · exact Or.inr (ds_dp_iff.mpr ⟨w1, a, w3⟩)
    have c0 : (List.range M).countP (ds_dp rv kn b n) = 0 := ds_cp_0.mpr z0
    rw [c0]
    refine ⟨81, ds_c_424 (a11 := c) hIc hV hB hn h30 H ?_ ?_ 80 0 81 (by omega) (by omega)⟩
    · congr 1
      rw [ds_cp_ext M 80 hM (fun i h1 h2 => ?_)]
      · refine ds_cp_eq M (fun r hr => ds_bext ?_)
        rw [ds_dp_iff]
        have lb := ds_lb_kc hR hS hn hr
        simp only [Bool.and_eq_true, Bool.not_eq_true', decide_eq_true_eq]
        constructor
        · rintro ⟨y1, y2, y3⟩
          refine ⟨⟨y1, y2⟩, ?_⟩
          rw [Bool.eq_false_iff]
          intro w
          have := (lb.mp w).2
          omega
        · rintro ⟨⟨y1, y2⟩, y3⟩
          refine ⟨y1, y2, ?_⟩
          refine Nat.pos_of_ne_zero (fun w => ?_)
          rw [lb.mpr ⟨y1, w⟩] at y3
          cases y3
      · have : kn n i = false := by
          cases hk : kn n i with
          | false => rfl
          | true => exact absurd ((hS n hn).1 i hk).1 (by omega)
        simp [this]
    · refine ds_fold_c 80 (fun r hr hl => ?_)
      have rM : r < M := by
        unfold ds_lb at hl
        simp only [Bool.and_eq_true, decide_eq_true_eq] at hl
        exact hl.1
      obtain ⟨l1, l2⟩ := (ds_lb_kc hR hS hn rM).mp hl
      have eq0 : c (80 * n + r) = 0 ↔ a11 (80 * n + r) = 0 := by
        rw [hc r rM, hb r rM, z0 r rM]
        constructor
        · rintro ((w | w) | w)
          · exact w
          · have := (ds_dp_iff.mp w).2.2
            omega
          · cases w
        · intro w
          exact Or.inl (Or.inl w)
      unfold ds_bv
      rw [if_pos l1, if_pos l1]
      by_cases w : a11 (80 * n + r) = 0
      · rw [if_pos w, if_pos (eq0.mpr w)]
      · rw [if_neg w, if_neg (fun y => w (eq0.mp y))]
  | succ i ih =>
    intro j fu e hfu
    obtain ⟨fu', rfl⟩ : ∃ f, fu = f + 1 := ⟨fu - 1, by omega⟩
    have t := ih (j + 1) fu' (by omega) (by omega)
    rw [ds_cp_succ] at t
    unfold ds_fold at t
    refine br_f (nI_ge (b := 80) (by omega) (by omega)) (ds_q_body hI hn (by omega) (ds_b_rev hI (by omega) (fun d hd => ?_)))
    exact ds_b_277 hI hn (by omega) h30 hd t 30 0 0 (by omega) (Or.inl ⟨rfl, fun _ k hk => by omega⟩)
theorem ds_c_104 {n : Nat} {x2 : Int32} (hI : ds_I M rv kn lf cnt st cp B (f0, a1, a2, a3, a4, a5, a6, a7, a8, a9, a10, a11, a12, a13, a14, a15, a16, a17, a18, a19, a20, a21, a22)) (hB : B ≤ 1000) (hn : n < 3) (h30 : ∀ d, d < 8 → (lf n d).length ≤ 30) (H : post 1) :
    ∀ (i j fu : Nat), j + i = 8 → i + 1 ≤ fu → wL_law_104 post L xs x2 (nI n) kc ks f0 a1 a2 a3 a4 a5 a6 a7 a8 a9 a10 a11 a12 a13 a14 a15 a16 a17 a18 a19 a20 a21 a22 fu (nI j) := by
  have hI' := hI
  obtain ⟨hR, hA, hC, hS, hK, hL, hT, hU, vw, hV⟩ := hI'
  have hM := hR.1
  intro i
  induction i with
  | zero =>
    intro j fu e hfu
    obtain ⟨fu', rfl⟩ : ∃ f, fu = f + 1 := ⟨fu - 1, by omega⟩
    have e2 : j = 8 := by omega
    subst e2
    exact br_t (nI_le (a := 8) (Nat.le_refl _) (by omega)) ⟨81, ds_c_245 hI hB hn h30 H 80 0 81 (by omega) (by omega)⟩
  | succ i ih =>
    intro j fu e hfu
    obtain ⟨fu', rfl⟩ : ∃ f, fu = f + 1 := ⟨fu - 1, by omega⟩
    have j8 : j < 8 := by omega
    have t := ih (j + 1) fu' (by omega) (by omega)
    have hm : ∀ y, y ∈ lf n j → y < M ∧ ds_dc rv y = j := fun y hy => by
      obtain ⟨z1, z2, _⟩ := (((hS n hn).2 j j8).2 y).mp hy
      exact ⟨((hS n hn).1 y z1).1, z2⟩
    refine br_f (nI_ge (b := 8) (by omega) (by omega)) (ds_q_winner hI hn j8 (ds_q_leaf (k := 0) hI hn j8 (by omega) ?_))
    cases hl : lf n j with
    | nil =>
      have ng : ¬ (0 : Int32) ≤ -1000000003 := by decide
      rw [show ds_win rv [] = none from rfl]
      refine br_f ng (br_f ng (br_t rfl (br_t ds_neg (br_t ds_neg ?_))))
      refine ds_q_leaves hI hn j8 ?_
      rw [hl]
      refine br_t (by decide) (br_t rfl ?_)
      refine ds_q_revN hI (Or.inl ds_neg) (br_f ng (br_t rfl (nm_r (nI_1 j) t)))
    | cons y s =>
      have hw : ∃ w, ds_win rv (y :: s) = some w ∧ w ∈ lf n j := by
        rcases ds_win_cases (rv := rv) (y :: s) with ⟨w, w1, w2, _⟩ | ⟨_, ⟨w, _⟩ | ⟨w, w1, w2, _⟩⟩
        · exact ⟨w, w1, by rw [hl]; exact w2⟩
        · cases w
        · exact ⟨w, w1, by rw [hl]; exact w2⟩
      obtain ⟨w, w1, w2⟩ := hw
      obtain ⟨wM, wd⟩ := hm w w2
      obtain ⟨yM, yd⟩ := hm y (by rw [hl]; exact List.mem_cons_self)
      have m2 := (hR.2.1 y yM).2.2.1
      rw [w1]
      show (0 ≤ nI w → _) ∧ _
      have l177 : wL_law_177 post L xs (wL_law_104 post L xs x2 (nI n) kc ks f0 a1 a2 a3 a4 a5 a6 a7 a8 a9 a10 a11 a12 a13 a14 a15 a16 a17 a18 a19 a20 a21 a22 fu') x2 (nI n) (nI j) (nI w) kc ks f0 a1 a2 a3 a4 a5 a6 a7 a8 a9 a10 a11 a12 a13 a14 a15 a16 a17 a18 a19 a20 a21 a22 := by
        refine br_f (nI_pos (by omega)) (ds_q_leaves hI hn j8 ?_)
        rw [hl]
        refine br_f (nI_nle (by rw [List.length_cons]; omega) (by have := (hL n j hn j8).1; rw [hl] at this; omega)) (br_t rfl ?_)
        refine ds_q_rev0 hI wM (br_t (nI_pos' (by omega)) (br_t (by rw [wd]) (nm_r (nI_1 j) t)))
      refine br_t (nI_pos' (by omega)) (br_t (show 0 ≤ nI y from nI_pos' (by omega)) (br_t rfl (br_f (show ¬ nI y < 0 from nI_pos (by omega)) ?_)))
      refine ds_q_rev3 hI yM ?_
      refine pk_eq (ds_mk rv y) 0 (fun z => br_t ?_ l177) (fun _ => l177)
      have : ds_win rv (y :: s) = some y := by
        unfold ds_win
        rw [List.find?_cons_of_pos (by simp [z])]
      rw [this, Option.some.injEq] at w1
      rw [w1]
      rfl
theorem ds_c_94 {x2 : Int32} (hI : ds_I M rv kn lf cnt st cp B (f0, a1, a2, a3, a4, a5, a6, a7, a8, a9, a10, a11, a12, a13, a14, a15, a16, a17, a18, a19, a20, a21, a22)) (hB : B ≤ 1000) (h30 : ∀ n d, n < 3 → d < 8 → (lf n d).length ≤ 30) (H : post 1) : wL_law_94 post L xs x2 kc ks f0 a1 a2 a3 a4 a5 a6 a7 a8 a9 a10 a11 a12 a13 a14 a15 a16 a17 a18 a19 a20 a21 a22 := by
  obtain ⟨jn, jn4, en⟩ := pk_andE x2 (m := 3) 2 (by decide)
  have hn : jn % 3 < 3 := Nat.mod_lt _ (by omega)
  refine ⟨by decide, nm_r (e' := nI (jn % 3)) (by rw [en]; exact ds_rem3 jn (by omega)) ⟨9, ?_⟩⟩
  exact ds_c_104 hI hB hn (fun d hd => h30 _ d hn hd) H 8 0 9 (by omega) (by omega)
end
section
variable {post : Int32 → Prop} {L : Nat} {xs : Nat → Int32} {kc ks : Nat}
theorem ds_c_26 {x2 : Int32} (hL : L ≤ 260) (H : post 1) :
    ∀ (i t fu : Nat) (M : Nat) (rv : Nat → ds_N) (kn : Nat → Nat → Bool) (lf : Nat → Nat → List Nat) (cnt : Nat → Nat) (st cp : Nat → Nat → Nat) (c p s : Nat) (f0 : Int32) (a1 a2 a3 a4 a5 a6 a7 a8 a9 a10 a11 a12 a13 a14 a15 a16 a17 a18 a19 a20 a21 a22 : Nat → Int32), t + i = 45 → i + 1 ≤ fu → ds_I M rv kn lf cnt st cp (8 * t) (f0, a1, a2, a3, a4, a5, a6, a7, a8, a9, a10, a11, a12, a13, a14, a15, a16, a17, a18, a19, a20, a21, a22) → ds_GB M rv kn lf c p → M + c + p ≤ t → s ≤ cnt 0 + cnt 1 + cnt 2 →
      wL_law_26 post L xs x2 kc ks fu (nI s) (nI (2 * t + 1)) f0 a1 a2 a3 a4 a5 a6 a7 a8 a9 a10 a11 a12 a13 a14 a15 a16 a17 a18 a19 a20 a21 a22 := by
  have fin : ∀ (t : Nat) (M : Nat) (rv : Nat → ds_N) (kn : Nat → Nat → Bool) (lf : Nat → Nat → List Nat) (cnt : Nat → Nat) (st cp : Nat → Nat → Nat) (c p : Nat) (f0 : Int32) (a1 a2 a3 a4 a5 a6 a7 a8 a9 a10 a11 a12 a13 a14 a15 a16 a17 a18 a19 a20 a21 a22 : Nat → Int32), t ≤ 45 → ds_I M rv kn lf cnt st cp (8 * t) (f0, a1, a2, a3, a4, a5, a6, a7, a8, a9, a10, a11, a12, a13, a14, a15, a16, a17, a18, a19, a20, a21, a22) → ds_GB M rv kn lf c p → M + c + p ≤ t → wL_law_94 post L xs x2 kc ks f0 a1 a2 a3 a4 a5 a6 a7 a8 a9 a10 a11 a12 a13 a14 a15 a16 a17 a18 a19 a20 a21 a22 := by
    intro t M rv kn lf cnt st cp c p f0 a1 a2 a3 a4 a5 a6 a7 a8 a9 a10 a11 a12 a13 a14 a15 a16 a17 a18 a19 a20 a21 a22 ht hI hG hT
    exact ds_c_94 hI (by omega) (fun n d hn hd => ds_30 hG hI.1 hI.2.2.2.1 (by omega) hn hd) H
  intro i
  induction i with
  | zero =>
    intro t fu M rv kn lf cnt st cp c p s f0 a1 a2 a3 a4 a5 a6 a7 a8 a9 a10 a11 a12 a13 a14 a15 a16 a17 a18 a19 a20 a21 a22 e hfu hI hG hT hs
    obtain ⟨fu', rfl⟩ : ∃ f, fu = f + 1 := ⟨fu - 1, by omega⟩
    have f := fin t M rv kn lf cnt st cp c p f0 a1 a2 a3 a4 a5 a6 a7 a8 a9 a10 a11 a12 a13 a14 a15 a16 a17 a18 a19 a20 a21 a22 (by omega) hI hG hT
    have e2 : t = 45 := by omega
    subst e2
    exact br_c (fun _ => f) (fun _ => br_t (by decide) f)
  | succ i ih =>
    intro t fu M rv kn lf cnt st cp c p s f0 a1 a2 a3 a4 a5 a6 a7 a8 a9 a10 a11 a12 a13 a14 a15 a16 a17 a18 a19 a20 a21 a22 e hfu hI hG hT hs
    obtain ⟨fu', rfl⟩ : ∃ f, fu = f + 1 := ⟨fu - 1, by omega⟩
    have f := fin t M rv kn lf cnt st cp c p f0 a1 a2 a3 a4 a5 a6 a7 a8 a9 a10 a11 a12 a13 a14 a15 a16 a17 a18 a19 a20 a21 a22 (by omega) hI hG hT
    refine pk_le L (2 * t + 1 + 1) (fun _ => f) (fun z => ?_) rfl (nI_1 _)
    refine br_f (nI_ge (b := 90) (by omega) (by omega)) ⟨vp_in_nI (by omega) (by omega), by rw [nI_1]; exact vp_in_nI (by omega) (by omega), ?_⟩
    refine ds_w_turn hI hG (by omega) (by omega) (fun r M' rv' kn' lf' cnt' st' cp' c' p' u hI2 hG2 hT2 hc => ?_)
    obtain ⟨f0, a1, a2, a3, a4, a5, a6, a7, a8, a9, a10, a11, a12, a13, a14, a15, a16, a17, a18, a19, a20, a21, a22⟩ := u
    refine ds_q_count (n := 0) hI2 (by omega) (ds_q_count (n := 1) hI2 (by omega) (ds_q_count (n := 2) hI2 (by omega) (nm_r (e' := nI (cnt' 0 + cnt' 1 + cnt' 2)) (by rw [nI_add, nI_add]) ?_)))
    have b0 := (hI2.2.2.2.2.2.2.1 0 (by omega)).1
    have b1 := (hI2.2.2.2.2.2.2.1 1 (by omega)).1
    have b2 := (hI2.2.2.2.2.2.2.1 2 (by omega)).1
    have c0 := hc 0
    have c1 := hc 1
    have c2 := hc 2
    refine br_t (nI_le (by omega) (by omega)) (nm_r (e' := nI (2 * (t + 1) + 1)) (by rw [show (2 : Int32) = nI 2 from rfl, nI_add]; congr 1) ?_)
    exact ih (t + 1) fu' M' rv' kn' lf' cnt' st' cp' c' p' (cnt' 0 + cnt' 1 + cnt' 2) f0 a1 a2 a3 a4 a5 a6 a7 a8 a9 a10 a11 a12 a13 a14 a15 a16 a17 a18 a19 a20 a21 a22 (by omega) (by omega) hI2 hG2 (by omega) (Nat.le_refl _)
theorem ds_c_init {Q : St1 → Prop} (H : ∀ a8, (∀ d, d < 8 → a8 d = -1) → Q (0, (fun _ => 0), (fun _ => 0), (fun _ => 0), (fun _ => 0), (fun _ => 0), (fun _ => 0), (fun _ => 0), a8, (fun _ => 0), (fun _ => 0), (fun _ => 0), (fun _ => 0), (fun _ => 0), (fun _ => 0), (fun _ => 0), (fun _ => 0), (fun _ => 0), (fun _ => 0), (fun _ => 0), (fun _ => 0), (fun _ => 0), (fun _ => 0))) : wpX_init Q 22 3503 0 := by
  have main : ∀ (i j : Nat) (b : Nat → Int32), j + i = 8 → (∀ d, d < j → b d = -1) → ∃ fu, wX_init_184 Q 22 3503 22 3503 0 fu (nI j) (fun _ => 0) (fun _ => 0) (fun _ => 0) (fun _ => 0) (fun _ => 0) (fun _ => 0) (fun _ => 0) b (fun _ => 0) (fun _ => 0) (fun _ => 0) (fun _ => 0) (fun _ => 0) (fun _ => 0) (fun _ => 0) (fun _ => 0) (fun _ => 0) (fun _ => 0) (fun _ => 0) (fun _ => 0) (fun _ => 0) (fun _ => 0) := by
    intro i
    induction i with
    | zero =>
      intro j b e h
      have e2 : j = 8 := by omega
      subst e2
      exact ⟨1, br_t (nI_le (a := 8) (Nat.le_refl _) (by omega)) (H b h)⟩
    | succ i ih =>
      intro j b e h
      obtain ⟨fu, t⟩ := ih (j + 1) (upd b j (-1)) (by omega) (fun d hd => by
        by_cases c : d = j
        · subst c; exact pk_us
        · rw [pk_un c]; exact h d (by omega))
      exact ⟨fu + 1, br_f (nI_ge (b := 8) (by omega) (by omega)) ⟨vp_in_nI (by omega) (by omega), nm_r (e' := upd b j (-1)) (by rw [nI_clamp (by omega)]) (nm_r (nI_1 j) t)⟩⟩
  unfold wpX_init
  refine ⟨by omega, by omega, by omega, by omega, by omega, by omega, by omega, by omega, by omega, by omega, by omega, by omega, by omega, by omega, by omega, by omega, by omega, by omega, by omega, by omega, by omega, by omega, by omega, by omega, by omega, by omega, by omega, by omega, by omega, by omega, by omega, by omega, by omega, by omega, by omega, by omega, by omega, by omega, by omega, by omega, by omega, by omega, by omega, by omega, ?_⟩
  exact main 8 0 (fun _ => 0) (by omega) (fun d hd => by omega)
theorem ds_I_0 {a8 : Nat → Int32} (h : ∀ d, d < 8 → a8 d = -1) : ds_I 0 (fun _ => (0, none, 0, 0, 0, 0)) (fun _ _ => false) (fun _ _ => []) (fun _ => 0) (fun _ _ => 0) (fun _ _ => 0) (8 * 0)
    (0, (fun _ => 0), (fun _ => 0), (fun _ => 0), (fun _ => 0), (fun _ => 0), (fun _ => 0), (fun _ => 0), a8, (fun _ => 0), (fun _ => 0), (fun _ => 0), (fun _ => 0), (fun _ => 0), (fun _ => 0), (fun _ => 0), (fun _ => 0), (fun _ => 0), (fun _ => 0), (fun _ => 0), (fun _ => 0), (fun _ => 0), (fun _ => 0)) := by
  refine ⟨⟨by omega, fun r hr => by omega, fun r s hr => by omega⟩, ⟨rfl, fun r hr => by omega⟩, ⟨fun r hr => by omega, fun r hr => by omega, fun d hd => Or.inl ⟨h d hd, fun j hj => by omega⟩⟩, ?_, ?_, ?_, ?_, ?_, fun _ => [], ?_⟩
  · intro n hn
    refine ⟨fun r hr => (by cases hr), fun d hd => ⟨List.Pairwise.nil, fun r => ⟨fun z => absurd z List.not_mem_nil, fun z => (by cases z.1)⟩⟩⟩
  · intro n r hn hr
    exact ⟨rfl, fun z => (by cases z)⟩
  · intro n d hn hd
    exact ⟨by simp, rfl, fun k x hk => by simp at hk⟩
  · intro n hn
    refine ⟨Nat.le_refl _, fun d hd => ⟨Nat.le_refl _, fun _ r hr => (by cases hr), fun e he _ z => absurd rfl z⟩, fun m hm => ⟨Nat.le_refl _, fun _ d hd _ r hr => (by cases hr)⟩⟩
  · intro n hn
    exact ⟨rfl, fun d hd => rfl, fun m hm => rfl⟩
  · intro n hn
    refine ⟨rfl, fun k x hk => by simp at hk, fun d hd => ⟨⟨fun _ => rfl, fun _ => rfl⟩, fun v z => (by cases z)⟩, List.Pairwise.nil, fun d => ⟨fun z => absurd z List.not_mem_nil, fun z => absurd rfl z.2⟩⟩
theorem ds_GB_0 : ds_GB 0 (fun _ => (0, none, 0, 0, 0, 0)) (fun _ _ => false) (fun _ _ => []) 0 0 := by
  refine ⟨fun d hd => ⟨fun n hn => ?_, fun n m hn hm hne => ?_⟩, fun d q => ?_⟩
  · show 0 ≤ 1
    omega
  · show 0 + 0 ≤ 2
    omega
  · unfold ds_fc
    simp
end
end
section
theorem i_vc (xs : Nat → Int32) (L : Nat) (hL : L ≤ 260) : wpL_law (fun r => r = 1) L xs := by
  refine ⟨22, 3503, by omega, by omega, ds_c_init (fun a8 h8 => ?_)⟩
  have go : ∀ x2, ∃ fu, wL_law_26 (fun r => r = 1) L xs x2 (1 + 22) (23 + 3503) fu 0 1 0 (fun _ => 0) (fun _ => 0) (fun _ => 0) (fun _ => 0) (fun _ => 0) (fun _ => 0) (fun _ => 0) a8 (fun _ => 0) (fun _ => 0) (fun _ => 0) (fun _ => 0) (fun _ => 0) (fun _ => 0) (fun _ => 0) (fun _ => 0) (fun _ => 0) (fun _ => 0) (fun _ => 0) (fun _ => 0) (fun _ => 0) (fun _ => 0) := fun x2 =>
    ⟨46, ds_c_26 (post := fun r => r = 1) (xs := xs) (x2 := x2) (kc := 1 + 22) (ks := 23 + 3503) hL rfl 45 0 46 0 _ _ _ _ _ _ 0 0 0 _ _ _ _ _ _ _ _ _ _ _ _ _ _ _ _ _ _ _ _ _ _ _ (by omega) (by omega) (ds_I_0 h8) ds_GB_0 (by omega) (by omega)⟩
  refine pk_le L 0 (fun _ => go 0) (fun z => ⟨vp_in_nI (n := 0) z (by omega), nm_e (go _)⟩)
end
