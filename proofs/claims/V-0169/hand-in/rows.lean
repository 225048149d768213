section
section JRA
/-! numbers and stores -/
theorem jr_us {f : Nat → Int32} {k : Nat} {x : Int32} : upd f k x k = x := if_pos rfl
theorem jr_un {f : Nat → Int32} {k j : Nat} {x : Int32} (h : j ≠ k) : upd f k x j = f j := if_neg h
theorem jr_m1 (n : Nat) : nI (n + 1) + (-1) = nI n := by
  rw [← nI_1, Int32.add_assoc, show (1 : Int32) + (-1) = 0 from rfl, Int32.add_zero]
theorem jr_s1 (x : Int32) : x - 1 = x + (-1) := Int32.sub_eq_add_neg _ _
theorem jr_sub {a b : Nat} (h : b ≤ a) : nI a - nI b = nI (a - b) := by
  obtain ⟨c, rfl⟩ : ∃ c, a = b + c := ⟨a - b, by omega⟩
  rw [Nat.add_sub_cancel_left, ← nI_add, Int32.add_comm, Int32.add_sub_cancel]
theorem jr_0c : (0 : Int32).toNatClampNeg = 0 := by decide
theorem jr_eq0 {a : Nat} (h : a < 2 ^ 31) : nI a = 0 ↔ a = 0 := by
  rw [← nI_0, nI_eq h (by omega)]
theorem jr_eq1 {a : Nat} (h : a < 2 ^ 31) : nI a = 1 ↔ a = 1 := nI_eq h (b := 1) (by omega)
theorem jr_nm1 {a : Nat} (h : a < 2 ^ 31) : ¬ nI a = -1 := by
  intro e
  have := nI_pos (n := a) h
  rw [e] at this
  exact this (by decide)

/-! kinds of lines -/
def jr_Tri (a b c : Int32) : Prop := (a = 8 ∧ b = 9 ∧ c = 10) ∨ (a = 11 ∧ b = 12 ∧ c = 13)
def jr_Smp (a : Int32) : Prop := a = 2 ∨ a = 3 ∨ a = 4 ∨ a = 5 ∨ a = 6 ∨ a = 7
theorem jr_smf {a : Int32} (h : jr_Smp a) : ¬ a = 0 ∧ ¬ a = 1 ∧ ¬ a = 8 ∧ ¬ a = 9 ∧ ¬ a = 10 ∧ ¬ a = 11 ∧ ¬ a = 12 ∧ ¬ a = 13 := by
  rcases h with rfl | rfl | rfl | rfl | rfl | rfl <;> decide
theorem jr_opf {a : Int32} (h : a = 8 ∨ a = 11) : ¬ a = 0 ∧ ¬ a = 1 ∧ ¬ a = 9 ∧ ¬ a = 12 ∧ ¬ a = 10 ∧ ¬ a = 13 := by
  rcases h with rfl | rfl <;> decide
theorem jr_mif {a : Int32} (h : a = 9 ∨ a = 12) : ¬ a = 0 ∧ ¬ a = 1 ∧ ¬ a = 8 ∧ ¬ a = 11 ∧ ¬ a = 10 ∧ ¬ a = 13 := by
  rcases h with rfl | rfl <;> decide
theorem jr_clf {a : Int32} (h : a = 10 ∨ a = 13) : ¬ a = 0 ∧ ¬ a = 1 ∧ ¬ a = 8 ∧ ¬ a = 11 ∧ ¬ a = 9 ∧ ¬ a = 12 := by
  rcases h with rfl | rfl <;> decide
theorem jr_t1 {a b c : Int32} (h : jr_Tri a b c) : a = 8 ∨ a = 11 := h.elim (fun z => Or.inl z.1) (fun z => Or.inr z.1)
theorem jr_t2 {a b c : Int32} (h : jr_Tri a b c) : b = 9 ∨ b = 12 := h.elim (fun z => Or.inl z.2.1) (fun z => Or.inr z.2.1)
theorem jr_t3 {a b c : Int32} (h : jr_Tri a b c) : c = 10 ∨ c = 13 := h.elim (fun z => Or.inl z.2.2) (fun z => Or.inr z.2.2)

/-! sequences of statements: a least set -/
def jr_SqC (K : Nat → Int32) (R : Nat → Nat → Nat → Prop) (S : Nat → Nat → Prop) : Prop :=
  (∀ i, S i i) ∧ (∀ i j, jr_Smp (K i) → S (i + 1) j → S i j) ∧
  (∀ h m t j, jr_Tri (K h) (K m) (K t) → R h m t → S (h + 1) m → S (m + 1) t → S (t + 1) j → S h j)
def jr_Sq (K : Nat → Int32) (R : Nat → Nat → Nat → Prop) (lo hi : Nat) : Prop :=
  ∀ S : Nat → Nat → Prop, jr_SqC K R S → S lo hi
variable {K : Nat → Int32} {R : Nat → Nat → Nat → Prop}
theorem jr_sq0 (i : Nat) : jr_Sq K R i i := fun _ c => c.1 i
theorem jr_sq1 {i j : Nat} (s : jr_Smp (K i)) (h : jr_Sq K R (i + 1) j) : jr_Sq K R i j :=
  fun S c => c.2.1 i j s (h S c)
theorem jr_sq2 {h m t j : Nat} (s : jr_Tri (K h) (K m) (K t)) (r : R h m t) (a : jr_Sq K R (h + 1) m)
    (b : jr_Sq K R (m + 1) t) (c : jr_Sq K R (t + 1) j) : jr_Sq K R h j :=
  fun S z => z.2.2 h m t j s r (a S z) (b S z) (c S z)
theorem jr_sqi {P : Nat → Nat → Prop} (h0 : ∀ i, P i i)
    (h1 : ∀ i j, jr_Smp (K i) → jr_Sq K R (i + 1) j → P (i + 1) j → P i j)
    (h2 : ∀ h m t j, jr_Tri (K h) (K m) (K t) → R h m t → jr_Sq K R (h + 1) m → jr_Sq K R (m + 1) t →
      jr_Sq K R (t + 1) j → P (h + 1) m → P (m + 1) t → P (t + 1) j → P h j)
    {lo hi : Nat} (H : jr_Sq K R lo hi) : P lo hi :=
  (H (fun a b => jr_Sq K R a b ∧ P a b) ⟨fun i => ⟨jr_sq0 i, h0 i⟩,
    fun i j s h => ⟨jr_sq1 s h.1, h1 i j s h.1 h.2⟩,
    fun h m t j s r a b c => ⟨jr_sq2 s r a.1 b.1 c.1, h2 h m t j s r a.1 b.1 c.1 a.2 b.2 c.2⟩⟩).2
theorem jr_sqle {lo hi : Nat} (H : jr_Sq K R lo hi) : lo ≤ hi := by
  refine jr_sqi (P := fun a b => a ≤ b) ?_ ?_ ?_ H
  · intro i; exact Nat.le_refl i
  · intro i j _ _ (h : i + 1 ≤ j); show i ≤ j; omega
  · intro h m t j _ _ _ _ _ (a : h + 1 ≤ m) (b : m + 1 ≤ t) (c : t + 1 ≤ j); show h ≤ j; omega
theorem jr_sqap {a b c : Nat} (H : jr_Sq K R a b) : jr_Sq K R b c → jr_Sq K R a c := by
  refine jr_sqi (P := fun a b => jr_Sq K R b c → jr_Sq K R a c) ?_ ?_ ?_ H
  · intro i h; exact h
  · intro i j s _ ih h; exact jr_sq1 s (ih h)
  · intro h m t j s r x y _ _ _ ih z; exact jr_sq2 s r x y (ih z)
theorem jr_sqmo {R' : Nat → Nat → Nat → Prop} {lo hi : Nat} (H : jr_Sq K R lo hi) :
    (∀ h m t, lo ≤ h → h < m → m < t → t < hi → R h m t → R' h m t) → jr_Sq K R' lo hi := by
  refine jr_sqi (P := fun lo hi => (∀ h m t, lo ≤ h → h < m → m < t → t < hi → R h m t → R' h m t) → jr_Sq K R' lo hi) ?_ ?_ ?_ H
  · intro i _; exact jr_sq0 i
  · intro i j s _ ih z
    exact jr_sq1 s (ih (fun h m t a b c d r => z h m t (by omega) b c d r))
  · intro h m t j s r x y w i1 i2 i3 z
    have a1 := jr_sqle x
    have a2 := jr_sqle y
    have a3 := jr_sqle w
    exact jr_sq2 s (z h m t (by omega) (by omega) (by omega) (by omega) r)
      (i1 (fun h' m' t' a b c d r => z h' m' t' (by omega) b c (by omega) r))
      (i2 (fun h' m' t' a b c d r => z h' m' t' (by omega) b c (by omega) r))
      (i3 (fun h' m' t' a b c d r => z h' m' t' (by omega) b c (by omega) r))
/-- a line of a sequence is simple or one of a statement's three -/
def jr_At (K : Nat → Int32) (R : Nat → Nat → Nat → Prop) (lo hi i : Nat) : Prop :=
  ∃ h m t, lo ≤ h ∧ h < m ∧ m < t ∧ t < hi ∧ jr_Tri (K h) (K m) (K t) ∧ R h m t ∧
    jr_Sq K R (h + 1) m ∧ jr_Sq K R (m + 1) t ∧ (i = h ∨ i = m ∨ i = t)
theorem jr_atw {lo hi lo' hi' i : Nat} (a : lo' ≤ lo) (b : hi ≤ hi') (H : jr_At K R lo hi i) : jr_At K R lo' hi' i := by
  obtain ⟨h, m, t, h1, h2, h3, h4, r⟩ := H
  exact ⟨h, m, t, by omega, h2, h3, by omega, r⟩
theorem jr_sqfl {lo hi : Nat} (H : jr_Sq K R lo hi) :
    ∀ i, lo ≤ i → i < hi → jr_Smp (K i) ∨ jr_At K R lo hi i := by
  refine jr_sqi (P := fun lo hi => ∀ i, lo ≤ i → i < hi → jr_Smp (K i) ∨ jr_At K R lo hi i) ?_ ?_ ?_ H
  · intro i k a b; omega
  · intro i j s _ ih k a b
    by_cases e : k = i
    · subst e; exact Or.inl s
    · exact (ih k (by omega) b).imp (fun z => z) (fun z => jr_atw (by omega) (by omega) z)
  · intro h m t j s r x y w i1 i2 i3 k a b
    have a1 := jr_sqle x
    have a2 := jr_sqle y
    have a3 := jr_sqle w
    have F : (k = h ∨ k = m ∨ k = t) → jr_At K R h j k := fun z =>
      ⟨h, m, t, by omega, by omega, by omega, by omega, s, r, x, y, z⟩
    by_cases e1 : k = h
    · exact Or.inr (F (Or.inl e1))
    by_cases e2 : k < m
    · exact (i1 k (by omega) e2).imp (fun z => z) (fun z => jr_atw (by omega) (by omega) z)
    by_cases e3 : k = m
    · exact Or.inr (F (Or.inr (Or.inl e3)))
    by_cases e4 : k < t
    · exact (i2 k (by omega) e4).imp (fun z => z) (fun z => jr_atw (by omega) (by omega) z)
    by_cases e5 : k = t
    · exact Or.inr (F (Or.inr (Or.inr e5)))
    · exact (i3 k (by omega) b).imp (fun z => z) (fun z => jr_atw (by omega) (by omega) z)
theorem jr_at01 {lo hi i : Nat} (H : jr_At K R lo hi i) : ¬ K i = 0 ∧ ¬ K i = 1 := by
  obtain ⟨h, m, t, _, _, _, _, s, _, _, _, z⟩ := H
  rcases z with rfl | rfl | rfl
  · exact ⟨(jr_opf (jr_t1 s)).1, (jr_opf (jr_t1 s)).2.1⟩
  · exact ⟨(jr_mif (jr_t2 s)).1, (jr_mif (jr_t2 s)).2.1⟩
  · exact ⟨(jr_clf (jr_t3 s)).1, (jr_clf (jr_t3 s)).2.1⟩
theorem jr_sq01 {lo hi : Nat} (H : jr_Sq K R lo hi) (i : Nat) (a : lo ≤ i) (b : i < hi) : ¬ K i = 0 ∧ ¬ K i = 1 := by
  rcases jr_sqfl H i a b with s | s
  · exact ⟨(jr_smf s).1, (jr_smf s).2.1⟩
  · exact jr_at01 s

/-! programs: procedures in a row -/
def jr_PgC (K : Nat → Int32) (R : Nat → Nat → Nat → Prop) (S : Nat → Nat → Prop) : Prop :=
  (∀ i, S i i) ∧ (∀ p e j, K p = 0 → jr_Sq K R (p + 1) e → K e = 1 → S (e + 1) j → S p j)
def jr_Pg (K : Nat → Int32) (R : Nat → Nat → Nat → Prop) (lo hi : Nat) : Prop :=
  ∀ S : Nat → Nat → Prop, jr_PgC K R S → S lo hi
theorem jr_pg0 (i : Nat) : jr_Pg K R i i := fun _ c => c.1 i
theorem jr_pg1 {p e j : Nat} (a : K p = 0) (s : jr_Sq K R (p + 1) e) (b : K e = 1) (h : jr_Pg K R (e + 1) j) : jr_Pg K R p j :=
  fun S c => c.2 p e j a s b (h S c)
theorem jr_pgi {P : Nat → Nat → Prop} (h0 : ∀ i, P i i)
    (h1 : ∀ p e j, K p = 0 → jr_Sq K R (p + 1) e → K e = 1 → jr_Pg K R (e + 1) j → P (e + 1) j → P p j)
    {lo hi : Nat} (H : jr_Pg K R lo hi) : P lo hi :=
  (H (fun a b => jr_Pg K R a b ∧ P a b) ⟨fun i => ⟨jr_pg0 i, h0 i⟩,
    fun p e j a s b h => ⟨jr_pg1 a s b h.1, h1 p e j a s b h.1 h.2⟩⟩).2
theorem jr_pgle {lo hi : Nat} (H : jr_Pg K R lo hi) : lo ≤ hi := by
  refine jr_pgi (P := fun a b => a ≤ b) ?_ ?_ H
  · intro i; exact Nat.le_refl i
  · intro p e j _ s _ _ (h : e + 1 ≤ j)
    have := jr_sqle s
    show p ≤ j; omega
theorem jr_pgap {a b c : Nat} (H : jr_Pg K R a b) : jr_Pg K R b c → jr_Pg K R a c := by
  refine jr_pgi (P := fun a b => jr_Pg K R b c → jr_Pg K R a c) ?_ ?_ H
  · intro i h; exact h
  · intro p e j x s y _ ih h; exact jr_pg1 x s y (ih h)
theorem jr_pgmo {R' : Nat → Nat → Nat → Prop} {lo hi : Nat} (H : jr_Pg K R lo hi) :
    (∀ h m t, lo ≤ h → h < m → m < t → t < hi → R h m t → R' h m t) → jr_Pg K R' lo hi := by
  refine jr_pgi (P := fun lo hi => (∀ h m t, lo ≤ h → h < m → m < t → t < hi → R h m t → R' h m t) → jr_Pg K R' lo hi) ?_ ?_ H
  · intro i _; exact jr_pg0 i
  · intro p e j x s y w ih z
    have a1 := jr_sqle s
    have a2 := jr_pgle w
    exact jr_pg1 x (jr_sqmo s (fun h m t a b c d r => z h m t (by omega) b c (by omega) r)) y
      (ih (fun h m t a b c d r => z h m t (by omega) b c (by omega) r))
theorem jr_pgla {lo hi : Nat} (H : jr_Pg K R lo hi) : lo = hi ∨ ∃ j, hi = j + 1 ∧ K j = 1 := by
  refine jr_pgi (P := fun lo hi => lo = hi ∨ ∃ j, hi = j + 1 ∧ K j = 1) ?_ ?_ H
  · intro i; exact Or.inl rfl
  · intro p e j x s y w ih
    rcases ih with ih | ih
    · exact Or.inr ⟨e, ih.symm, y⟩
    · exact Or.inr ih
theorem jr_pgfl {lo hi : Nat} (H : jr_Pg K R lo hi) :
    ∀ i, lo ≤ i → i < hi → K i = 0 ∨ K i = 1 ∨ jr_Smp (K i) ∨ jr_At K R lo hi i := by
  refine jr_pgi (P := fun lo hi => ∀ i, lo ≤ i → i < hi → K i = 0 ∨ K i = 1 ∨ jr_Smp (K i) ∨ jr_At K R lo hi i) ?_ ?_ H
  · intro i k a b; omega
  · intro p e j x s y w ih k a b
    have a1 := jr_sqle s
    have a2 := jr_pgle w
    by_cases e1 : k = p
    · subst e1; exact Or.inl x
    by_cases e2 : k < e
    · exact Or.inr (Or.inr ((jr_sqfl s k (by omega) e2).imp (fun z => z) (fun z => jr_atw (by omega) (by omega) z)))
    by_cases e3 : k = e
    · subst e3; exact Or.inr (Or.inl y)
    · rcases ih k (by omega) b with z | z | z | z
      · exact Or.inl z
      · exact Or.inr (Or.inl z)
      · exact Or.inr (Or.inr (Or.inl z))
      · exact Or.inr (Or.inr (Or.inr (jr_atw (by omega) (by omega) z)))

/-! counting procedures -/
def jr_cp (K : Nat → Int32) : Nat → Nat
  | 0 => 0
  | i + 1 => if K i = 0 then jr_cp K i + 1 else jr_cp K i
theorem jr_cp1 {i : Nat} (h : K i = 0) : jr_cp K (i + 1) = jr_cp K i + 1 := if_pos h
theorem jr_cp0 {i : Nat} (h : ¬ K i = 0) : jr_cp K (i + 1) = jr_cp K i := if_neg h
theorem jr_cple (i : Nat) : jr_cp K i ≤ i := by
  induction i with
  | zero => exact Nat.le_refl 0
  | succ i ih =>
    by_cases h : K i = 0
    · rw [jr_cp1 h]; omega
    · rw [jr_cp0 h]; omega
theorem jr_cpmo {i : Nat} (d : Nat) : jr_cp K i ≤ jr_cp K (i + d) := by
  induction d with
  | zero => exact Nat.le_refl _
  | succ d ih =>
    show jr_cp K i ≤ jr_cp K (i + d + 1)
    by_cases h : K (i + d) = 0
    · rw [jr_cp1 h]; omega
    · rw [jr_cp0 h]; omega
theorem jr_cpm {i j : Nat} (h : i ≤ j) : jr_cp K i ≤ jr_cp K j := by
  obtain ⟨d, rfl⟩ : ∃ d, j = i + d := ⟨j - i, by omega⟩
  exact jr_cpmo d
theorem jr_cpko {i : Nat} (d : Nat) : (∀ k, i ≤ k → k < i + d → ¬ K k = 0) → jr_cp K (i + d) = jr_cp K i := by
  induction d with
  | zero => intro _; rfl
  | succ d ih =>
    intro h
    show jr_cp K (i + d + 1) = jr_cp K i
    rw [jr_cp0 (h (i + d) (by omega) (by omega))]
    exact ih (fun k a b => h k a (by omega))
theorem jr_cpk {i j : Nat} (hij : i ≤ j) (h : ∀ k, i ≤ k → k < j → ¬ K k = 0) : jr_cp K j = jr_cp K i := by
  obtain ⟨d, rfl⟩ : ∃ d, j = i + d := ⟨j - i, by omega⟩
  exact jr_cpko d h
theorem jr_cpsq {lo hi : Nat} (H : jr_Sq K R lo hi) : jr_cp K hi = jr_cp K lo :=
  jr_cpk (jr_sqle H) (fun k a b => (jr_sq01 H k a b).1)
/-- the procedure table -/
def jr_Pt (K : Nat → Int32) (R : Nat → Nat → Nat → Prop) (n : Nat) (ph pt : Nat → Int32) (p : Nat) : Prop :=
  ∃ i e, i < e ∧ e < n ∧ K i = 0 ∧ jr_cp K i = p ∧ jr_Sq K R (i + 1) e ∧ K e = 1 ∧ ph p = nI i ∧ pt p = nI e

/-! scans that pass over a sequence at one depth -/
theorem jr_fwd {W : Nat → Nat → Nat → Prop} {D N : Nat}
    (s1 : ∀ n d i, i < N → D ≤ d → d < 200 → jr_Smp (K i) → W n d (i + 1) → W (n + 1) d i)
    (s2 : ∀ n d i, i < N → D ≤ d → d < 200 → (K i = 8 ∨ K i = 11) → W n (d + 1) (i + 1) → W (n + 1) d i)
    (s3 : ∀ n d i, i < N → D < d → d < 200 → (K i = 9 ∨ K i = 12) → W n d (i + 1) → W (n + 1) d i)
    (s4 : ∀ n d i, i < N → D ≤ d → d < 200 → (K i = 10 ∨ K i = 13) → W n d (i + 1) → W (n + 1) (d + 1) i)
    {lo hi : Nat} (H : jr_Sq K R lo hi) : ∀ n d, hi ≤ N → D ≤ d → d + (hi - lo) < 200 → W n d hi → W (n + (hi - lo)) d lo := by
  refine jr_sqi (P := fun lo hi => ∀ n d, hi ≤ N → D ≤ d → d + (hi - lo) < 200 → W n d hi → W (n + (hi - lo)) d lo) ?_ ?_ ?_ H
  · intro i n d _ _ _ h
    rw [Nat.sub_self]; exact h
  · intro i j s w ih n d a b c h
    have l := jr_sqle w
    have e : n + (j - i) = n + (j - (i + 1)) + 1 := by omega
    rw [e]
    exact s1 _ _ _ (by omega) b (by omega) s (ih n d a b (by omega) h)
  · intro h m t j s r x y w i1 i2 i3 n d a b c z
    have a1 := jr_sqle x
    have a2 := jr_sqle y
    have a3 := jr_sqle w
    have e : n + (j - h) = n + (j - (t + 1)) + 1 + (t - (m + 1)) + 1 + (m - (h + 1)) + 1 := by omega
    rw [e]
    exact s2 _ _ _ (by omega) b (by omega) (jr_t1 s) (i1 _ _ (by omega) (by omega) (by omega)
      (s3 _ _ _ (by omega) (by omega) (by omega) (jr_t2 s) (i2 _ _ (by omega) (by omega) (by omega)
        (s4 _ _ _ (by omega) b (by omega) (jr_t3 s) (i3 n d a b (by omega) z)))))
theorem jr_bwd {W : Nat → Nat → Nat → Prop} {N : Nat}
    (s1 : ∀ n d i, i < N → d < 200 → jr_Smp (K i) → W n d i → W (n + 1) d (i + 1))
    (s2 : ∀ n d i, i < N → d < 200 → (K i = 8 ∨ K i = 11) → W n d i → W (n + 1) (d + 1) (i + 1))
    (s3 : ∀ n d i, i < N → d < 200 → (K i = 9 ∨ K i = 12) → W n (d + 1) i → W (n + 1) (d + 1) (i + 1))
    (s4 : ∀ n d i, i < N → d < 200 → (K i = 10 ∨ K i = 13) → W n (d + 1) i → W (n + 1) d (i + 1))
    {lo hi : Nat} (H : jr_Sq K R lo hi) : ∀ n d, hi ≤ N → d + (hi - lo) < 200 → W n d lo → W (n + (hi - lo)) d hi := by
  refine jr_sqi (P := fun lo hi => ∀ n d, hi ≤ N → d + (hi - lo) < 200 → W n d lo → W (n + (hi - lo)) d hi) ?_ ?_ ?_ H
  · intro i n d _ _ h
    rw [Nat.sub_self]; exact h
  · intro i j s w ih n d a c h
    have l := jr_sqle w
    have e : n + (j - i) = n + 1 + (j - (i + 1)) := by omega
    rw [e]
    exact ih _ _ a (by omega) (s1 _ _ _ (by omega) (by omega) s h)
  · intro h m t j s r x y w i1 i2 i3 n d a c z
    have a1 := jr_sqle x
    have a2 := jr_sqle y
    have a3 := jr_sqle w
    have e : n + (j - h) = n + 1 + (m - (h + 1)) + 1 + (t - (m + 1)) + 1 + (j - (t + 1)) := by omega
    rw [e]
    exact i3 _ _ a (by omega) (s4 _ _ _ (by omega) (by omega) (jr_t3 s) (i2 _ _ (by omega) (by omega)
      (s3 _ _ _ (by omega) (by omega) (jr_t2 s) (i1 _ _ (by omega) (by omega)
        (s2 _ _ _ (by omega) (by omega) (jr_t1 s) z)))))
end JRA
end
section
section JRB
/-! the places of the inverse's lines -/
variable {K : Nat → Int32} {R : Nat → Nat → Nat → Prop} {P : Nat → Nat}
def jr_TqC (K : Nat → Int32) (R : Nat → Nat → Nat → Prop) (P : Nat → Nat) (S : Nat → Nat → Nat → Prop) : Prop :=
  (∀ i s, S i i s) ∧ (∀ i j s, jr_Smp (K i) → P i + (i + 1) = s + j → S (i + 1) j s → S i j s) ∧
  (∀ h m t j s, jr_Tri (K h) (K m) (K t) → R h m t → P h + (t + 1) = s + j → P m = P h + (m - h) → P t = P h + (t - h) →
    S (h + 1) m (P h + 1) → S (m + 1) t (P m + 1) → S (t + 1) j s → S h j s)
def jr_Tq (K : Nat → Int32) (R : Nat → Nat → Nat → Prop) (P : Nat → Nat) (lo hi s : Nat) : Prop :=
  ∀ S : Nat → Nat → Nat → Prop, jr_TqC K R P S → S lo hi s
theorem jr_tq0 (i s : Nat) : jr_Tq K R P i i s := fun _ c => c.1 i s
theorem jr_tq1 {i j s : Nat} (a : jr_Smp (K i)) (b : P i + (i + 1) = s + j) (h : jr_Tq K R P (i + 1) j s) : jr_Tq K R P i j s :=
  fun S c => c.2.1 i j s a b (h S c)
theorem jr_tq2 {h m t j s : Nat} (a : jr_Tri (K h) (K m) (K t)) (r : R h m t) (b : P h + (t + 1) = s + j)
    (c : P m = P h + (m - h)) (d : P t = P h + (t - h)) (x : jr_Tq K R P (h + 1) m (P h + 1))
    (y : jr_Tq K R P (m + 1) t (P m + 1)) (w : jr_Tq K R P (t + 1) j s) : jr_Tq K R P h j s :=
  fun S z => z.2.2 h m t j s a r b c d (x S z) (y S z) (w S z)
theorem jr_tqi {Q : Nat → Nat → Nat → Prop} (h0 : ∀ i s, Q i i s)
    (h1 : ∀ i j s, jr_Smp (K i) → P i + (i + 1) = s + j → jr_Tq K R P (i + 1) j s → Q (i + 1) j s → Q i j s)
    (h2 : ∀ h m t j s, jr_Tri (K h) (K m) (K t) → R h m t → P h + (t + 1) = s + j → P m = P h + (m - h) → P t = P h + (t - h) →
      jr_Tq K R P (h + 1) m (P h + 1) → jr_Tq K R P (m + 1) t (P m + 1) → jr_Tq K R P (t + 1) j s →
      Q (h + 1) m (P h + 1) → Q (m + 1) t (P m + 1) → Q (t + 1) j s → Q h j s)
    {lo hi s : Nat} (H : jr_Tq K R P lo hi s) : Q lo hi s :=
  (H (fun a b c => jr_Tq K R P a b c ∧ Q a b c) ⟨fun i s => ⟨jr_tq0 i s, h0 i s⟩,
    fun i j s a b h => ⟨jr_tq1 a b h.1, h1 i j s a b h.1 h.2⟩,
    fun h m t j s a r b c d x y w => ⟨jr_tq2 a r b c d x.1 y.1 w.1, h2 h m t j s a r b c d x.1 y.1 w.1 x.2 y.2 w.2⟩⟩).2
theorem jr_tqsq {lo hi s : Nat} (H : jr_Tq K R P lo hi s) : jr_Sq K R lo hi := by
  refine jr_tqi (Q := fun a b _ => jr_Sq K R a b) ?_ ?_ ?_ H
  · intro i s; exact jr_sq0 i
  · intro i j s a b _ h; exact jr_sq1 a h
  · intro h m t j s a r b c d _ _ _ x y w; exact jr_sq2 a r x y w
theorem jr_tqcg {P' : Nat → Nat} {lo hi s : Nat} (H : jr_Tq K R P lo hi s) :
    (∀ i, lo ≤ i → i < hi → P' i = P i) → jr_Tq K R P' lo hi s := by
  refine jr_tqi (Q := fun lo hi s => (∀ i, lo ≤ i → i < hi → P' i = P i) → jr_Tq K R P' lo hi s) ?_ ?_ ?_ H
  · intro i s _; exact jr_tq0 i s
  · intro i j s a b w ih z
    have l := jr_sqle (jr_tqsq w)
    refine jr_tq1 a ?_ (ih (fun k u v => z k (by omega) v))
    rw [z i (by omega) (by omega)]; exact b
  · intro h m t j s a r b c d x y w i1 i2 i3 z
    have a1 := jr_sqle (jr_tqsq x)
    have a2 := jr_sqle (jr_tqsq y)
    have a3 := jr_sqle (jr_tqsq w)
    have eh := z h (by omega) (by omega)
    have em := z m (by omega) (by omega)
    have et := z t (by omega) (by omega)
    refine jr_tq2 a r (by rw [eh]; exact b) (by rw [em, eh]; exact c) (by rw [et, eh]; exact d) ?_ ?_ ?_
    · rw [eh]; exact i1 (fun k u v => z k (by omega) (by omega))
    · rw [em]; exact i2 (fun k u v => z k (by omega) (by omega))
    · exact i3 (fun k u v => z k (by omega) (by omega))
theorem jr_tqex {lo hi : Nat} (H : jr_Sq K R lo hi) : ∀ s, ∃ P, jr_Tq K R P lo hi s := by
  refine jr_sqi (P := fun lo hi => ∀ s, ∃ P, jr_Tq K R P lo hi s) ?_ ?_ ?_ H
  · intro i s; exact ⟨fun _ => 0, jr_tq0 i s⟩
  · intro i j a w ih s
    obtain ⟨P, hP⟩ := ih s
    have l := jr_sqle w
    refine ⟨fun x => if x = i then s + (j - (i + 1)) else P x, jr_tq1 a ?_ (jr_tqcg hP ?_)⟩
    · show (if i = i then s + (j - (i + 1)) else P i) + (i + 1) = s + j
      rw [if_pos rfl]; omega
    · intro k u v
      show (if k = i then s + (j - (i + 1)) else P k) = P k
      rw [if_neg (by omega)]
  · intro h m t j a r x y w i1 i2 i3 s
    have a1 := jr_sqle x
    have a2 := jr_sqle y
    have a3 := jr_sqle w
    obtain ⟨P1, h1⟩ := i1 (s + (j - (t + 1)) + 1)
    obtain ⟨P2, h2⟩ := i2 (s + (j - (t + 1)) + (m - h) + 1)
    obtain ⟨P3, h3⟩ := i3 s
    obtain ⟨Q, hQ⟩ : ∃ Q : Nat → Nat, ∀ x, Q x = if x = h then s + (j - (t + 1)) else if x < m then P1 x else if x = m then s + (j - (t + 1)) + (m - h)
      else if x < t then P2 x else if x = t then s + (j - (t + 1)) + (t - h) else P3 x := ⟨_, fun _ => rfl⟩
    have qh : Q h = s + (j - (t + 1)) := by rw [hQ, if_pos rfl]
    have qm : Q m = s + (j - (t + 1)) + (m - h) := by
      rw [hQ, if_neg (by omega), if_neg (by omega), if_pos rfl]
    have qt : Q t = s + (j - (t + 1)) + (t - h) := by
      rw [hQ, if_neg (by omega), if_neg (by omega), if_neg (by omega), if_neg (by omega), if_pos rfl]
    have q1 : ∀ k, h + 1 ≤ k → k < m → Q k = P1 k := by
      intro k u v
      rw [hQ, if_neg (by omega), if_pos v]
    have q2 : ∀ k, m + 1 ≤ k → k < t → Q k = P2 k := by
      intro k u v
      rw [hQ, if_neg (by omega), if_neg (by omega), if_neg (by omega), if_pos v]
    have q3 : ∀ k, t + 1 ≤ k → k < j → Q k = P3 k := by
      intro k u v
      rw [hQ, if_neg (by omega), if_neg (by omega), if_neg (by omega), if_neg (by omega), if_neg (by omega)]
    refine ⟨Q, jr_tq2 a r (by rw [qh]; omega) (by rw [qm, qh]) (by rw [qt, qh]) ?_ ?_ (jr_tqcg h3 q3)⟩
    · rw [qh]; exact jr_tqcg h1 q1
    · rw [qm]; exact jr_tqcg h2 q2
theorem jr_tqra {lo hi s : Nat} (H : jr_Tq K R P lo hi s) : ∀ i, lo ≤ i → i < hi → s ≤ P i ∧ P i + lo < s + hi := by
  refine jr_tqi (Q := fun lo hi s => ∀ i, lo ≤ i → i < hi → s ≤ P i ∧ P i + lo < s + hi) ?_ ?_ ?_ H
  · intro i s k u v; omega
  · intro i j s a b w ih k u v
    have l := jr_sqle (jr_tqsq w)
    by_cases e : k = i
    · subst e; omega
    · have := ih k (by omega) v; omega
  · intro h m t j s a r b c d x y w i1 i2 i3 k u v
    have a1 := jr_sqle (jr_tqsq x)
    have a2 := jr_sqle (jr_tqsq y)
    have a3 := jr_sqle (jr_tqsq w)
    by_cases e1 : k = h
    · subst e1; omega
    by_cases e2 : k < m
    · have := i1 k (by omega) e2; omega
    by_cases e3 : k = m
    · subst e3; omega
    by_cases e4 : k < t
    · have := i2 k (by omega) e4; omega
    by_cases e5 : k = t
    · subst e5; omega
    · have := i3 k (by omega) v; omega
theorem jr_tqsu {lo hi s : Nat} (H : jr_Tq K R P lo hi s) : ∀ x, s ≤ x → x + lo < s + hi → ∃ i, lo ≤ i ∧ i < hi ∧ P i = x := by
  refine jr_tqi (Q := fun lo hi s => ∀ x, s ≤ x → x + lo < s + hi → ∃ i, lo ≤ i ∧ i < hi ∧ P i = x) ?_ ?_ ?_ H
  · intro i s k u v; omega
  · intro i j s a b w ih k u v
    have l := jr_sqle (jr_tqsq w)
    by_cases e : k = P i
    · exact ⟨i, by omega, by omega, e.symm⟩
    · obtain ⟨q, q1, q2, q3⟩ := ih k u (by omega)
      exact ⟨q, by omega, q2, q3⟩
  · intro h m t j s a r b c d x y w i1 i2 i3 k u v
    have a1 := jr_sqle (jr_tqsq x)
    have a2 := jr_sqle (jr_tqsq y)
    have a3 := jr_sqle (jr_tqsq w)
    by_cases e0 : k < P h
    · obtain ⟨q, q1, q2, q3⟩ := i3 k u (by omega)
      exact ⟨q, by omega, q2, q3⟩
    by_cases e1 : k = P h
    · exact ⟨h, by omega, by omega, e1.symm⟩
    by_cases e2 : k < P m
    · obtain ⟨q, q1, q2, q3⟩ := i1 k (by omega) (by omega)
      exact ⟨q, by omega, by omega, q3⟩
    by_cases e3 : k = P m
    · exact ⟨m, by omega, by omega, e3.symm⟩
    by_cases e4 : k < P t
    · obtain ⟨q, q1, q2, q3⟩ := i2 k (by omega) (by omega)
      exact ⟨q, by omega, by omega, q3⟩
    · exact ⟨t, by omega, by omega, by omega⟩
theorem jr_tqin {lo hi s : Nat} (H : jr_Tq K R P lo hi s) : ∀ i k, lo ≤ i → i < hi → lo ≤ k → k < hi → P i = P k → i = k := by
  refine jr_tqi (Q := fun lo hi s => ∀ i k, lo ≤ i → i < hi → lo ≤ k → k < hi → P i = P k → i = k) ?_ ?_ ?_ H
  · intro i s a b u v; omega
  · intro i j s a b w ih p q u v u' v' e
    have ra := jr_tqra w
    by_cases e1 : p = i
    · by_cases e2 : q = i
      · omega
      · have := ra q (by omega) v'; subst e1; omega
    · by_cases e2 : q = i
      · have := ra p (by omega) v; subst e2; omega
      · exact ih p q (by omega) v (by omega) v' e
  · intro h m t j s a r b c d x y w i1 i2 i3 p q u v u' v' e
    have a1 := jr_sqle (jr_tqsq x)
    have a2 := jr_sqle (jr_tqsq y)
    have a3 := jr_sqle (jr_tqsq w)
    have r1 := jr_tqra x
    have r2 := jr_tqra y
    have r3 := jr_tqra w
    have Z : ∀ k, h ≤ k → k < j → (k = h ∧ P k = P h) ∨ (h < k ∧ k < m ∧ P h < P k ∧ P k < P m) ∨ (k = m ∧ P k = P m) ∨
        (m < k ∧ k < t ∧ P m < P k ∧ P k < P t) ∨ (k = t ∧ P k = P t) ∨ (t < k ∧ P k < P h) := by
      intro k ka kb
      by_cases e1 : k = h
      · exact Or.inl ⟨e1, by rw [e1]⟩
      by_cases e2 : k < m
      · have := r1 k (by omega) e2
        exact Or.inr (Or.inl ⟨by omega, e2, by omega, by omega⟩)
      by_cases e3 : k = m
      · exact Or.inr (Or.inr (Or.inl ⟨e3, by rw [e3]⟩))
      by_cases e4 : k < t
      · have := r2 k (by omega) e4
        exact Or.inr (Or.inr (Or.inr (Or.inl ⟨by omega, e4, by omega, by omega⟩)))
      by_cases e5 : k = t
      · exact Or.inr (Or.inr (Or.inr (Or.inr (Or.inl ⟨e5, by rw [e5]⟩))))
      · have := r3 k (by omega) kb
        exact Or.inr (Or.inr (Or.inr (Or.inr (Or.inr ⟨by omega, by omega⟩))))
    have ht : P m < P t := by omega
    have hm : P h < P m := by omega
    rcases Z p u v with z | z | z | z | z | z <;> rcases Z q u' v' with z' | z' | z' | z' | z' | z'
    · omega
    · omega
    · omega
    · omega
    · omega
    · omega
    · omega
    · exact i1 p q (by omega) (by omega) (by omega) (by omega) e
    · omega
    · omega
    · omega
    · omega
    · omega
    · omega
    · omega
    · omega
    · omega
    · omega
    · omega
    · omega
    · omega
    · exact i2 p q (by omega) (by omega) (by omega) (by omega) e
    · omega
    · omega
    · omega
    · omega
    · omega
    · omega
    · omega
    · omega
    · omega
    · omega
    · omega
    · omega
    · omega
    · exact i3 p q (by omega) (by omega) (by omega) (by omega) e
/-- the inverse's kinds -/
def jr_ik (k : Int32) : Int32 := if k = 2 then 3 else if k = 3 then 2 else k
theorem jr_ik2 : jr_ik 2 = 3 := by decide
theorem jr_ik3 : jr_ik 3 = 2 := by decide
theorem jr_iko {k : Int32} (a : ¬ k = 2) (b : ¬ k = 3) : jr_ik k = k := by
  unfold jr_ik; rw [if_neg a, if_neg b]
theorem jr_iksm {k : Int32} (h : jr_Smp k) : jr_Smp (jr_ik k) := by
  rcases h with rfl | rfl | rfl | rfl | rfl | rfl
  · rw [jr_ik2]; exact Or.inr (Or.inl rfl)
  · rw [jr_ik3]; exact Or.inl rfl
  · exact Or.inr (Or.inr (Or.inl (by decide)))
  · exact Or.inr (Or.inr (Or.inr (Or.inl (by decide))))
  · exact Or.inr (Or.inr (Or.inr (Or.inr (Or.inl (by decide)))))
  · exact Or.inr (Or.inr (Or.inr (Or.inr (Or.inr (by decide)))))
theorem jr_iktr {a b c : Int32} (h : jr_Tri a b c) : jr_Tri (jr_ik a) (jr_ik b) (jr_ik c) := by
  rcases h with ⟨rfl, rfl, rfl⟩ | ⟨rfl, rfl, rfl⟩
  · exact Or.inl (by decide)
  · exact Or.inr (by decide)
def jr_T3 : Nat → Nat → Nat → Prop := fun _ _ _ => True
theorem jr_tqinv {K' : Nat → Int32} {lo hi s : Nat} (H : jr_Tq K R P lo hi s) :
    (∀ i, lo ≤ i → i < hi → K' (P i) = jr_ik (K i)) → jr_Sq K' jr_T3 s (s + (hi - lo)) := by
  refine jr_tqi (Q := fun lo hi s => (∀ i, lo ≤ i → i < hi → K' (P i) = jr_ik (K i)) → jr_Sq K' jr_T3 s (s + (hi - lo))) ?_ ?_ ?_ H
  · intro i s _
    rw [Nat.sub_self]; exact jr_sq0 s
  · intro i j s a b w ih z
    have l := jr_sqle (jr_tqsq w)
    have A := ih (fun k u v => z k (by omega) v)
    have e : P i = s + (j - (i + 1)) := by omega
    have e2 : s + (j - i) = s + (j - (i + 1)) + 1 := by omega
    rw [e2]
    refine jr_sqap A (jr_sq1 ?_ (jr_sq0 _))
    rw [← e, z i (by omega) (by omega)]
    exact jr_iksm a
  · intro h m t j s a r b c d x y w i1 i2 i3 z
    have a1 := jr_sqle (jr_tqsq x)
    have a2 := jr_sqle (jr_tqsq y)
    have a3 := jr_sqle (jr_tqsq w)
    have A1 := i1 (fun k u v => z k (by omega) (by omega))
    have A2 := i2 (fun k u v => z k (by omega) (by omega))
    have A3 := i3 (fun k u v => z k (by omega) (by omega))
    have e1 : P h + 1 + (m - (h + 1)) = P m := by omega
    have e2 : P m + 1 + (t - (m + 1)) = P t := by omega
    have e3 : s + (j - (t + 1)) = P h := by omega
    have e4 : s + (j - h) = P t + 1 := by omega
    rw [e1] at A1
    rw [e2] at A2
    rw [e3] at A3
    rw [e4]
    refine jr_sqap A3 (jr_sq2 ?_ trivial A1 A2 (jr_sq0 _))
    rw [z h (by omega) (by omega), z m (by omega) (by omega), z t (by omega) (by omega)]
    exact jr_iktr a

/-! the whole program's places -/
def jr_PtC (K : Nat → Int32) (R : Nat → Nat → Nat → Prop) (P : Nat → Nat) (S : Nat → Nat → Prop) : Prop :=
  (∀ i, S i i) ∧ (∀ p e j, K p = 0 → K e = 1 → P p = p → P e = e → jr_Tq K R P (p + 1) e (p + 1) → S (e + 1) j → S p j)
def jr_Pp (K : Nat → Int32) (R : Nat → Nat → Nat → Prop) (P : Nat → Nat) (lo hi : Nat) : Prop :=
  ∀ S : Nat → Nat → Prop, jr_PtC K R P S → S lo hi
theorem jr_pp0 (i : Nat) : jr_Pp K R P i i := fun _ c => c.1 i
theorem jr_pp1 {p e j : Nat} (a : K p = 0) (b : K e = 1) (c : P p = p) (d : P e = e) (s : jr_Tq K R P (p + 1) e (p + 1))
    (h : jr_Pp K R P (e + 1) j) : jr_Pp K R P p j := fun S z => z.2 p e j a b c d s (h S z)
theorem jr_ppi {Q : Nat → Nat → Prop} (h0 : ∀ i, Q i i)
    (h1 : ∀ p e j, K p = 0 → K e = 1 → P p = p → P e = e → jr_Tq K R P (p + 1) e (p + 1) → jr_Pp K R P (e + 1) j → Q (e + 1) j → Q p j)
    {lo hi : Nat} (H : jr_Pp K R P lo hi) : Q lo hi :=
  (H (fun a b => jr_Pp K R P a b ∧ Q a b) ⟨fun i => ⟨jr_pp0 i, h0 i⟩,
    fun p e j a b c d s h => ⟨jr_pp1 a b c d s h.1, h1 p e j a b c d s h.1 h.2⟩⟩).2
theorem jr_pppg {lo hi : Nat} (H : jr_Pp K R P lo hi) : jr_Pg K R lo hi := by
  refine jr_ppi (Q := fun a b => jr_Pg K R a b) ?_ ?_ H
  · intro i; exact jr_pg0 i
  · intro p e j a b c d s _ h; exact jr_pg1 a (jr_tqsq s) b h
theorem jr_ppcg {P' : Nat → Nat} {lo hi : Nat} (H : jr_Pp K R P lo hi) :
    (∀ i, lo ≤ i → i < hi → P' i = P i) → jr_Pp K R P' lo hi := by
  refine jr_ppi (Q := fun lo hi => (∀ i, lo ≤ i → i < hi → P' i = P i) → jr_Pp K R P' lo hi) ?_ ?_ H
  · intro i _; exact jr_pp0 i
  · intro p e j a b c d s w ih z
    have a1 := jr_sqle (jr_tqsq s)
    have a2 := jr_pgle (jr_pppg w)
    exact jr_pp1 a b (by rw [z p (by omega) (by omega)]; exact c) (by rw [z e (by omega) (by omega)]; exact d)
      (jr_tqcg s (fun k u v => z k (by omega) (by omega))) (ih (fun k u v => z k (by omega) v))
theorem jr_ppex {lo hi : Nat} (H : jr_Pg K R lo hi) : ∃ P, jr_Pp K R P lo hi := by
  refine jr_pgi (P := fun lo hi => ∃ P, jr_Pp K R P lo hi) ?_ ?_ H
  · intro i; exact ⟨fun _ => 0, jr_pp0 i⟩
  · intro p e j a s b w ih
    obtain ⟨P2, h2⟩ := ih
    obtain ⟨P1, h1⟩ := jr_tqex s (p + 1)
    have a1 := jr_sqle s
    have a2 := jr_pgle w
    refine ⟨fun x => if x = p then p else if x < e then P1 x else if x = e then e else P2 x, jr_pp1 a b ?_ ?_ (jr_tqcg h1 ?_) (jr_ppcg h2 ?_)⟩
    · show (if p = p then p else _) = p
      rw [if_pos rfl]
    · show (if e = p then p else if e < e then _ else if e = e then e else _) = e
      rw [if_neg (by omega), if_neg (by omega), if_pos rfl]
    · intro k u v
      show (if k = p then p else if k < e then _ else _) = _
      rw [if_neg (by omega), if_pos v]
    · intro k u v
      show (if k = p then p else if k < e then _ else if k = e then e else _) = _
      rw [if_neg (by omega), if_neg (by omega), if_neg (by omega)]
theorem jr_ppra {lo hi : Nat} (H : jr_Pp K R P lo hi) : ∀ i, lo ≤ i → i < hi → lo ≤ P i ∧ P i < hi := by
  refine jr_ppi (Q := fun lo hi => ∀ i, lo ≤ i → i < hi → lo ≤ P i ∧ P i < hi) ?_ ?_ H
  · intro i k u v; omega
  · intro p e j a b c d s w ih k u v
    have a1 := jr_sqle (jr_tqsq s)
    have a2 := jr_pgle (jr_pppg w)
    by_cases e1 : k = p
    · subst e1; omega
    by_cases e2 : k < e
    · have := jr_tqra s k (by omega) e2; omega
    by_cases e3 : k = e
    · subst e3; omega
    · have := ih k (by omega) v; omega
theorem jr_ppsu {lo hi : Nat} (H : jr_Pp K R P lo hi) : ∀ x, lo ≤ x → x < hi → ∃ i, lo ≤ i ∧ i < hi ∧ P i = x := by
  refine jr_ppi (Q := fun lo hi => ∀ x, lo ≤ x → x < hi → ∃ i, lo ≤ i ∧ i < hi ∧ P i = x) ?_ ?_ H
  · intro i k u v; omega
  · intro p e j a b c d s w ih k u v
    have a1 := jr_sqle (jr_tqsq s)
    have a2 := jr_pgle (jr_pppg w)
    by_cases e1 : k = p
    · exact ⟨p, by omega, by omega, by omega⟩
    by_cases e2 : k < e
    · obtain ⟨q, q1, q2, q3⟩ := jr_tqsu s k (by omega) (by omega)
      exact ⟨q, by omega, by omega, q3⟩
    by_cases e3 : k = e
    · exact ⟨e, by omega, by omega, by omega⟩
    · obtain ⟨q, q1, q2, q3⟩ := ih k (by omega) v
      exact ⟨q, by omega, q2, q3⟩
theorem jr_ppin {lo hi : Nat} (H : jr_Pp K R P lo hi) : ∀ i k, lo ≤ i → i < hi → lo ≤ k → k < hi → P i = P k → i = k := by
  refine jr_ppi (Q := fun lo hi => ∀ i k, lo ≤ i → i < hi → lo ≤ k → k < hi → P i = P k → i = k) ?_ ?_ H
  · intro i a b u v; omega
  · intro p e j a b c d s w ih x y u v u' v' q
    have a1 := jr_sqle (jr_tqsq s)
    have a2 := jr_pgle (jr_pppg w)
    have r1 := jr_tqra s
    have r2 := jr_ppra w
    have Z : ∀ k, p ≤ k → k < j → (k = p ∧ P k = p) ∨ (p < k ∧ k < e ∧ p < P k ∧ P k < e) ∨ (k = e ∧ P k = e) ∨ (e < k ∧ e < P k) := by
      intro k ka kb
      by_cases e1 : k = p
      · exact Or.inl ⟨e1, by rw [e1, c]⟩
      by_cases e2 : k < e
      · have := r1 k (by omega) e2
        exact Or.inr (Or.inl ⟨by omega, e2, by omega, by omega⟩)
      by_cases e3 : k = e
      · exact Or.inr (Or.inr (Or.inl ⟨e3, by rw [e3, d]⟩))
      · have := r2 k (by omega) kb
        exact Or.inr (Or.inr (Or.inr ⟨by omega, by omega⟩))
    rcases Z x u v with z | z | z | z <;> rcases Z y u' v' with z' | z' | z' | z'
    · omega
    · omega
    · omega
    · omega
    · omega
    · exact jr_tqin s x y (by omega) (by omega) (by omega) (by omega) q
    · omega
    · omega
    · omega
    · omega
    · omega
    · omega
    · omega
    · omega
    · omega
    · exact ih x y (by omega) (by omega) (by omega) (by omega) q
theorem jr_pp0f {lo hi : Nat} (H : jr_Pp K R P lo hi) : ∀ i, lo ≤ i → i < hi → K i = 0 → P i = i := by
  refine jr_ppi (Q := fun lo hi => ∀ i, lo ≤ i → i < hi → K i = 0 → P i = i) ?_ ?_ H
  · intro i k u v; omega
  · intro p e j a b c d s w ih k u v q
    by_cases e1 : k = p
    · subst e1; exact c
    by_cases e2 : k < e
    · exact absurd q (jr_sq01 (jr_tqsq s) k (by omega) e2).1
    by_cases e3 : k = e
    · subst e3; exact d
    · exact ih k (by omega) v q
theorem jr_ppinv {K' : Nat → Int32} {lo hi : Nat} (H : jr_Pp K R P lo hi) :
    (∀ i, lo ≤ i → i < hi → K' (P i) = jr_ik (K i)) → jr_Pg K' jr_T3 lo hi := by
  refine jr_ppi (Q := fun lo hi => (∀ i, lo ≤ i → i < hi → K' (P i) = jr_ik (K i)) → jr_Pg K' jr_T3 lo hi) ?_ ?_ H
  · intro i _; exact jr_pg0 i
  · intro p e j a b c d s w ih z
    have a1 := jr_sqle (jr_tqsq s)
    have a2 := jr_pgle (jr_pppg w)
    have A := jr_tqinv s (fun k u v => z k (by omega) (by omega))
    have e1 : p + 1 + (e - (p + 1)) = e := by omega
    rw [e1] at A
    have zp := z p (by omega) (by omega)
    have ze := z e (by omega) (by omega)
    rw [c, a] at zp
    rw [d, b] at ze
    exact jr_pg1 zp A ze (ih (fun k u v => z k (by omega) v))
theorem jr_cpcg {K' : Nat → Int32} (n : Nat) : (∀ i, i < n → (K' i = 0 ↔ K i = 0)) → jr_cp K' n = jr_cp K n := by
  induction n with
  | zero => intro _; rfl
  | succ n ih =>
    intro z
    have e := ih (fun i h => z i (by omega))
    by_cases h : K n = 0
    · rw [jr_cp1 h, jr_cp1 ((z n (by omega)).mpr h), e]
    · rw [jr_cp0 h, jr_cp0 (fun q => h ((z n (by omega)).mp q)), e]
theorem jr_ik0 {k : Int32} (h : jr_ik k = 0) : k = 0 := by
  by_cases a : k = 2
  · rw [a, jr_ik2] at h; exact absurd h (by decide)
  by_cases b : k = 3
  · rw [b, jr_ik3] at h; exact absurd h (by decide)
  rw [jr_iko a b] at h; exact h
theorem jr_ppcp {K' : Nat → Int32} {n : Nat} (H : jr_Pp K R P 0 n) (z : ∀ i, i < n → K' (P i) = jr_ik (K i)) : jr_cp K' n = jr_cp K n := by
  refine jr_cpcg n (fun i hi => ⟨fun q => ?_, fun q => ?_⟩)
  · obtain ⟨x, _, x2, x3⟩ := jr_ppsu H i (by omega) hi
    have e := z x x2
    rw [x3, q] at e
    have k0 := jr_ik0 e.symm
    have := jr_pp0f H x (by omega) x2 k0
    rw [x3] at this
    rw [this]; exact k0
  · have := jr_pp0f H i (by omega) hi q
    have e := z i hi
    rw [this, q] at e
    exact e
end JRB
end
section
section JRC
variable {vl ll nl fl nc lc pc oc rd gp fc se ck pl pg pm gy : Int32} {st nk na nb nm nv lk la lb ho mo tl ph pt oi tg sm wk wa wb fr me po : Nat → Int32}
variable {R : Nat → Nat → Nat → Prop} {post : Int32 → Prop}
theorem jr_op1 {k k' : Int32} (ek : k' = k) (e : k = 8 ∨ k = 11) (h : post 1) : wpY_opens post (vl, ll, nl, fl, rd, nc, lc, fc, gy, ck, st, nk, na, nb, lk, la, lb, fr, nv, me, po, wk, wa, wb) k' := by
  subst ek
  by_cases c : k' = 8
  · exact br_t c h
  · exact br_f c (br_t (e.resolve_left c) h)
theorem jr_op0 {k k' : Int32} (ek : k' = k) (a : ¬ k = 8) (b : ¬ k = 11) (h : post 0) : wpY_opens post (vl, ll, nl, fl, rd, nc, lc, fc, gy, ck, st, nk, na, nb, lk, la, lb, fr, nv, me, po, wk, wa, wb) k' := by
  subst ek
  exact br_f a (br_f b h)
theorem jr_cl1 {k k' : Int32} (ek : k' = k) (e : k = 10 ∨ k = 13) (h : post 1) : wpY_closes post (vl, ll, nl, fl, rd, nc, lc, fc, gy, ck, st, nk, na, nb, lk, la, lb, fr, nv, me, po, wk, wa, wb) k' := by
  subst ek
  by_cases c : k' = 10
  · exact br_t c h
  · exact br_f c (br_t (e.resolve_left c) h)
theorem jr_cl0 {k k' : Int32} (ek : k' = k) (a : ¬ k = 10) (b : ¬ k = 13) (h : post 0) : wpY_closes post (vl, ll, nl, fl, rd, nc, lc, fc, gy, ck, st, nk, na, nb, lk, la, lb, fr, nv, me, po, wk, wa, wb) k' := by
  subst ek
  exact br_f a (br_f b h)
theorem jr_mi1 {k k' : Int32} (ek : k' = k) (e : k = 9 ∨ k = 12) (h : post 1) : wpY_middle post (vl, ll, nl, fl, rd, nc, lc, fc, gy, ck, st, nk, na, nb, lk, la, lb, fr, nv, me, po, wk, wa, wb) k' := by
  subst ek
  by_cases c : k' = 9
  · exact br_t c h
  · exact br_f c (br_t (e.resolve_left c) h)
theorem jr_mi0 {k k' : Int32} (ek : k' = k) (a : ¬ k = 9) (b : ¬ k = 12) (h : post 0) : wpY_middle post (vl, ll, nl, fl, rd, nc, lc, fc, gy, ck, st, nk, na, nb, lk, la, lb, fr, nv, me, po, wk, wa, wb) k' := by
  subst ek
  exact br_f a (br_f b h)

/-! owner -/
theorem jr_o57n {J : Int32 → Int32 → Prop} {a b k : Int32} (c8 : ¬ k = 8) (c11 : ¬ k = 11) (c10 : ¬ k = 10) (c13 : ¬ k = 13)
    (h : J a (b + (-1))) : wY_owner_57 post J a b k vl ll nl fl rd nc lc fc gy ck st nk na nb lk la lb fr nv me po wk wa wb := by
  unfold wY_owner_57
  refine jr_cl0 rfl c10 c13 (br_t rfl ?_)
  unfold wY_owner_69
  exact jr_op0 rfl c8 c11 (br_t rfl (nm_e h))
theorem jr_o57c {J : Int32 → Int32 → Prop} {a b k : Int32} (e : k = 10 ∨ k = 13)
    (h : J (a + 1) (b + (-1))) : wY_owner_57 post J a b k vl ll nl fl rd nc lc fc gy ck st nk na nb lk la lb fr nv me po wk wa wb := by
  unfold wY_owner_57
  refine jr_cl1 rfl e (br_f (by decide) (nm_e ?_))
  unfold wY_owner_69
  exact jr_op0 rfl (jr_clf e).2.2.1 (jr_clf e).2.2.2.1 (br_t rfl (nm_e h))
theorem jr_o57o {J : Int32 → Int32 → Prop} {a b k : Int32} (e : k = 8 ∨ k = 11)
    (h : J (a + (-1)) (b + (-1))) : wY_owner_57 post J a b k vl ll nl fl rd nc lc fc gy ck st nk na nb lk la lb fr nv me po wk wa wb := by
  unfold wY_owner_57
  refine jr_cl0 rfl (jr_opf e).2.2.2.2.1 (jr_opf e).2.2.2.2.2 (br_t rfl ?_)
  unfold wY_owner_69
  exact jr_op1 rfl e (br_f (by decide) (nm_e (nm_e h)))
theorem jr_ow1 {n i : Nat} {a : Int32} (hi : i < 96) (n0 : ¬ lk i = 0) (n1 : ¬ lk i = 1)
    (n8 : ¬ lk i = 8) (n11 : ¬ lk i = 11) (n9 : ¬ lk i = 9) (n12 : ¬ lk i = 12)
    (h : wY_owner_57 post (wY_owner_6 post vl ll nl fl rd nc lc fc gy ck st nk na nb lk la lb fr nv me po wk wa wb n) a (nI i) (lk i) vl ll nl fl rd nc lc fc gy ck st nk na nb lk la lb fr nv me po wk wa wb) :
    wY_owner_6 post vl ll nl fl rd nc lc fc gy ck st nk na nb lk la lb fr nv me po wk wa wb (n + 1) a (nI (i + 1) + (-1)) := by
  rw [jr_m1 i]
  refine br_f (nI_pos (by omega)) ⟨vp_in_nI hi (by omega), nm_r (congrArg lk (nI_clamp (by omega))) (br_f n0 (br_f n1 ?_))⟩
  by_cases ha : a = 0
  · refine br_t ha (jr_op0 rfl n8 n11 (br_t rfl (jr_mi0 rfl n9 n12 (br_t rfl h))))
  · exact br_f ha h
theorem jr_ow2 {n i : Nat} {a : Int32} (hi : i < 96) (n0 : ¬ lk i = 0) (n1 : ¬ lk i = 1) (ha : ¬ a = 0)
    (h : wY_owner_57 post (wY_owner_6 post vl ll nl fl rd nc lc fc gy ck st nk na nb lk la lb fr nv me po wk wa wb n) a (nI i) (lk i) vl ll nl fl rd nc lc fc gy ck st nk na nb lk la lb fr nv me po wk wa wb) :
    wY_owner_6 post vl ll nl fl rd nc lc fc gy ck st nk na nb lk la lb fr nv me po wk wa wb (n + 1) a (nI (i + 1) + (-1)) := by
  rw [jr_m1 i]
  exact br_f (nI_pos (by omega)) ⟨vp_in_nI hi (by omega), nm_r (congrArg lk (nI_clamp (by omega))) (br_f n0 (br_f n1 (br_f ha h)))⟩
/-- a line whose sequence is open behind it -/
def jr_Own (k : Int32) : Prop := k = 0 ∨ (k = 8 ∨ k = 11) ∨ (k = 9 ∨ k = 12)
theorem jr_owst {n o : Nat} (ho : o < 96) (e : jr_Own (lk o)) (h : post (nI o)) : wY_owner_6 post vl ll nl fl rd nc lc fc gy ck st nk na nb lk la lb fr nv me po wk wa wb (n + 1) (nI 0) (nI (o + 1) + (-1)) := by
  rw [jr_m1 o]
  refine br_f (nI_pos (by omega)) ⟨vp_in_nI ho (by omega), nm_r (congrArg lk (nI_clamp (by omega))) ?_⟩
  rcases e with e | e | e
  · exact br_t e h
  · exact br_f (jr_opf e).1 (br_f (jr_opf e).2.1 (br_t rfl (jr_op1 rfl e (br_f (by decide) h))))
  · exact br_f (jr_mif e).1 (br_f (jr_mif e).2.1 (br_t rfl (jr_op0 rfl (jr_mif e).2.2.1 (jr_mif e).2.2.2.1 (br_t rfl (jr_mi1 rfl e (br_f (by decide) h))))))
theorem jr_yow {o i : Nat} (hi : i ≤ 96) (hq : jr_Sq lk R (o + 1) i) (e : jr_Own (lk o)) (h : post (nI o)) : wpY_owner post (vl, ll, nl, fl, rd, nc, lc, fc, gy, ck, st, nk, na, nb, lk, la, lb, fr, nv, me, po, wk, wa, wb) (nI i) := by
  have le := jr_sqle hq
  show ∀ x, x = nI i - 1 → ∃ n, wY_owner_6 post vl ll nl fl rd nc lc fc gy ck st nk na nb lk la lb fr nv me po wk wa wb n 0 x
  refine nm_r (jr_s1 (nI i)) ⟨1 + (i - (o + 1)), ?_⟩
  refine jr_bwd (W := fun n d i => wY_owner_6 post vl ll nl fl rd nc lc fc gy ck st nk na nb lk la lb fr nv me po wk wa wb n (nI d) (nI i + (-1))) (N := 96) ?_ ?_ ?_ ?_ hq 1 0 hi (by omega) (jr_owst (by omega) e h)
  · intro n d i hi hd s w
    have f := jr_smf s
    exact jr_ow1 hi f.1 f.2.1 f.2.2.1 f.2.2.2.2.2.1 f.2.2.2.1 f.2.2.2.2.2.2.1 (jr_o57n f.2.2.1 f.2.2.2.2.2.1 f.2.2.2.2.1 f.2.2.2.2.2.2.2 w)
  · intro n d i hi hd s w
    have f := jr_opf s
    refine jr_ow2 hi f.1 f.2.1 (nI_ne0 (by omega) (by omega)) (jr_o57o s ?_)
    rw [jr_m1 d]; exact w
  · intro n d i hi hd s w
    have f := jr_mif s
    exact jr_ow2 hi f.1 f.2.1 (nI_ne0 (by omega) (by omega)) (jr_o57n f.2.2.1 f.2.2.2.1 f.2.2.2.2.1 f.2.2.2.2.2 w)
  · intro n d i hi hd s w
    have f := jr_clf s
    refine jr_ow1 hi f.1 f.2.1 f.2.2.1 f.2.2.2.1 f.2.2.2.2.1 f.2.2.2.2.2 (jr_o57c s ?_)
    rw [nI_1 d]; exact w
theorem jr_yow0 {i : Nat} (hi : i ≤ 96) (e : i = 0 ∨ ∃ j, i = j + 1 ∧ lk j = 1) (h : post (-1)) : wpY_owner post (vl, ll, nl, fl, rd, nc, lc, fc, gy, ck, st, nk, na, nb, lk, la, lb, fr, nv, me, po, wk, wa, wb) (nI i) := by
  show ∀ x, x = nI i - 1 → ∃ n, wY_owner_6 post vl ll nl fl rd nc lc fc gy ck st nk na nb lk la lb fr nv me po wk wa wb n 0 x
  rcases e with rfl | ⟨j, rfl, e⟩
  · exact nm_r (e' := (-1 : Int32)) (by decide) ⟨1, br_t (by decide) h⟩
  · exact nm_r (nI_pred j) ⟨1, br_f (nI_pos (by omega)) ⟨vp_in_nI (by omega) (by omega), nm_r (congrArg lk (nI_clamp (by omega))) (br_f (by rw [e]; decide) (br_t e h))⟩⟩

/-! sequenceEnd -/
theorem jr_e50n {J : Int32 → Int32 → Prop} {x a b k : Int32} (c8 : ¬ k = 8) (c11 : ¬ k = 11) (c10 : ¬ k = 10) (c13 : ¬ k = 13)
    (h : J a (b + 1)) : wY_sequenceEnd_50 post J x a b k vl ll nl fl rd nc lc fc gy ck st nk na nb lk la lb fr nv me po wk wa wb := by
  unfold wY_sequenceEnd_50
  refine jr_op0 rfl c8 c11 (br_t rfl ?_)
  unfold wY_sequenceEnd_62
  exact jr_cl0 rfl c10 c13 (br_t rfl (nm_e h))
theorem jr_e50o {J : Int32 → Int32 → Prop} {x a b k : Int32} (e : k = 8 ∨ k = 11)
    (h : J (a + 1) (b + 1)) : wY_sequenceEnd_50 post J x a b k vl ll nl fl rd nc lc fc gy ck st nk na nb lk la lb fr nv me po wk wa wb := by
  unfold wY_sequenceEnd_50
  refine jr_op1 rfl e (br_f (by decide) (nm_e ?_))
  unfold wY_sequenceEnd_62
  exact jr_cl0 rfl (jr_opf e).2.2.2.2.1 (jr_opf e).2.2.2.2.2 (br_t rfl (nm_e h))
theorem jr_e50c {J : Int32 → Int32 → Prop} {x a b k : Int32} (e : k = 10 ∨ k = 13)
    (h : J (a + (-1)) (b + 1)) : wY_sequenceEnd_50 post J x a b k vl ll nl fl rd nc lc fc gy ck st nk na nb lk la lb fr nv me po wk wa wb := by
  unfold wY_sequenceEnd_50
  refine jr_op0 rfl (jr_clf e).2.2.1 (jr_clf e).2.2.2.1 (br_t rfl ?_)
  unfold wY_sequenceEnd_62
  exact jr_cl1 rfl e (br_f (by decide) (nm_e (nm_e h)))
theorem jr_se1 {n i N : Nat} {x a : Int32} (hN : N ≤ 96) (hi : i < N) (n1 : ¬ lk i = 1)
    (n10 : ¬ lk i = 10) (n13 : ¬ lk i = 13) (n9 : ¬ lk i = 9) (n12 : ¬ lk i = 12)
    (h : wY_sequenceEnd_50 post (wY_sequenceEnd_4 post x vl ll nl fl rd nc (nI N) fc gy ck st nk na nb lk la lb fr nv me po wk wa wb n) x a (nI i) (lk i) vl ll nl fl rd nc (nI N) fc gy ck st nk na nb lk la lb fr nv me po wk wa wb) :
    wY_sequenceEnd_4 post x vl ll nl fl rd nc (nI N) fc gy ck st nk na nb lk la lb fr nv me po wk wa wb (n + 1) a (nI i) := by
  refine br_f (nI_ge hi (by omega)) ⟨vp_in_nI (by omega) (by omega), nm_r (congrArg lk (nI_clamp (by omega))) (br_f n1 ?_)⟩
  by_cases ha : a = 0
  · refine br_t ha (jr_cl0 rfl n10 n13 (br_t rfl (jr_mi0 rfl n9 n12 (br_t rfl h))))
  · exact br_f ha h
theorem jr_se2 {n i N : Nat} {x a : Int32} (hN : N ≤ 96) (hi : i < N) (n1 : ¬ lk i = 1) (ha : ¬ a = 0)
    (h : wY_sequenceEnd_50 post (wY_sequenceEnd_4 post x vl ll nl fl rd nc (nI N) fc gy ck st nk na nb lk la lb fr nv me po wk wa wb n) x a (nI i) (lk i) vl ll nl fl rd nc (nI N) fc gy ck st nk na nb lk la lb fr nv me po wk wa wb) :
    wY_sequenceEnd_4 post x vl ll nl fl rd nc (nI N) fc gy ck st nk na nb lk la lb fr nv me po wk wa wb (n + 1) a (nI i) :=
  br_f (nI_ge hi (by omega)) ⟨vp_in_nI (by omega) (by omega), nm_r (congrArg lk (nI_clamp (by omega))) (br_f n1 (br_f ha h))⟩
/-- a line that ends a sequence -/
def jr_End (k : Int32) : Prop := k = 1 ∨ (k = 10 ∨ k = 13) ∨ (k = 9 ∨ k = 12)
theorem jr_sest {n o N : Nat} {x : Int32} (hN : N ≤ 96) (ho : o < N) (e : jr_End (lk o)) (h : post (nI o)) :
    wY_sequenceEnd_4 post x vl ll nl fl rd nc (nI N) fc gy ck st nk na nb lk la lb fr nv me po wk wa wb (n + 1) (nI 0) (nI o) := by
  refine br_f (nI_ge ho (by omega)) ⟨vp_in_nI (by omega) (by omega), nm_r (congrArg lk (nI_clamp (by omega))) ?_⟩
  rcases e with e | e | e
  · exact br_t e h
  · exact br_f (jr_clf e).2.1 (br_t rfl (jr_cl1 rfl e (br_f (by decide) h)))
  · exact br_f (jr_mif e).2.1 (br_t rfl (jr_cl0 rfl (jr_mif e).2.2.2.2.1 (jr_mif e).2.2.2.2.2 (br_t rfl (jr_mi1 rfl e (br_f (by decide) h)))))
theorem jr_yse {i e N : Nat} (hN : N ≤ 96) (he : e < N) (hq : jr_Sq lk R i e) (ke : jr_End (lk e)) (h : post (nI e)) :
    wpY_sequenceEnd post (vl, ll, nl, fl, rd, nc, (nI N), fc, gy, ck, st, nk, na, nb, lk, la, lb, fr, nv, me, po, wk, wa, wb) (nI i) := by
  have le := jr_sqle hq
  show ∃ n, wY_sequenceEnd_4 post (nI i) vl ll nl fl rd nc (nI N) fc gy ck st nk na nb lk la lb fr nv me po wk wa wb n 0 (nI i)
  refine ⟨1 + (e - i), ?_⟩
  refine jr_fwd (W := fun n d j => wY_sequenceEnd_4 post (nI i) vl ll nl fl rd nc (nI N) fc gy ck st nk na nb lk la lb fr nv me po wk wa wb n (nI d) (nI j)) (D := 0) (N := N) ?_ ?_ ?_ ?_ hq 1 0 (by omega) (by omega) (by omega) (jr_sest hN he ke h)
  · intro n d j hj _ hd s w
    have f := jr_smf s
    refine jr_se1 hN hj f.2.1 f.2.2.2.2.1 f.2.2.2.2.2.2.2 f.2.2.2.1 f.2.2.2.2.2.2.1 (jr_e50n f.2.2.1 f.2.2.2.2.2.1 f.2.2.2.2.1 f.2.2.2.2.2.2.2 ?_)
    rw [nI_1 j]; exact w
  · intro n d j hj _ hd s w
    have f := jr_opf s
    refine jr_se1 hN hj f.2.1 f.2.2.2.2.1 f.2.2.2.2.2 f.2.2.1 f.2.2.2.1 (jr_e50o s ?_)
    rw [nI_1 j, nI_1 d]; exact w
  · intro n d j hj h0 hd s w
    have f := jr_mif s
    refine jr_se2 hN hj f.2.1 (nI_ne0 h0 (by omega)) (jr_e50n f.2.2.1 f.2.2.2.1 f.2.2.2.2.1 f.2.2.2.2.2 ?_)
    rw [nI_1 j]; exact w
  · intro n d j hj _ hd s w
    have f := jr_clf s
    refine jr_se2 hN hj f.2.1 (nI_ne0 (by omega) (by omega)) (jr_e50c s ?_)
    rw [nI_1 j, jr_m1 d]; exact w

/-! partner -/
theorem jr_p101n {J : Int32 → Int32 → Prop} {x y a : Int32} {i : Nat} (hi : i < 96) (c10 : ¬ lk i = 10) (c13 : ¬ lk i = 13)
    (h : J a (nI i + 1)) : wY_partner_101 post J x y a (nI i) vl ll nl fl rd nc lc fc gy ck st nk na nb lk la lb fr nv me po wk wa wb := by
  unfold wY_partner_101
  exact ⟨vp_in_nI hi (by omega), jr_cl0 (congrArg lk (nI_clamp (by omega))) c10 c13 (br_t rfl (nm_e h))⟩
theorem jr_p101c {J : Int32 → Int32 → Prop} {x y a : Int32} {i : Nat} (hi : i < 96) (e : lk i = 10 ∨ lk i = 13)
    (h : J (a + (-1)) (nI i + 1)) : wY_partner_101 post J x y a (nI i) vl ll nl fl rd nc lc fc gy ck st nk na nb lk la lb fr nv me po wk wa wb := by
  unfold wY_partner_101
  exact ⟨vp_in_nI hi (by omega), jr_cl1 (congrArg lk (nI_clamp (by omega))) e (br_f (by decide) (nm_e (nm_e h)))⟩
theorem jr_p81 {J : Int32 → Int32 → Prop} {x y a : Int32} {i : Nat} (hi : i < 96) (c : ¬ a = 1 ∨ ¬ lk i = y)
    (h : wY_partner_101 post J x y a (nI i) vl ll nl fl rd nc lc fc gy ck st nk na nb lk la lb fr nv me po wk wa wb) : wY_partner_81 post J x y a (nI i) vl ll nl fl rd nc lc fc gy ck st nk na nb lk la lb fr nv me po wk wa wb := by
  unfold wY_partner_81
  by_cases ha : a = 1
  · refine br_t ha ⟨vp_in_nI hi (by omega), br_f ?_ h⟩
    rw [nI_clamp (by omega)]
    rcases c with c | c
    · exact absurd ha c
    · exact c
  · exact br_f ha h
theorem jr_p81s {J : Int32 → Int32 → Prop} {x y : Int32} {i : Nat} (hi : i < 96) (c : lk i = y)
    (h : post (nI i)) : wY_partner_81 post J x y 1 (nI i) vl ll nl fl rd nc lc fc gy ck st nk na nb lk la lb fr nv me po wk wa wb := by
  unfold wY_partner_81
  refine br_t rfl ⟨vp_in_nI hi (by omega), br_t ?_ h⟩
  rw [nI_clamp (by omega)]; exact c
theorem jr_p55n {n i N : Nat} {x y a : Int32} (hN : N ≤ 96) (hi : i < N) (c8 : ¬ lk i = 8) (c11 : ¬ lk i = 11)
    (h : wY_partner_81 post (wY_partner_55 post x y vl ll nl fl rd nc (nI N) fc gy ck st nk na nb lk la lb fr nv me po wk wa wb n) x y a (nI i) vl ll nl fl rd nc (nI N) fc gy ck st nk na nb lk la lb fr nv me po wk wa wb) :
    wY_partner_55 post x y vl ll nl fl rd nc (nI N) fc gy ck st nk na nb lk la lb fr nv me po wk wa wb (n + 1) a (nI i) :=
  br_f (nI_ge hi (by omega)) ⟨vp_in_nI (by omega) (by omega), jr_op0 (congrArg lk (nI_clamp (by omega))) c8 c11 (br_t rfl h)⟩
theorem jr_p55o {n i N : Nat} {x y a : Int32} (hN : N ≤ 96) (hi : i < N) (e : lk i = 8 ∨ lk i = 11)
    (h : wY_partner_81 post (wY_partner_55 post x y vl ll nl fl rd nc (nI N) fc gy ck st nk na nb lk la lb fr nv me po wk wa wb n) x y (a + 1) (nI i) vl ll nl fl rd nc (nI N) fc gy ck st nk na nb lk la lb fr nv me po wk wa wb) :
    wY_partner_55 post x y vl ll nl fl rd nc (nI N) fc gy ck st nk na nb lk la lb fr nv me po wk wa wb (n + 1) a (nI i) :=
  br_f (nI_ge hi (by omega)) ⟨vp_in_nI (by omega) (by omega), jr_op1 (congrArg lk (nI_clamp (by omega))) e (br_f (by decide) (nm_e h))⟩
theorem jr_ppas {lo hi N : Nat} {x y : Int32} (hN : N ≤ 96) (hy : ¬ jr_Smp y) (hq : jr_Sq lk R lo hi) (hh : hi ≤ N) (n : Nat)
    (h : wY_partner_55 post x y vl ll nl fl rd nc (nI N) fc gy ck st nk na nb lk la lb fr nv me po wk wa wb n (nI 1) (nI hi)) :
    wY_partner_55 post x y vl ll nl fl rd nc (nI N) fc gy ck st nk na nb lk la lb fr nv me po wk wa wb (n + (hi - lo)) (nI 1) (nI lo) := by
  refine jr_fwd (W := fun n d j => wY_partner_55 post x y vl ll nl fl rd nc (nI N) fc gy ck st nk na nb lk la lb fr nv me po wk wa wb n (nI d) (nI j)) (D := 1) (N := N) ?_ ?_ ?_ ?_ hq n 1 hh (by omega) (by omega) h
  · intro n d j hj h0 hd s w
    have f := jr_smf s
    refine jr_p55n hN hj f.2.2.1 f.2.2.2.2.2.1 (jr_p81 (by omega) (Or.inr (fun z => hy (z ▸ s))) (jr_p101n (by omega) f.2.2.2.2.1 f.2.2.2.2.2.2.2 ?_))
    rw [nI_1 j]; exact w
  · intro n d j hj h0 hd s w
    have f := jr_opf s
    refine jr_p55o hN hj s (jr_p81 (by omega) (Or.inl ?_) (jr_p101n (by omega) f.2.2.2.2.1 f.2.2.2.2.2 ?_))
    · rw [nI_1 d, jr_eq1 (by omega)]; omega
    · rw [nI_1 j, nI_1 d]; exact w
  · intro n d j hj h0 hd s w
    have f := jr_mif s
    refine jr_p55n hN hj f.2.2.1 f.2.2.2.1 (jr_p81 (by omega) (Or.inl ?_) (jr_p101n (by omega) f.2.2.2.2.1 f.2.2.2.2.2 ?_))
    · rw [jr_eq1 (by omega)]; omega
    · rw [nI_1 j]; exact w
  · intro n d j hj h0 hd s w
    have f := jr_clf s
    refine jr_p55n hN hj f.2.2.1 f.2.2.2.1 (jr_p81 (by omega) (Or.inl ?_) (jr_p101c (by omega) s ?_))
    · rw [jr_eq1 (by omega)]; omega
    · rw [nI_1 j, jr_m1 d]; exact w
theorem jr_tns {a b c y : Int32} (s : jr_Tri a b c) (e : y = a ∨ y = b ∨ y = c) : ¬ jr_Smp y := by
  intro z
  have f := jr_smf z
  rcases s with ⟨rfl, rfl, rfl⟩ | ⟨rfl, rfl, rfl⟩ <;> rcases e with rfl | rfl | rfl
  · exact f.2.2.1 rfl
  · exact f.2.2.2.1 rfl
  · exact f.2.2.2.2.1 rfl
  · exact f.2.2.2.2.2.1 rfl
  · exact f.2.2.2.2.2.2.1 rfl
  · exact f.2.2.2.2.2.2.2 rfl
/-- from the head the scan finds the statement's lines -/
theorem jr_p55 {h m t N r : Nat} {x y : Int32} (hN : N ≤ 96) (ht : t < N) (s : jr_Tri (lk h) (lk m) (lk t))
    (q1 : jr_Sq lk R (h + 1) m) (q2 : jr_Sq lk R (m + 1) t)
    (e : (y = lk h ∧ r = h) ∨ (y = lk m ∧ r = m) ∨ (y = lk t ∧ r = t)) (w : post (nI r)) :
    ∃ n, wY_partner_55 post x y vl ll nl fl rd nc (nI N) fc gy ck st nk na nb lk la lb fr nv me po wk wa wb n 0 (nI h) := by
  have l1 := jr_sqle q1
  have l2 := jr_sqle q2
  have fm := jr_mif (jr_t2 s)
  have fh := jr_opf (jr_t1 s)
  have ft := jr_clf (jr_t3 s)
  have hy : ¬ jr_Smp y := jr_tns s (e.imp (fun z => z.1) (fun z => z.imp (fun z => z.1) (fun z => z.1)))
  have d01 : (0 : Int32) + 1 = nI 1 := by decide
  by_cases c1 : lk h = y
  · have er : r = h := by
      rcases e with e | e | e
      · exact e.2
      · exact absurd (c1.trans e.1) (fun z => (jr_mif (jr_t2 s)).2.2.1 (by
          rcases jr_t1 s with k | k
          · rw [← z, k]
          · exact absurd (z.symm.trans k) fm.2.2.2.1))
      · exact absurd (c1.trans e.1) (fun z => (by
          rcases jr_t1 s with k | k
          · exact ft.2.2.1 (z.symm.trans k)
          · exact ft.2.2.2.1 (z.symm.trans k)))
    subst er
    exact ⟨1, jr_p55o hN (by omega) (jr_t1 s) (by rw [d01]; exact jr_p81s (by omega) c1 w)⟩
  by_cases c2 : lk m = y
  · have er : r = m := by
      rcases e with e | e | e
      · exact absurd e.1.symm c1
      · exact e.2
      · exact absurd (c2.trans e.1) (fun z => (by
          rcases jr_t2 s with k | k
          · exact ft.2.2.2.2.1 (z.symm.trans k)
          · exact ft.2.2.2.2.2 (z.symm.trans k)))
    subst er
    refine ⟨0 + 1 + (r - (h + 1)) + 1, jr_p55o hN (by omega) (jr_t1 s) ?_⟩
    rw [d01]
    refine jr_p81 (by omega) (Or.inr c1) (jr_p101n (by omega) fh.2.2.2.2.1 fh.2.2.2.2.2 ?_)
    rw [nI_1 h]
    exact jr_ppas hN hy q1 (by omega) (0 + 1) (jr_p55n hN (by omega) fm.2.2.1 fm.2.2.2.1 (jr_p81s (by omega) c2 w))
  · have e3 : y = lk t ∧ r = t := by
      rcases e with e | e | e
      · exact absurd e.1.symm c1
      · exact absurd e.1.symm c2
      · exact e
    obtain ⟨e3, er⟩ := e3
    subst er
    refine ⟨0 + 1 + (r - (m + 1)) + 1 + (m - (h + 1)) + 1, jr_p55o hN (by omega) (jr_t1 s) ?_⟩
    rw [d01]
    refine jr_p81 (by omega) (Or.inr c1) (jr_p101n (by omega) fh.2.2.2.2.1 fh.2.2.2.2.2 ?_)
    rw [nI_1 h]
    refine jr_ppas hN hy q1 (by omega) _ (jr_p55n hN (by omega) fm.2.2.1 fm.2.2.2.1 (jr_p81 (by omega) (Or.inr c2) (jr_p101n (by omega) fm.2.2.2.2.1 fm.2.2.2.2.2 ?_)))
    rw [nI_1 m]
    exact jr_ppas hN hy q2 (by omega) (0 + 1) (jr_p55n hN (by omega) ft.2.2.1 ft.2.2.2.1 (jr_p81s (by omega) e3.symm w))
theorem jr_p5o {n s : Nat} {x y a : Int32} (ha : ¬ (2 : Int32) ≤ a) (hs : s < 96) (e : lk s = 8 ∨ lk s = 11)
    (h : wY_partner_5 post x y vl ll nl fl rd nc lc fc gy ck st nk na nb lk la lb fr nv me po wk wa wb n (nI s) (a + 1)) : wY_partner_5 post x y vl ll nl fl rd nc lc fc gy ck st nk na nb lk la lb fr nv me po wk wa wb (n + 1) (nI s) a := by
  refine br_f ha ⟨vp_in_nI hs (by omega), jr_op1 (congrArg lk (nI_clamp (by omega))) e (br_f (by decide) ?_)⟩
  unfold wY_partner_33
  exact br_f (nI_pos (by omega)) (nm_e h)
theorem jr_p5u {n s o : Nat} {x y a : Int32} (ha : ¬ (2 : Int32) ≤ a) (hs : s < 96) (c8 : ¬ lk s = 8) (c11 : ¬ lk s = 11)
    (hq : jr_Sq lk R (o + 1) s) (e : jr_Own (lk o))
    (h : wY_partner_5 post x y vl ll nl fl rd nc lc fc gy ck st nk na nb lk la lb fr nv me po wk wa wb n (nI o) (a + 1)) : wY_partner_5 post x y vl ll nl fl rd nc lc fc gy ck st nk na nb lk la lb fr nv me po wk wa wb (n + 1) (nI s) a := by
  have le := jr_sqle hq
  refine br_f ha ⟨vp_in_nI hs (by omega), jr_op0 (congrArg lk (nI_clamp (by omega))) c8 c11 (br_t rfl (jr_yow (by omega) hq e ?_))⟩
  unfold wY_partner_33
  exact br_f (nI_pos (by omega)) (nm_e h)
theorem jr_ypa {h m t N i r : Nat} {y : Int32} (hN : N ≤ 96) (ht : t < N) (s : jr_Tri (lk h) (lk m) (lk t))
    (q1 : jr_Sq lk R (h + 1) m) (q2 : jr_Sq lk R (m + 1) t) (ei : i = h ∨ i = m ∨ i = t)
    (e : (y = lk h ∧ r = h) ∨ (y = lk m ∧ r = m) ∨ (y = lk t ∧ r = t)) (w : post (nI r)) :
    wpY_partner post (vl, ll, nl, fl, rd, nc, (nI N), fc, gy, ck, st, nk, na, nb, lk, la, lb, fr, nv, me, po, wk, wa, wb) (nI i) y := by
  have l1 := jr_sqle q1
  have l2 := jr_sqle q2
  have fm := jr_mif (jr_t2 s)
  have ft := jr_clf (jr_t3 s)
  show ∃ n, wY_partner_5 post (nI i) y vl ll nl fl rd nc (nI N) fc gy ck st nk na nb lk la lb fr nv me po wk wa wb n (nI i) 0
  refine ⟨2 + 1, ?_⟩
  have Z : wY_partner_5 post (nI i) y vl ll nl fl rd nc (nI N) fc gy ck st nk na nb lk la lb fr nv me po wk wa wb 1 (nI h) (0 + 1 + 1) :=
    br_t (by decide) (jr_p55 hN ht s q1 q2 e w)
  rcases ei with ei | ei | ei
  · have Z2 := jr_p5o (by decide) (by omega) (jr_t1 s) (jr_p5o (by decide) (by omega) (jr_t1 s) Z)
    rw [ei] at Z2 ⊢; exact Z2
  · have Z2 := jr_p5u (by decide) (by omega) fm.2.2.1 fm.2.2.2.1 q1 (Or.inr (Or.inl (jr_t1 s))) (jr_p5o (by decide) (by omega) (jr_t1 s) Z)
    rw [ei] at Z2 ⊢; exact Z2
  · have Z2 := jr_p5u (by decide) (by omega) ft.2.2.1 ft.2.2.2.1 q2 (Or.inr (Or.inr (jr_t2 s))) (jr_p5u (by decide) (by omega) fm.2.2.1 fm.2.2.2.1 q1 (Or.inr (Or.inl (jr_t1 s))) Z)
    rw [ei] at Z2 ⊢; exact Z2

/-! procedures -/
theorem jr_ypr {N : Nat} (hN : N ≤ 96) (h : post (nI (jr_cp lk N))) : wpY_procs post (vl, ll, nl, fl, rd, nc, (nI N), fc, gy, ck, st, nk, na, nb, lk, la, lb, fr, nv, me, po, wk, wa, wb) := by
  have A : ∀ d i, i + d = N → wY_procs_4 post vl ll nl fl rd nc (nI N) fc gy ck st nk na nb lk la lb fr nv me po wk wa wb (d + 1) (nI (jr_cp lk i)) (nI i) := by
    intro d
    induction d with
    | zero =>
      intro i e
      have e : i = N := by omega
      subst e
      exact br_t (nI_le (by omega) (by omega)) h
    | succ d ih =>
      intro i e
      refine br_f (nI_ge (by omega) (by omega)) ⟨vp_in_nI (by omega) (by omega), ?_⟩
      rw [nI_clamp (by omega)]
      have z := ih (i + 1) (by omega)
      by_cases c : lk i = 0
      · rw [jr_cp1 c] at z
        exact br_t c (nm_r (nI_1 _) (nm_r (nI_1 _) z))
      · rw [jr_cp0 c] at z
        exact br_f c (nm_r (nI_1 _) z)
  exact ⟨_, A N 0 (by omega)⟩
theorem jr_yfg {N i p : Nat} (hN : N ≤ 96) (hi : i < N) (k : lk i = 0) (c : jr_cp lk i = p) (h : post (nI (i + 1))) :
    wpY_firstGap post (vl, ll, nl, fl, rd, nc, (nI N), fc, gy, ck, st, nk, na, nb, lk, la, lb, fr, nv, me, po, wk, wa, wb) (nI p) := by
  have A : ∀ d j, j + d = i → wY_firstGap_4 post (nI p) vl ll nl fl rd nc (nI N) fc gy ck st nk na nb lk la lb fr nv me po wk wa wb (d + 1) (nI (jr_cp lk j)) (nI j) := by
    intro d
    induction d with
    | zero =>
      intro j e
      have e : j = i := by omega
      subst e
      refine br_f (nI_ge (by omega) (by omega)) ⟨vp_in_nI (by omega) (by omega), ?_⟩
      rw [nI_clamp (by omega)]
      refine br_t k (br_t (congrArg nI c) ?_)
      rw [nI_1]; exact h
    | succ d ih =>
      intro j e
      refine br_f (nI_ge (by omega) (by omega)) ⟨vp_in_nI (by omega) (by omega), ?_⟩
      rw [nI_clamp (by omega)]
      have z := ih (j + 1) (by omega)
      have b1 := jr_cple (K := lk) j
      have b2 := jr_cple (K := lk) i
      by_cases c' : lk j = 0
      · have mo := jr_cpm (K := lk) (show j + 1 ≤ i by omega)
        rw [jr_cp1 c'] at z mo
        refine br_t c' (br_f ?_ ?_)
        · rw [nI_eq (by omega) (by omega)]; omega
        · unfold wY_firstGap_30
          refine ⟨vp_in_nI (by omega) (by omega), ?_⟩
          rw [nI_clamp (by omega)]
          exact br_t c' (nm_r (nI_1 _) (nm_r (nI_1 _) z))
      · rw [jr_cp0 c'] at z
        refine br_f c' ?_
        unfold wY_firstGap_30
        refine ⟨vp_in_nI (by omega) (by omega), ?_⟩
        rw [nI_clamp (by omega)]
        exact br_f c' (nm_r (nI_1 _) z)
  exact ⟨_, A i 0 (by omega)⟩
theorem jr_ylg {N i e p : Nat} (hN : N ≤ 96) (he : e < N) (k : lk i = 0) (c : jr_cp lk i = p) (q : jr_Sq lk R (i + 1) e) (k1 : lk e = 1)
    (h : post (nI e)) : wpY_lastGap post (vl, ll, nl, fl, rd, nc, (nI N), fc, gy, ck, st, nk, na, nb, lk, la, lb, fr, nv, me, po, wk, wa, wb) (nI p) := by
  have le := jr_sqle q
  have A : ∀ d j, j + d = e → i + 1 ≤ j → wY_lastGap_8 post (nI (i + 1)) vl ll nl fl rd nc (nI N) fc gy ck st nk na nb lk la lb fr nv me po wk wa wb (d + 1) (nI j) := by
    intro d
    induction d with
    | zero =>
      intro j e' _
      have e' : j = e := by omega
      subst e'
      refine br_f (nI_ge (by omega) (by omega)) ⟨vp_in_nI (by omega) (by omega), ?_⟩
      rw [nI_clamp (by omega)]
      exact br_t k1 h
    | succ d ih =>
      intro j e' l
      refine br_f (nI_ge (by omega) (by omega)) ⟨vp_in_nI (by omega) (by omega), ?_⟩
      rw [nI_clamp (by omega)]
      exact br_f (jr_sq01 q j l (by omega)).2 (nm_r (nI_1 _) (ih (j + 1) (by omega) (by omega)))
  show wpY_firstGap (fun r => ∃ n, wY_lastGap_8 post r vl ll nl fl rd nc (nI N) fc gy ck st nk na nb lk la lb fr nv me po wk wa wb n r) (vl, ll, nl, fl, rd, nc, (nI N), fc, gy, ck, st, nk, na, nb, lk, la, lb, fr, nv, me, po, wk, wa, wb) (nI p)
  exact jr_yfg hN (by omega) k c ⟨_, A (e - (i + 1)) (i + 1) (by omega) (by omega)⟩
end JRC
end
section
section JRD
variable {vl ll nl fl nc lc pc oc rd gp fc se ck pl pg pm gy : Int32} {st nk na nb nm nv lk la lb ho mo tl ph pt oi tg sm wk wa wb fr me po : Nat → Int32}
/-! bits -/
def jr_bt (x : Int32) (i : Nat) : Bool := x.toBitVec.getLsbD i
theorem jr_bx {x y : Int32} (h : ∀ i, i < 32 → jr_bt x i = jr_bt y i) : x = y :=
  Int32.toBitVec_inj.mp (BitVec.eq_of_getLsbD_eq (fun i hi => h i hi))
theorem jr_bor (x y : Int32) (i : Nat) : jr_bt (x ||| y) i = (jr_bt x i || jr_bt y i) := by
  unfold jr_bt; rw [Int32.toBitVec_or, BitVec.getLsbD_or]
theorem jr_ban (x y : Int32) (i : Nat) : jr_bt (x &&& y) i = (jr_bt x i && jr_bt y i) := by
  unfold jr_bt; rw [Int32.toBitVec_and, BitVec.getLsbD_and]
theorem jr_b0 (i : Nat) : jr_bt 0 i = false := BitVec.getLsbD_zero
theorem jr_or0 (p q b : Int32) : (p ||| q) &&& b = 0 ↔ p &&& b = 0 ∧ q &&& b = 0 := by
  constructor
  · intro h
    have k : ∀ i, ((jr_bt p i || jr_bt q i) && jr_bt b i) = false := by
      intro i
      rw [← jr_bor, ← jr_ban, h, jr_b0]
    refine ⟨jr_bx (fun i _ => ?_), jr_bx (fun i _ => ?_)⟩
    · rw [jr_ban, jr_b0]
      have := k i
      revert this
      cases jr_bt p i <;> cases jr_bt q i <;> cases jr_bt b i <;> decide
    · rw [jr_ban, jr_b0]
      have := k i
      revert this
      cases jr_bt p i <;> cases jr_bt q i <;> cases jr_bt b i <;> decide
  · intro ⟨h1, h2⟩
    have k1 : ∀ i, (jr_bt p i && jr_bt b i) = false := by intro i; rw [← jr_ban, h1, jr_b0]
    have k2 : ∀ i, (jr_bt q i && jr_bt b i) = false := by intro i; rw [← jr_ban, h2, jr_b0]
    refine jr_bx (fun i _ => ?_)
    rw [jr_ban, jr_bor, jr_b0]
    have a := k1 i
    have c := k2 i
    revert a c
    cases jr_bt p i <;> cases jr_bt q i <;> cases jr_bt b i <;> decide
theorem jr_bit : ∀ x, x < 8 → ∀ y, y < 8 → (((1 : Int32) <<< (nI x &&& 31)) &&& ((1 : Int32) <<< (nI y &&& 31)) = 0 ↔ ¬ x = y) := by decide +kernel
theorem jr_0and (b : Int32) : (0 : Int32) &&& b = 0 := jr_bx (fun i _ => by rw [jr_ban, jr_b0, Bool.false_and])

/-! nodes -/
def jr_Nd (n : Nat) (nk na nb nm : Nat → Int32) : Prop := ∀ i, i < n →
  (nk i = 10 ∧ nm i = 0) ∨ (nk i = 11 ∧ ∃ x, x < 8 ∧ na i = nI x ∧ nm i = (1 : Int32) <<< (nI x &&& 31)) ∨
  (∃ o l r, o < 10 ∧ l < i ∧ r < i ∧ nk i = nI o ∧ na i = nI l ∧ nb i = nI r ∧ nm i = nm l ||| nm r)
def jr_ap (o : Nat) (a b : Int32) : Int32 :=
  match o with
  | 0 => a + b
  | 1 => a - b
  | 2 => a * b
  | 3 => if b = 0 then 0 else a / b
  | 4 => if b = 0 then 0 else a - a / b * b
  | 5 => a &&& b
  | 6 => a ||| b
  | 7 => a ^^^ b
  | 8 => if b ≤ a then 0 else 1
  | _ => if a = b then 1 else 0
theorem jr_if {c : Prop} {i1 : Decidable c} {p q : Int32} {post : Int32 → Prop} (h : post (if c then p else q)) : (c → post p) ∧ (¬ c → post q) := by
  by_cases z : c
  · rw [if_pos z] at h; exact br_t z h
  · rw [if_neg z] at h; exact br_f z h
theorem jr_if2 {c : Prop} {i1 : Decidable c} {p q : Int32} {post : Int32 → Prop} (h : post (if c then p else q)) : (c → post p) ∧ (¬ c → (¬ c ∧ post q)) := by
  by_cases z : c
  · rw [if_pos z] at h; exact br_t z h
  · rw [if_neg z] at h; exact br_f z ⟨z, h⟩
theorem jr_xap {post : Int32 → Prop} {o : Nat} {a b : Int32} (h10 : o < 10) (h : post (jr_ap o a b)) : wpX_apply post (vl, ll, nl, fl, nc, lc, pc, oc, rd, gp, fc, se, ck, pl, pg, pm, st, nk, na, nb, nm, nv, lk, la, lb, ho, mo, tl, ph, pt, oi, tg, sm, wk, wa, wb, fr) (nI o) a b := by
  have z : o = 0 ∨ o = 1 ∨ o = 2 ∨ o = 3 ∨ o = 4 ∨ o = 5 ∨ o = 6 ∨ o = 7 ∨ o = 8 ∨ o = 9 := by omega
  rcases z with rfl | rfl | rfl | rfl | rfl | rfl | rfl | rfl | rfl | rfl
  · exact br_f (by decide) (br_f (by decide) (br_t (by decide) (h)))
  · exact br_f (by decide) (br_f (by decide) (br_f (by decide) (br_t (by decide) (h))))
  · exact br_f (by decide) (br_f (by decide) (br_f (by decide) (br_f (by decide) (br_t (by decide) (h)))))
  · exact br_f (by decide) (br_f (by decide) (br_f (by decide) (br_f (by decide) (br_f (by decide) (br_t (by decide) (jr_if2 h))))))
  · exact br_f (by decide) (br_f (by decide) (br_f (by decide) (br_f (by decide) (br_f (by decide) (br_f (by decide) (br_t (by decide) (jr_if2 h)))))))
  · exact br_f (by decide) (br_f (by decide) (br_f (by decide) (br_f (by decide) (br_f (by decide) (br_f (by decide) (br_f (by decide) (br_t (by decide) (h))))))))
  · exact br_f (by decide) (br_f (by decide) (br_f (by decide) (br_f (by decide) (br_f (by decide) (br_f (by decide) (br_f (by decide) (br_f (by decide) (br_t (by decide) (h)))))))))
  · exact br_f (by decide) (br_f (by decide) (br_f (by decide) (br_f (by decide) (br_f (by decide) (br_f (by decide) (br_f (by decide) (br_f (by decide) (br_f (by decide) (br_t (by decide) (h))))))))))
  · exact br_f (by decide) (br_f (by decide) (br_f (by decide) (br_f (by decide) (br_f (by decide) (br_f (by decide) (br_f (by decide) (br_f (by decide) (br_f (by decide) (br_f (by decide) (br_t (by decide) (jr_if h)))))))))))
  · exact br_f (by decide) (br_f (by decide) (br_f (by decide) (br_f (by decide) (br_f (by decide) (br_f (by decide) (br_f (by decide) (br_f (by decide) (br_f (by decide) (br_f (by decide) (br_f (by decide) (br_t (by decide) (jr_if h))))))))))))
theorem jr_yap {post : Int32 → Prop} {o : Nat} {a b : Int32} (ho : o < 10) (h : post (jr_ap o a b)) : wpY_apply post (vl, ll, nl, fl, rd, nc, lc, fc, gy, ck, st, nk, na, nb, lk, la, lb, fr, nv, me, po, wk, wa, wb) (nI o) a b := by
  have z : o = 0 ∨ o = 1 ∨ o = 2 ∨ o = 3 ∨ o = 4 ∨ o = 5 ∨ o = 6 ∨ o = 7 ∨ o = 8 ∨ o = 9 := by omega
  rcases z with rfl | rfl | rfl | rfl | rfl | rfl | rfl | rfl | rfl | rfl
  · exact br_f (by decide) (br_f (by decide) (br_t (by decide) (h)))
  · exact br_f (by decide) (br_f (by decide) (br_f (by decide) (br_t (by decide) (h))))
  · exact br_f (by decide) (br_f (by decide) (br_f (by decide) (br_f (by decide) (br_t (by decide) (h)))))
  · exact br_f (by decide) (br_f (by decide) (br_f (by decide) (br_f (by decide) (br_f (by decide) (br_t (by decide) (jr_if2 h))))))
  · exact br_f (by decide) (br_f (by decide) (br_f (by decide) (br_f (by decide) (br_f (by decide) (br_f (by decide) (br_t (by decide) (jr_if2 h)))))))
  · exact br_f (by decide) (br_f (by decide) (br_f (by decide) (br_f (by decide) (br_f (by decide) (br_f (by decide) (br_f (by decide) (br_t (by decide) (h))))))))
  · exact br_f (by decide) (br_f (by decide) (br_f (by decide) (br_f (by decide) (br_f (by decide) (br_f (by decide) (br_f (by decide) (br_f (by decide) (br_t (by decide) (h)))))))))
  · exact br_f (by decide) (br_f (by decide) (br_f (by decide) (br_f (by decide) (br_f (by decide) (br_f (by decide) (br_f (by decide) (br_f (by decide) (br_f (by decide) (br_t (by decide) (h))))))))))
  · exact br_f (by decide) (br_f (by decide) (br_f (by decide) (br_f (by decide) (br_f (by decide) (br_f (by decide) (br_f (by decide) (br_f (by decide) (br_f (by decide) (br_f (by decide) (br_t (by decide) (jr_if h)))))))))))
  · exact br_f (by decide) (br_t (by decide) (jr_if h))
theorem jr_xin1 {post : Int32 → Prop} {p : Int32} (a : ¬ p < 0) (b : ¬ nc ≤ p) (h : post 1) : wpX_isNode post (vl, ll, nl, fl, nc, lc, pc, oc, rd, gp, fc, se, ck, pl, pg, pm, st, nk, na, nb, nm, nv, lk, la, lb, ho, mo, tl, ph, pt, oi, tg, sm, wk, wa, wb, fr) p := br_f a (br_f b h)
theorem jr_xin0 {post : Int32 → Prop} {p : Int32} (a : p < 0 ∨ nc ≤ p) (h : post 0) : wpX_isNode post (vl, ll, nl, fl, nc, lc, pc, oc, rd, gp, fc, se, ck, pl, pg, pm, st, nk, na, nb, nm, nv, lk, la, lb, ho, mo, tl, ph, pt, oi, tg, sm, wk, wa, wb, fr) p := by
  by_cases z : p < 0
  · exact br_t z h
  · exact br_f z (br_t (a.resolve_left z) h)
theorem jr_yin1 {post : Int32 → Prop} {p : Int32} (a : ¬ p < 0) (b : ¬ nc ≤ p) (h : post 1) : wpY_isNode post (vl, ll, nl, fl, rd, nc, lc, fc, gy, ck, st, nk, na, nb, lk, la, lb, fr, nv, me, po, wk, wa, wb) p := br_f a (br_f b h)
theorem jr_yin0 {post : Int32 → Prop} {p : Int32} (a : p < 0 ∨ nc ≤ p) (h : post 0) : wpY_isNode post (vl, ll, nl, fl, rd, nc, lc, fc, gy, ck, st, nk, na, nb, lk, la, lb, fr, nv, me, po, wk, wa, wb) p := by
  by_cases z : p < 0
  · exact br_t z h
  · exact br_f z (br_t (a.resolve_left z) h)
theorem jr_xiv1 {post : Int32 → Prop} {p : Int32} (a : ¬ p < 0) (b : ¬ vl ≤ p) (h : post 1) : wpX_isVar post (vl, ll, nl, fl, nc, lc, pc, oc, rd, gp, fc, se, ck, pl, pg, pm, st, nk, na, nb, nm, nv, lk, la, lb, ho, mo, tl, ph, pt, oi, tg, sm, wk, wa, wb, fr) p := br_f a (br_f b h)
theorem jr_xiv0 {post : Int32 → Prop} {p : Int32} (a : p < 0 ∨ vl ≤ p) (h : post 0) : wpX_isVar post (vl, ll, nl, fl, nc, lc, pc, oc, rd, gp, fc, se, ck, pl, pg, pm, st, nk, na, nb, nm, nv, lk, la, lb, ho, mo, tl, ph, pt, oi, tg, sm, wk, wa, wb, fr) p := by
  by_cases z : p < 0
  · exact br_t z h
  · exact br_f z (br_t (a.resolve_left z) h)
theorem jr_yiv1 {post : Int32 → Prop} {p : Int32} (a : ¬ p < 0) (b : ¬ vl ≤ p) (h : post 1) : wpY_isVar post (vl, ll, nl, fl, rd, nc, lc, fc, gy, ck, st, nk, na, nb, lk, la, lb, fr, nv, me, po, wk, wa, wb) p := br_f a (br_f b h)
theorem jr_yiv0 {post : Int32 → Prop} {p : Int32} (a : p < 0 ∨ vl ≤ p) (h : post 0) : wpY_isVar post (vl, ll, nl, fl, rd, nc, lc, fc, gy, ck, st, nk, na, nb, lk, la, lb, fr, nv, me, po, wk, wa, wb) p := by
  by_cases z : p < 0
  · exact br_t z h
  · exact br_f z (br_t (a.resolve_left z) h)
/-- an int is out of a range from 0, or a number in it -/
theorem jr_rng (p : Int32) {n : Nat} (hn : n < 2 ^ 31) : (p < 0 ∨ nI n ≤ p) ∨ ((¬ p < 0 ∧ ¬ nI n ≤ p) ∧ ∃ e, e < n ∧ p = nI e) := by
  by_cases a : p < 0
  · exact Or.inl (Or.inl a)
  by_cases b : nI n ≤ p
  · exact Or.inl (Or.inr b)
  obtain ⟨e, he, rfl⟩ := nI_of a
  rw [nI_leI hn he] at b
  exact Or.inr ⟨⟨a, by rw [nI_leI hn he]; exact b⟩, e, by omega, rfl⟩

/-! values -/
def jr_vl (st nk na nb v : Nat → Int32) (i : Nat) : Int32 :=
  if nk i = 10 then na i else if nk i = 11 then st (na i).toNatClampNeg
  else jr_ap (nk i).toNatClampNeg (v (na i).toNatClampNeg) (v (nb i).toNatClampNeg)
def jr_va (st nk na nb nv : Nat → Int32) : Nat → (Nat → Int32)
  | 0 => nv
  | i + 1 => upd (jr_va st nk na nb nv i) i (jr_vl st nk na nb (jr_va st nk na nb nv i) i)
theorem jr_vas (i : Nat) : jr_va st nk na nb nv (i + 1) = upd (jr_va st nk na nb nv i) i (jr_vl st nk na nb (jr_va st nk na nb nv i) i) := rfl
theorem jr_vl10 {v : Nat → Int32} {i : Nat} (e : nk i = 10) : jr_vl st nk na nb v i = na i := if_pos e
theorem jr_vl11 {v : Nat → Int32} {i : Nat} (e : nk i = 11) : jr_vl st nk na nb v i = st (na i).toNatClampNeg := by
  unfold jr_vl; rw [if_neg (by rw [e]; decide), if_pos e]
theorem jr_vlo {v : Nat → Int32} {i o : Nat} (ho : o < 10) (e : nk i = nI o) :
    jr_vl st nk na nb v i = jr_ap o (v (na i).toNatClampNeg) (v (nb i).toNatClampNeg) := by
  unfold jr_vl
  rw [e, if_neg (by rw [show (10 : Int32) = nI 10 from rfl, nI_eq (by omega) (by omega)]; omega),
    if_neg (by rw [show (11 : Int32) = nI 11 from rfl, nI_eq (by omega) (by omega)]; omega), nI_clamp (by omega)]
theorem jr_n10 {o : Nat} (ho : o < 10) : ¬ nI o = 10 := by
  rw [show (10 : Int32) = nI 10 from rfl, nI_eq (by omega) (by omega)]; omega
theorem jr_n11 {o : Nat} (ho : o < 10) : ¬ nI o = 11 := by
  rw [show (11 : Int32) = nI 11 from rfl, nI_eq (by omega) (by omega)]; omega
theorem jr_xvl {n e : Nat} (hn : n ≤ 32) (he : e < n) (H : jr_Nd n nk na nb nm) {post : Int32 → SX → Prop}
    (h : post (jr_va st nk na nb nv (e + 1) e) (vl, ll, nl, fl, (nI n), lc, pc, oc, rd, gp, fc, se, ck, pl, pg, pm, st, nk, na, nb, nm, (jr_va st nk na nb nv (e + 1)), lk, la, lb, ho, mo, tl, ph, pt, oi, tg, sm, wk, wa, wb, fr)) :
    ∀ d i, i + d = e + 1 → wX_valueOf_12 post (nI e) vl ll nl fl (nI n) lc pc oc rd gp fc se ck pl pg pm (d + 1) (nI i) st nk na nb nm (jr_va st nk na nb nv i) lk la lb ho mo tl ph pt oi tg sm wk wa wb fr := by
  intro d
  induction d with
  | zero =>
    intro i z
    have z : i = e + 1 := by omega
    subst z
    refine br_t (nI_lt (by omega) (by omega)) ⟨vp_in_nI (by omega) (by omega), ?_⟩
    rw [nI_clamp (by omega)]; exact h
  | succ d ih =>
    intro i z
    have W := ih (i + 1) (by omega)
    have cl : (nI i).toNatClampNeg = i := nI_clamp (by omega)
    have vi : vp_in (nI i) 32 := vp_in_nI (by omega) (by omega)
    refine br_f (nI_nlt (by omega) (by omega)) ⟨vi, ?_⟩
    rcases H i (by omega) with ⟨k, _⟩ | ⟨k, x, hx, ea, _⟩ | ⟨o, l, r, ho, hl, hr, k, ea, eb, _⟩
    · refine nm_r (e' := 10) (by rw [cl]; exact k) (br_t rfl ⟨vi, vi, nm_r (e' := jr_va st nk na nb nv (i + 1)) ?_ (nm_r (nI_1 i) W)⟩)
      rw [cl, jr_vas, jr_vl10 k]
    · refine nm_r (e' := 11) (by rw [cl]; exact k) (br_f (by decide) (br_t rfl ⟨vi, ?_, vi, nm_r (e' := jr_va st nk na nb nv (i + 1)) ?_ (nm_r (nI_1 i) W)⟩))
      · rw [cl, ea]; exact vp_in_nI hx (by omega)
      · rw [cl, jr_vas, jr_vl11 k]
    · refine nm_r (e' := nI o) (by rw [cl]; exact k) (br_f (jr_n10 ho) (br_f (jr_n11 ho) ⟨vi, ?_, nm_e ⟨vi, ?_, nm_e (jr_xap ho ⟨vi, nm_r (e' := jr_va st nk na nb nv (i + 1)) ?_ (nm_r (nI_1 i) W)⟩)⟩⟩))
      · rw [cl, ea]; exact vp_in_nI (by omega) (by omega)
      · rw [cl, eb]; exact vp_in_nI (by omega) (by omega)
      · rw [cl, jr_vas, jr_vlo ho k]
theorem jr_yvl {n e : Nat} (hn : n ≤ 32) (he : e < n) (H : jr_Nd n nk na nb nm) {post : Int32 → SY → Prop}
    (h : post (jr_va st nk na nb nv (e + 1) e) (vl, ll, nl, fl, rd, (nI n), lc, fc, gy, ck, st, nk, na, nb, lk, la, lb, fr, (jr_va st nk na nb nv (e + 1)), me, po, wk, wa, wb)) :
    ∀ d i, i + d = e + 1 → wY_eval_12 post (nI e) vl ll nl fl rd (nI n) lc fc gy ck (d + 1) (nI i) st nk na nb lk la lb fr (jr_va st nk na nb nv i) me po wk wa wb := by
  intro d
  induction d with
  | zero =>
    intro i z
    have z : i = e + 1 := by omega
    subst z
    refine br_t (nI_lt (by omega) (by omega)) ⟨vp_in_nI (by omega) (by omega), ?_⟩
    rw [nI_clamp (by omega)]; exact h
  | succ d ih =>
    intro i z
    have W := ih (i + 1) (by omega)
    have cl : (nI i).toNatClampNeg = i := nI_clamp (by omega)
    have vi : vp_in (nI i) 32 := vp_in_nI (by omega) (by omega)
    refine br_f (nI_nlt (by omega) (by omega)) ⟨vi, ?_⟩
    rcases H i (by omega) with ⟨k, _⟩ | ⟨k, x, hx, ea, _⟩ | ⟨o, l, r, ho, hl, hr, k, ea, eb, _⟩
    · have k' : nk (nI i).toNatClampNeg = 10 := by rw [cl]; exact k
      refine br_t k' ⟨vi, vi, nm_r (e' := jr_va st nk na nb nv (i + 1)) ?_ (nm_r (nI_1 i) W)⟩
      rw [cl, jr_vas, jr_vl10 k]
    · have k' : nk (nI i).toNatClampNeg = 11 := by rw [cl]; exact k
      refine br_f (by rw [k']; decide) ⟨vi, br_t k' ⟨vi, ?_, vi, nm_r (e' := jr_va st nk na nb nv (i + 1)) ?_ (nm_r (nI_1 i) W)⟩⟩
      · rw [cl, ea]; exact vp_in_nI hx (by omega)
      · rw [cl, jr_vas, jr_vl11 k]
    · have k' : nk (nI i).toNatClampNeg = nI o := by rw [cl]; exact k
      refine br_f (by rw [k']; exact jr_n10 ho) ⟨vi, br_f (by rw [k']; exact jr_n11 ho) ⟨vi, vi, ?_, vi, ?_, ?_⟩⟩
      · rw [cl, ea]; exact vp_in_nI (by omega) (by omega)
      · rw [cl, eb]; exact vp_in_nI (by omega) (by omega)
      · rw [k']
        refine jr_yap ho ⟨vi, nm_r (e' := jr_va st nk na nb nv (i + 1)) ?_ (nm_r (nI_1 i) W)⟩
        rw [cl, jr_vas, jr_vlo ho k]
def jr_vn (n : Nat) (st nk na nb nv : Nat → Int32) (p : Int32) : Nat → Int32 :=
  if p < 0 ∨ nI n ≤ p then nv else jr_va st nk na nb nv (p.toNatClampNeg + 1)
def jr_vr (n : Nat) (st nk na nb nv : Nat → Int32) (p : Int32) : Int32 :=
  if p < 0 ∨ nI n ≤ p then 0 else jr_va st nk na nb nv (p.toNatClampNeg + 1) p.toNatClampNeg
theorem jr_xvo {n : Nat} (hn : n ≤ 32) (H : jr_Nd n nk na nb nm) {post : Int32 → SX → Prop} {p : Int32}
    (h : post (jr_vr n st nk na nb nv p) (vl, ll, nl, fl, (nI n), lc, pc, oc, rd, gp, fc, se, ck, pl, pg, pm, st, nk, na, nb, nm, (jr_vn n st nk na nb nv p), lk, la, lb, ho, mo, tl, ph, pt, oi, tg, sm, wk, wa, wb, fr)) : wpX_valueOf post (vl, ll, nl, fl, (nI n), lc, pc, oc, rd, gp, fc, se, ck, pl, pg, pm, st, nk, na, nb, nm, nv, lk, la, lb, ho, mo, tl, ph, pt, oi, tg, sm, wk, wa, wb, fr) p := by
  unfold wpX_valueOf
  rcases jr_rng p (n := n) (by omega) with c | ⟨⟨a, b⟩, e, he, rfl⟩
  · have e1 : jr_vr n st nk na nb nv p = 0 := if_pos c
    have e2 : jr_vn n st nk na nb nv p = nv := if_pos c
    rw [e1, e2] at h
    exact jr_xin0 c (br_t rfl h)
  · have c : ¬ (nI e < 0 ∨ nI n ≤ nI e) := fun z => z.elim a b
    have e1 : jr_vr n st nk na nb nv (nI e) = jr_va st nk na nb nv (e + 1) e := by
      unfold jr_vr; rw [if_neg c, nI_clamp (by omega)]
    have e2 : jr_vn n st nk na nb nv (nI e) = jr_va st nk na nb nv (e + 1) := by
      unfold jr_vn; rw [if_neg c, nI_clamp (by omega)]
    rw [e1, e2] at h
    exact jr_xin1 a b (br_f (by decide) ⟨_, jr_xvl hn he H h (e + 1) 0 (by omega)⟩)
theorem jr_yvo {n : Nat} (hn : n ≤ 32) (H : jr_Nd n nk na nb nm) {post : Int32 → SY → Prop} {p : Int32}
    (h : post (jr_vr n st nk na nb nv p) (vl, ll, nl, fl, rd, (nI n), lc, fc, gy, ck, st, nk, na, nb, lk, la, lb, fr, (jr_vn n st nk na nb nv p), me, po, wk, wa, wb)) : wpY_eval post (vl, ll, nl, fl, rd, (nI n), lc, fc, gy, ck, st, nk, na, nb, lk, la, lb, fr, nv, me, po, wk, wa, wb) p := by
  unfold wpY_eval
  rcases jr_rng p (n := n) (by omega) with c | ⟨⟨a, b⟩, e, he, rfl⟩
  · have e1 : jr_vr n st nk na nb nv p = 0 := if_pos c
    have e2 : jr_vn n st nk na nb nv p = nv := if_pos c
    rw [e1, e2] at h
    exact jr_yin0 c (br_t rfl h)
  · have c : ¬ (nI e < 0 ∨ nI n ≤ nI e) := fun z => z.elim a b
    have e1 : jr_vr n st nk na nb nv (nI e) = jr_va st nk na nb nv (e + 1) e := by
      unfold jr_vr; rw [if_neg c, nI_clamp (by omega)]
    have e2 : jr_vn n st nk na nb nv (nI e) = jr_va st nk na nb nv (e + 1) := by
      unfold jr_vn; rw [if_neg c, nI_clamp (by omega)]
    rw [e1, e2] at h
    exact jr_yin1 a b (br_f (by decide) ⟨_, jr_yvl hn he H h (e + 1) 0 (by omega)⟩)

/-! mentions -/
def jr_mt (nm : Nat → Int32) (x j : Nat) : Int32 := if nm j &&& ((1 : Int32) <<< (nI x &&& 31)) = 0 then 0 else 1
theorem jr_mt0 {x j : Nat} (h : nm j &&& ((1 : Int32) <<< (nI x &&& 31)) = 0) : jr_mt nm x j = 0 := if_pos h
theorem jr_mt1 {x j : Nat} (h : ¬ nm j &&& ((1 : Int32) <<< (nI x &&& 31)) = 0) : jr_mt nm x j = 1 := if_neg h
theorem jr_mt01 (x j : Nat) : jr_mt nm x j = 0 ∨ jr_mt nm x j = 1 := by
  by_cases h : nm j &&& ((1 : Int32) <<< (nI x &&& 31)) = 0
  · exact Or.inl (jr_mt0 h)
  · exact Or.inr (jr_mt1 h)
theorem jr_nar {z : Int32} (h : z = 0 ∨ z = 1) : narrow .boolean (.int z) = .int z := by
  rcases h with rfl | rfl
  · exact narrow_b0
  · exact narrow_b1
theorem jr_vn0 : vp_nar .boolean 0 = 0 := by decide
theorem jr_vn1 : vp_nar .boolean 1 = 1 := by decide
theorem jr_yml {n e x : Nat} (hn : n ≤ 32) (he : e < n) (hx : x < 8) (H : jr_Nd n nk na nb nm) {post : Int32 → SY → Prop}
    (h : ∀ me', post (jr_mt nm x e) (vl, ll, nl, fl, rd, (nI n), lc, fc, gy, ck, st, nk, na, nb, lk, la, lb, fr, nv, me', po, wk, wa, wb)) :
    ∀ d i (me : Nat → Int32), i + d = e + 1 → (∀ j, j < i → me j = jr_mt nm x j) →
      wY_mentions_12 post (nI e) (nI x) vl ll nl fl rd (nI n) lc fc gy ck (d + 1) (nI i) st nk na nb lk la lb fr nv me po wk wa wb := by
  intro d
  induction d with
  | zero =>
    intro i me z q
    have z : i = e + 1 := by omega
    subst z
    have qe := q e (by omega)
    refine br_t (nI_lt (by omega) (by omega)) ⟨vp_in_nI (by omega) (by omega), ?_⟩
    rw [nI_clamp (by omega), qe]
    exact ⟨jr_nar (jr_mt01 x e), h me⟩
  | succ d ih =>
    intro i me z q
    have cl : (nI i).toNatClampNeg = i := nI_clamp (by omega)
    have vi : vp_in (nI i) 32 := vp_in_nI (by omega) (by omega)
    have W : ∀ v : Int32, v = jr_mt nm x i → wY_mentions_12 post (nI e) (nI x) vl ll nl fl rd (nI n) lc fc gy ck (d + 1) (nI (i + 1)) st nk na nb lk la lb fr nv (upd me i v) po wk wa wb := by
      intro v hv
      refine ih (i + 1) _ (by omega) (fun j hj => ?_)
      by_cases ej : j = i
      · rw [ej, jr_us]; exact hv
      · rw [jr_un ej]; exact q j (by omega)
    refine br_f (nI_nlt (by omega) (by omega)) ⟨vi, ?_⟩
    rw [cl]
    rcases H i (by omega) with ⟨k, m⟩ | ⟨k, y, hy, ea, m⟩ | ⟨o, l, r, ho, hl, hr, k, ea, eb, m⟩
    · refine br_t k ⟨vi, nm_r (e' := upd me i 0) (by rw [jr_vn0]) (nm_r (nI_1 i) (W 0 ?_))⟩
      exact (jr_mt0 (by rw [m]; exact jr_0and _)).symm
    · refine br_f (by rw [k]; decide) ⟨vi, br_t k ⟨vi, ?_⟩⟩
      rw [ea]
      by_cases c : y = x
      · refine br_t (congrArg nI c) ⟨vi, nm_r (e' := upd me i 1) (by rw [jr_vn1]) (nm_r (nI_1 i) (W 1 ?_))⟩
        exact (jr_mt1 (by rw [m, jr_bit y hy x hx]; exact fun z => z c)).symm
      · refine br_f (by rw [nI_eq (by omega) (by omega)]; exact c) ⟨vi, nm_r (e' := upd me i 0) (by rw [jr_vn0]) (nm_r (nI_1 i) (W 0 ?_))⟩
        exact (jr_mt0 (by rw [m, jr_bit y hy x hx]; exact c)).symm
    · refine br_f (by rw [k]; exact jr_n10 ho) ⟨vi, br_f (by rw [k]; exact jr_n11 ho) ⟨vi, ?_⟩⟩
      rw [ea, nI_clamp (show l < 2 ^ 31 by omega)]
      refine ⟨vp_in_nI (by omega) (by omega), ?_⟩
      rw [q l hl]
      by_cases c1 : nm l &&& ((1 : Int32) <<< (nI x &&& 31)) = 0
      · refine br_t (jr_mt0 c1) ⟨vi, ?_⟩
        rw [eb, nI_clamp (show r < 2 ^ 31 by omega)]
        refine ⟨vp_in_nI (by omega) (by omega), ?_⟩
        rw [q r hr]
        by_cases c2 : nm r &&& ((1 : Int32) <<< (nI x &&& 31)) = 0
        · refine br_t (jr_mt0 c2) ⟨vi, nm_r (e' := upd me i 0) (by rw [jr_vn0]) (nm_r (nI_1 i) (W 0 ?_))⟩
          exact (jr_mt0 (by rw [m, jr_or0]; exact ⟨c1, c2⟩)).symm
        · refine br_f (by rw [jr_mt1 c2]; decide) ⟨vi, nm_r (e' := upd me i 1) (by rw [jr_vn1]) (nm_r (nI_1 i) (W 1 ?_))⟩
          exact (jr_mt1 (by rw [m, jr_or0]; exact fun z => c2 z.2)).symm
      · refine br_f (by rw [jr_mt1 c1]; decide) ⟨vi, nm_r (e' := upd me i 1) (by rw [jr_vn1]) (nm_r (nI_1 i) (W 1 ?_))⟩
        exact (jr_mt1 (by rw [m, jr_or0]; exact fun z => c1 z.1)).symm
theorem jr_yme {n e x : Nat} (hn : n ≤ 32) (he : e < n) (hx : x < 8) (H : jr_Nd n nk na nb nm) {post : Int32 → SY → Prop}
    (h : ∀ me', post (jr_mt nm x e) (vl, ll, nl, fl, rd, (nI n), lc, fc, gy, ck, st, nk, na, nb, lk, la, lb, fr, nv, me', po, wk, wa, wb)) : wpY_mentions post (vl, ll, nl, fl, rd, (nI n), lc, fc, gy, ck, st, nk, na, nb, lk, la, lb, fr, nv, me, po, wk, wa, wb) (nI e) (nI x) := by
  unfold wpY_mentions
  exact jr_yin1 (nI_pos (by omega)) (nI_ge he (by omega)) (br_f (by decide) ⟨_, jr_yml hn he hx H h (e + 1) 0 me (by omega) (fun j hj => absurd hj (Nat.not_lt_zero j))⟩)
end JRD
end
section
section JRE
variable {vl ll nl fl nc lc pc oc rd gp fc se ck pl pg pm gy : Int32} {st nk na nb nm nv lk la lb ho mo tl ph pt oi tg sm wk wa wb fr me po : Nat → Int32}
variable {post : SX → Prop}
/-! link: one line -/
theorem jr_xpo {c : Nat} {x : Int32} (hc : c < 96) (h : post (vl, ll, nl, fl, nc, lc, pc, (nI (c + 1)), rd, gp, fc, se, ck, pl, pg, pm, st, nk, na, nb, nm, nv, lk, la, lb, ho, mo, tl, ph, pt, (upd oi c x), tg, sm, wk, wa, wb, fr)) : wpX_pushOpen post (vl, ll, nl, fl, nc, lc, pc, (nI c), rd, gp, fc, se, ck, pl, pg, pm, st, nk, na, nb, nm, nv, lk, la, lb, ho, mo, tl, ph, pt, oi, tg, sm, wk, wa, wb, fr) x :=
  br_f (nI_ge (b := 96) hc (by decide)) ⟨vp_in_nI hc (by decide), nm_r (by rw [nI_clamp (by omega)]) (nm_r (nI_1 c) h)⟩
theorem jr_xll {l : Nat} {a b c : Int32} (hl : l < 96) (h : post (vl, ll, nl, fl, nc, lc, pc, oc, rd, gp, fc, se, ck, pl, pg, pm, st, nk, na, nb, nm, nv, lk, la, lb, (upd ho l a), (upd mo l b), (upd tl l c), ph, pt, oi, tg, sm, wk, wa, wb, fr)) :
    wpX_linkLine post (vl, ll, nl, fl, nc, lc, pc, oc, rd, gp, fc, se, ck, pl, pg, pm, st, nk, na, nb, nm, nv, lk, la, lb, ho, mo, tl, ph, pt, oi, tg, sm, wk, wa, wb, fr) (nI l) a b c :=
  ⟨vp_in_nI hl (by decide), nm_r (e' := upd ho l a) (by rw [nI_clamp (by omega)]) ⟨vp_in_nI hl (by decide), nm_r (e' := upd mo l b) (by rw [nI_clamp (by omega)])
    ⟨vp_in_nI hl (by decide), nm_r (e' := upd tl l c) (by rw [nI_clamp (by omega)]) h⟩⟩⟩
theorem jr_xls1 {c h m i : Nat} (hc : c < 96) (hh : h < 96) (hm : m < 96) (hi : i < 96) (eo : oi c = nI h) (em : mo h = nI m)
    (w : post (vl, ll, nl, fl, nc, lc, pc, (nI c), rd, gp, fc, se, ck, pl, pg, pm, st, nk, na, nb, nm, nv, lk, la, lb, (upd (upd (upd ho h (nI h)) m (nI h)) i (nI h)), (upd (upd (upd mo h (nI m)) m (nI m)) i (nI m)), (upd (upd (upd tl h (nI i)) m (nI i)) i (nI i)), ph, pt, oi, tg, sm, wk, wa, wb, fr)) :
    wpX_linkStatement post (vl, ll, nl, fl, nc, lc, pc, (nI (c + 1)), rd, gp, fc, se, ck, pl, pg, pm, st, nk, na, nb, nm, nv, lk, la, lb, ho, mo, tl, ph, pt, oi, tg, sm, wk, wa, wb, fr) (nI i) := by
  refine br_f (nI_ne0 (by omega) (by omega)) (nm_r (nI_pred c) ⟨vp_in_nI hc (by decide), nm_r (e' := nI h) (by rw [nI_clamp (by omega)]; exact eo)
    ⟨vp_in_nI hh (by decide), nm_r (e' := nI m) (by rw [nI_clamp (by omega)]; exact em) ?_⟩⟩)
  exact jr_xll hh (jr_xll hm (jr_xll hi w))
variable {N n i : Nat}
theorem jr_xl_s (hN : N ≤ 96) (hi : i < N) (s : jr_Smp (lk i)) (h : wX_link_12 post n (nI (i + 1)) vl ll nl fl nc (nI N) pc oc rd gp fc se ck pl pg pm st nk na nb nm nv lk la lb ho mo tl ph pt oi tg sm wk wa wb fr) :
    wX_link_12 post (n + 1) (nI i) vl ll nl fl nc (nI N) pc oc rd gp fc se ck pl pg pm st nk na nb nm nv lk la lb ho mo tl ph pt oi tg sm wk wa wb fr := by
  have cl : (nI i).toNatClampNeg = i := nI_clamp (by omega)
  refine br_f (nI_ge hi (by omega)) ⟨vp_in_nI (by omega) (by decide), ?_⟩
  rcases s with e | e | e | e | e | e
  · exact nm_r (e' := 2) (by rw [cl]; exact e) (br_f (by decide) (br_f (by decide) (br_f (by decide) (br_f (by decide) (br_t (by decide) (nm_r (nI_1 i) h))))))
  · exact nm_r (e' := 3) (by rw [cl]; exact e) (br_f (by decide) (br_f (by decide) (br_f (by decide) (br_f (by decide) (br_f (by decide) (br_t (by decide) (nm_r (nI_1 i) h)))))))
  · exact nm_r (e' := 4) (by rw [cl]; exact e) (br_f (by decide) (br_f (by decide) (br_f (by decide) (br_f (by decide) (br_f (by decide) (br_f (by decide) (br_t (by decide) (nm_r (nI_1 i) h))))))))
  · exact nm_r (e' := 5) (by rw [cl]; exact e) (br_f (by decide) (br_f (by decide) (br_f (by decide) (br_f (by decide) (br_f (by decide) (br_f (by decide) (br_f (by decide) (br_t (by decide) (nm_r (nI_1 i) h)))))))))
  · exact nm_r (e' := 6) (by rw [cl]; exact e) (br_f (by decide) (br_f (by decide) (br_f (by decide) (br_f (by decide) (br_f (by decide) (br_f (by decide) (br_f (by decide) (br_f (by decide) (br_t (by decide) (nm_r (nI_1 i) h))))))))))
  · exact nm_r (e' := 7) (by rw [cl]; exact e) (br_f (by decide) (br_f (by decide) (br_f (by decide) (br_f (by decide) (br_f (by decide) (br_f (by decide) (br_f (by decide) (br_f (by decide) (br_f (by decide) (br_t (by decide) (nm_r (nI_1 i) h)))))))))))
theorem jr_xl_o {c : Nat} (hN : N ≤ 96) (hi : i < N) (hc : c < 96) (s : lk i = 8 ∨ lk i = 11)
    (h : wX_link_12 post n (nI (i + 1)) vl ll nl fl nc (nI N) pc (nI (c + 1)) rd gp fc se ck pl pg pm st nk na nb nm nv lk la lb ho mo tl ph pt (upd oi c (nI i)) tg sm wk wa wb fr) :
    wX_link_12 post (n + 1) (nI i) vl ll nl fl nc (nI N) pc (nI c) rd gp fc se ck pl pg pm st nk na nb nm nv lk la lb ho mo tl ph pt oi tg sm wk wa wb fr := by
  have cl : (nI i).toNatClampNeg = i := nI_clamp (by omega)
  have J : wX_link_141 post (wX_link_12 post n) (nI i) vl ll nl fl nc (nI N) pc (nI c) rd gp fc se ck pl pg pm st nk na nb nm nv lk la lb ho mo tl ph pt oi tg sm wk wa wb fr := by
    unfold wX_link_141
    exact jr_xpo hc (nm_r (nI_1 i) h)
  refine br_f (nI_ge hi (by omega)) ⟨vp_in_nI (by omega) (by decide), ?_⟩
  rcases s with e | e
  · exact nm_r (e' := 8) (by rw [cl]; exact e) (br_f (by decide) (br_f (by decide) (br_f (by decide) (br_f (by decide) (br_f (by decide) (br_f (by decide) (br_f (by decide) (br_f (by decide) (br_f (by decide) (br_f (by decide) (br_t (by decide) (J))))))))))))
  · exact nm_r (e' := 11) (by rw [cl]; exact e) (br_f (by decide) (br_f (by decide) (br_f (by decide) (br_f (by decide) (br_f (by decide) (br_f (by decide) (br_f (by decide) (br_f (by decide) (br_f (by decide) (br_f (by decide) (br_f (by decide) (br_f (by decide) (br_f (by decide) (br_t (by decide) (J)))))))))))))))
theorem jr_xl_m {c h : Nat} (hN : N ≤ 96) (hi : i < N) (hc : c < 96) (hh : h < 96) (eo : oi c = nI h) (s : lk i = 9 ∨ lk i = 12)
    (w : wX_link_12 post n (nI (i + 1)) vl ll nl fl nc (nI N) pc (nI (c + 1)) rd gp fc se ck pl pg pm st nk na nb nm nv lk la lb ho (upd mo h (nI i)) tl ph pt oi tg sm wk wa wb fr) :
    wX_link_12 post (n + 1) (nI i) vl ll nl fl nc (nI N) pc (nI (c + 1)) rd gp fc se ck pl pg pm st nk na nb nm nv lk la lb ho mo tl ph pt oi tg sm wk wa wb fr := by
  have cl : (nI i).toNatClampNeg = i := nI_clamp (by omega)
  have J : wX_link_149 post (wX_link_12 post n) (nI i) vl ll nl fl nc (nI N) pc (nI (c + 1)) rd gp fc se ck pl pg pm st nk na nb nm nv lk la lb ho mo tl ph pt oi tg sm wk wa wb fr := by
    unfold wX_link_149
    refine br_f (nI_nle (by omega) (by omega)) ?_
    rw [nI_pred c, nI_clamp (show c < 2 ^ 31 by omega), eo, nI_clamp (show h < 2 ^ 31 by omega)]
    exact ⟨vp_in_nI hc (by decide), vp_in_nI hh (by decide), nm_e (nm_r (nI_1 i) w)⟩
  refine br_f (nI_ge hi (by omega)) ⟨vp_in_nI (by omega) (by decide), ?_⟩
  rcases s with e | e
  · exact nm_r (e' := 9) (by rw [cl]; exact e) (br_f (by decide) (br_f (by decide) (br_f (by decide) (br_f (by decide) (br_f (by decide) (br_f (by decide) (br_f (by decide) (br_f (by decide) (br_f (by decide) (br_f (by decide) (br_f (by decide) (br_t (by decide) (J)))))))))))))
  · exact nm_r (e' := 12) (by rw [cl]; exact e) (br_f (by decide) (br_f (by decide) (br_f (by decide) (br_f (by decide) (br_f (by decide) (br_f (by decide) (br_f (by decide) (br_f (by decide) (br_f (by decide) (br_f (by decide) (br_f (by decide) (br_f (by decide) (br_f (by decide) (br_f (by decide) (br_t (by decide) (J))))))))))))))))
theorem jr_xl_c {c h m : Nat} (hN : N ≤ 96) (hi : i < N) (hc : c < 96) (hh : h < 96) (hm : m < 96) (eo : oi c = nI h) (em : mo h = nI m) (s : lk i = 10 ∨ lk i = 13)
    (w : wX_link_12 post n (nI (i + 1)) vl ll nl fl nc (nI N) pc (nI c) rd gp fc se ck pl pg pm st nk na nb nm nv lk la lb (upd (upd (upd ho h (nI h)) m (nI h)) i (nI h)) (upd (upd (upd mo h (nI m)) m (nI m)) i (nI m)) (upd (upd (upd tl h (nI i)) m (nI i)) i (nI i)) ph pt oi tg sm wk wa wb fr) :
    wX_link_12 post (n + 1) (nI i) vl ll nl fl nc (nI N) pc (nI (c + 1)) rd gp fc se ck pl pg pm st nk na nb nm nv lk la lb ho mo tl ph pt oi tg sm wk wa wb fr := by
  have cl : (nI i).toNatClampNeg = i := nI_clamp (by omega)
  have J : wX_link_176 post (wX_link_12 post n) (nI i) vl ll nl fl nc (nI N) pc (nI (c + 1)) rd gp fc se ck pl pg pm st nk na nb nm nv lk la lb ho mo tl ph pt oi tg sm wk wa wb fr := by
    unfold wX_link_176
    exact jr_xls1 hc hh hm (by omega) eo em (nm_r (nI_1 i) w)
  refine br_f (nI_ge hi (by omega)) ⟨vp_in_nI (by omega) (by decide), ?_⟩
  rcases s with e | e
  · exact nm_r (e' := 10) (by rw [cl]; exact e) (br_f (by decide) (br_f (by decide) (br_f (by decide) (br_f (by decide) (br_f (by decide) (br_f (by decide) (br_f (by decide) (br_f (by decide) (br_f (by decide) (br_f (by decide) (br_f (by decide) (br_f (by decide) (br_t (by decide) (J))))))))))))))
  · exact nm_r (e' := 13) (by rw [cl]; exact e) (br_f (by decide) (br_f (by decide) (br_f (by decide) (br_f (by decide) (br_f (by decide) (br_f (by decide) (br_f (by decide) (br_f (by decide) (br_f (by decide) (br_f (by decide) (br_f (by decide) (br_f (by decide) (br_f (by decide) (br_f (by decide) (br_f (by decide) (br_t (by decide) (J)))))))))))))))))
theorem jr_xl_p {p : Nat} (hN : N ≤ 96) (hi : i < N) (hp : p < 96) (e : lk i = 0)
    (w : wX_link_12 post n (nI (i + 1)) vl ll nl fl nc (nI N) (nI (p + 1)) oc rd gp fc se ck pl pg pm st nk na nb nm nv lk la lb ho mo tl (upd ph p (nI i)) pt oi tg sm wk wa wb fr) :
    wX_link_12 post (n + 1) (nI i) vl ll nl fl nc (nI N) (nI p) oc rd gp fc se ck pl pg pm st nk na nb nm nv lk la lb ho mo tl ph pt oi tg sm wk wa wb fr := by
  have cl : (nI i).toNatClampNeg = i := nI_clamp (by omega)
  refine br_f (nI_ge hi (by omega)) ⟨vp_in_nI (by omega) (by decide), nm_r (e' := 0) (by rw [cl]; exact e) (br_f (by decide) (br_f (by decide) (br_t (by decide) (?_))))⟩
  exact ⟨vp_in_nI hp (by decide), nm_r (e' := upd ph p (nI i)) (by rw [nI_clamp (by omega)]) (nm_r (nI_1 p) (nm_r (nI_1 i) w))⟩
theorem jr_xl_e {p : Nat} (hN : N ≤ 96) (hi : i < N) (hp : p < 96) (e : lk i = 1)
    (w : wX_link_12 post n (nI (i + 1)) vl ll nl fl nc (nI N) (nI (p + 1)) oc rd gp fc se ck pl pg pm st nk na nb nm nv lk la lb ho mo tl ph (upd pt p (nI i)) oi tg sm wk wa wb fr) :
    wX_link_12 post (n + 1) (nI i) vl ll nl fl nc (nI N) (nI (p + 1)) oc rd gp fc se ck pl pg pm st nk na nb nm nv lk la lb ho mo tl ph pt oi tg sm wk wa wb fr := by
  have cl : (nI i).toNatClampNeg = i := nI_clamp (by omega)
  refine br_f (nI_ge hi (by omega)) ⟨vp_in_nI (by omega) (by decide), nm_r (e' := 1) (by rw [cl]; exact e) (br_f (by decide) (br_f (by decide) (br_f (by decide) (br_t (by decide) (?_)))))⟩
  refine br_f (nI_nle (by omega) (by omega)) ?_
  rw [nI_pred p, nI_clamp (show p < 2 ^ 31 by omega)]
  exact ⟨vp_in_nI hp (by decide), nm_e (nm_r (nI_1 i) w)⟩
end JRE
section JRE2
variable {vl ll nl fl nc lc pc oc rd gp fc se ck pl pg pm gy : Int32} {st nk na nb nm nv lk la lb ho mo tl ph pt oi tg sm wk wa wb fr me po : Nat → Int32}
variable {post : SX → Prop}
/-! link: a sequence, the program -/
def jr_Lk (ho mo tl : Nat → Int32) (h m t : Nat) : Prop := ∀ k, (k = h ∨ k = m ∨ k = t) → ho k = nI h ∧ mo k = nI m ∧ tl k = nI t
theorem jr_u3 {f : Nat → Int32} {h m t k : Nat} {a b c : Int32} (e1 : k ≠ h) (e2 : k ≠ m) (e3 : k ≠ t) : upd (upd (upd f h a) m b) t c k = f k := by
  rw [jr_un e3, jr_un e2, jr_un e1]
theorem jr_u3e {f : Nat → Int32} {h m t k : Nat} {a : Int32} (e : k = h ∨ k = m ∨ k = t) : upd (upd (upd f h a) m a) t a k = a := by
  by_cases c : k = t
  · rw [c, jr_us]
  rw [jr_un c]
  by_cases d : k = m
  · rw [d, jr_us]
  rw [jr_un d]
  have : k = h := by omega
  rw [this, jr_us]
theorem jr_lkmo {ho mo tl ho' mo' tl' : Nat → Int32} {h m t lo hi : Nat} (q : ∀ k, lo ≤ k → k < hi → ho' k = ho k ∧ mo' k = mo k ∧ tl' k = tl k)
    (a : lo ≤ h) (b : h < m) (c : m < t) (d : t < hi) (z : jr_Lk ho mo tl h m t) : jr_Lk ho' mo' tl' h m t := by
  intro k e
  have Q := q k (by omega) (by omega)
  have Z := z k e
  exact ⟨Q.1.trans Z.1, Q.2.1.trans Z.2.1, Q.2.2.trans Z.2.2⟩
theorem jr_xls {R : Nat → Nat → Nat → Prop} {N lo hi : Nat} (hN : N ≤ 96) (H : jr_Sq lk R lo hi) : hi ≤ N → ∀ (c : Nat) (oi ho mo tl : Nat → Int32) (n : Nat), c ≤ lo →
    (∀ oi' ho' mo' tl' : Nat → Int32, (∀ j, j < c → oi' j = oi j) → (∀ j, (j < lo ∨ hi ≤ j) → ho' j = ho j ∧ mo' j = mo j ∧ tl' j = tl j) →
      jr_Sq lk (jr_Lk ho' mo' tl') lo hi → wX_link_12 post n (nI hi) vl ll nl fl nc (nI N) pc (nI c) rd gp fc se ck pl pg pm st nk na nb nm nv lk la lb ho' mo' tl' ph pt oi' tg sm wk wa wb fr) →
    wX_link_12 post (n + (hi - lo)) (nI lo) vl ll nl fl nc (nI N) pc (nI c) rd gp fc se ck pl pg pm st nk na nb nm nv lk la lb ho mo tl ph pt oi tg sm wk wa wb fr := by
  refine jr_sqi (P := fun lo hi => hi ≤ N → ∀ (c : Nat) (oi ho mo tl : Nat → Int32) (n : Nat), c ≤ lo →
    (∀ oi' ho' mo' tl' : Nat → Int32, (∀ j, j < c → oi' j = oi j) → (∀ j, (j < lo ∨ hi ≤ j) → ho' j = ho j ∧ mo' j = mo j ∧ tl' j = tl j) →
      jr_Sq lk (jr_Lk ho' mo' tl') lo hi → wX_link_12 post n (nI hi) vl ll nl fl nc (nI N) pc (nI c) rd gp fc se ck pl pg pm st nk na nb nm nv lk la lb ho' mo' tl' ph pt oi' tg sm wk wa wb fr) →
    wX_link_12 post (n + (hi - lo)) (nI lo) vl ll nl fl nc (nI N) pc (nI c) rd gp fc se ck pl pg pm st nk na nb nm nv lk la lb ho mo tl ph pt oi tg sm wk wa wb fr) ?_ ?_ ?_ H
  · intro i hi c oi ho mo tl n hc kont
    rw [Nat.sub_self]
    exact kont oi ho mo tl (fun _ _ => rfl) (fun _ _ => ⟨rfl, rfl, rfl⟩) (jr_sq0 i)
  · intro i j s w ih hj c oi ho mo tl n hc kont
    have l := jr_sqle w
    have e : n + (j - i) = n + (j - (i + 1)) + 1 := by omega
    rw [e]
    refine jr_xl_s hN (by omega) s (ih hj c oi ho mo tl n (by omega) ?_)
    intro oi' ho' mo' tl' p q z
    exact kont oi' ho' mo' tl' p (fun k hk => q k (by omega)) (jr_sq1 s z)
  · intro h m t j s r x y w i1 i2 i3 hj c oi ho mo tl n hc kont
    have a1 := jr_sqle x
    have a2 := jr_sqle y
    have a3 := jr_sqle w
    have e : n + (j - h) = n + (j - (t + 1)) + 1 + (t - (m + 1)) + 1 + (m - (h + 1)) + 1 := by omega
    rw [e]
    refine jr_xl_o hN (by omega) (by omega) (jr_t1 s) ?_
    refine i1 (by omega) (c + 1) (upd oi c (nI h)) ho mo tl _ (by omega) ?_
    intro oi1 ho1 mo1 tl1 p1 q1 z1
    have o1 : oi1 c = nI h := (p1 c (by omega)).trans jr_us
    refine jr_xl_m hN (by omega) (by omega) (by omega) o1 (jr_t2 s) ?_
    refine i2 (by omega) (c + 1) oi1 ho1 (upd mo1 h (nI m)) tl1 _ (by omega) ?_
    intro oi2 ho2 mo2 tl2 p2 q2 z2
    have o2 : oi2 c = nI h := (p2 c (by omega)).trans o1
    have m2 : mo2 h = nI m := (q2 h (Or.inl (by omega))).2.1.trans jr_us
    refine jr_xl_c hN (by omega) (by omega) (by omega) (by omega) o2 m2 (jr_t3 s) ?_
    refine i3 hj c oi2 (upd (upd (upd ho2 h (nI h)) m (nI h)) t (nI h)) (upd (upd (upd mo2 h (nI m)) m (nI m)) t (nI m)) (upd (upd (upd tl2 h (nI t)) m (nI t)) t (nI t)) n (by omega) ?_
    intro oi3 ho3 mo3 tl3 p3 q3 z3
    refine kont oi3 ho3 mo3 tl3 ?_ ?_ ?_
    · intro k hk
      rw [p3 k hk, p2 k (by omega), p1 k (by omega), jr_un (by omega)]
    · intro k hk
      have Q3 := q3 k (by omega)
      have Q2 := q2 k (by omega)
      have Q1 := q1 k (by omega)
      rw [jr_u3 (by omega) (by omega) (by omega), jr_u3 (by omega) (by omega) (by omega), jr_u3 (by omega) (by omega) (by omega)] at Q3
      rw [jr_un (by omega)] at Q2
      exact ⟨Q3.1.trans (Q2.1.trans Q1.1), Q3.2.1.trans (Q2.2.1.trans Q1.2.1), Q3.2.2.trans (Q2.2.2.trans Q1.2.2)⟩
    · refine jr_sq2 s ?_ (jr_sqmo z1 (fun h' m' t' a b c d z => jr_lkmo (lo := h + 1) (hi := m) (fun k ka kb => ?_) a b c d z))
        (jr_sqmo z2 (fun h' m' t' a b c d z => jr_lkmo (lo := m + 1) (hi := t) (fun k ka kb => ?_) a b c d z)) z3
      · intro k ek
        have Q3 := q3 k (by omega)
        rw [jr_u3e ek, jr_u3e ek, jr_u3e ek] at Q3
        exact Q3
      · have Q3 := q3 k (by omega)
        have Q2 := q2 k (by omega)
        rw [jr_u3 (by omega) (by omega) (by omega), jr_u3 (by omega) (by omega) (by omega), jr_u3 (by omega) (by omega) (by omega)] at Q3
        rw [jr_un (by omega)] at Q2
        exact ⟨Q3.1.trans Q2.1, Q3.2.1.trans Q2.2.1, Q3.2.2.trans Q2.2.2⟩
      · have Q3 := q3 k (by omega)
        rw [jr_u3 (by omega) (by omega) (by omega), jr_u3 (by omega) (by omega) (by omega), jr_u3 (by omega) (by omega) (by omega)] at Q3
        exact Q3
theorem jr_xlp {N lo hi : Nat} (hN : N ≤ 96) (H : jr_Pg lk jr_T3 lo hi) : hi ≤ N → ∀ (oi ho mo tl ph pt : Nat → Int32) (n : Nat),
    (∀ oi' ho' mo' tl' ph' pt' : Nat → Int32, (∀ p, p < jr_cp lk lo → ph' p = ph p ∧ pt' p = pt p) →
      (∀ j, (j < lo ∨ hi ≤ j) → ho' j = ho j ∧ mo' j = mo j ∧ tl' j = tl j) →
      jr_Pg lk (jr_Lk ho' mo' tl') lo hi → (∀ p, jr_cp lk lo ≤ p → p < jr_cp lk hi → jr_Pt lk jr_T3 N ph' pt' p) →
      wX_link_12 post n (nI hi) vl ll nl fl nc (nI N) (nI (jr_cp lk hi)) (nI 0) rd gp fc se ck pl pg pm st nk na nb nm nv lk la lb ho' mo' tl' ph' pt' oi' tg sm wk wa wb fr) →
    wX_link_12 post (n + (hi - lo)) (nI lo) vl ll nl fl nc (nI N) (nI (jr_cp lk lo)) (nI 0) rd gp fc se ck pl pg pm st nk na nb nm nv lk la lb ho mo tl ph pt oi tg sm wk wa wb fr := by
  refine jr_pgi (P := fun lo hi => hi ≤ N → ∀ (oi ho mo tl ph pt : Nat → Int32) (n : Nat),
    (∀ oi' ho' mo' tl' ph' pt' : Nat → Int32, (∀ p, p < jr_cp lk lo → ph' p = ph p ∧ pt' p = pt p) →
      (∀ j, (j < lo ∨ hi ≤ j) → ho' j = ho j ∧ mo' j = mo j ∧ tl' j = tl j) →
      jr_Pg lk (jr_Lk ho' mo' tl') lo hi → (∀ p, jr_cp lk lo ≤ p → p < jr_cp lk hi → jr_Pt lk jr_T3 N ph' pt' p) →
      wX_link_12 post n (nI hi) vl ll nl fl nc (nI N) (nI (jr_cp lk hi)) (nI 0) rd gp fc se ck pl pg pm st nk na nb nm nv lk la lb ho' mo' tl' ph' pt' oi' tg sm wk wa wb fr) →
    wX_link_12 post (n + (hi - lo)) (nI lo) vl ll nl fl nc (nI N) (nI (jr_cp lk lo)) (nI 0) rd gp fc se ck pl pg pm st nk na nb nm nv lk la lb ho mo tl ph pt oi tg sm wk wa wb fr) ?_ ?_ H
  · intro i hi oi ho mo tl ph pt n kont
    rw [Nat.sub_self]
    exact kont oi ho mo tl ph pt (fun _ _ => ⟨rfl, rfl⟩) (fun _ _ => ⟨rfl, rfl, rfl⟩) (jr_pg0 i) (fun p a b => absurd a (by omega))
  · intro p e j x s y w ih hj oi ho mo tl ph pt n kont
    have a1 := jr_sqle s
    have a2 := jr_pgle w
    have b1 := jr_cple (K := lk) p
    have c1 : jr_cp lk (p + 1) = jr_cp lk p + 1 := jr_cp1 x
    have c2 : jr_cp lk e = jr_cp lk p + 1 := (jr_cpsq s).trans c1
    have c3 : jr_cp lk (e + 1) = jr_cp lk p + 1 := (jr_cp0 (by rw [y]; decide)).trans c2
    have c4 := jr_cpm (K := lk) a2
    have ee : n + (j - p) = n + (j - (e + 1)) + 1 + (e - (p + 1)) + 1 := by omega
    rw [ee]
    refine jr_xl_p hN (by omega) (by omega) x ?_
    refine jr_xls hN s (by omega) 0 oi ho mo tl _ (by omega) ?_
    intro oi1 ho1 mo1 tl1 p1 q1 z1
    refine jr_xl_e hN (by omega) (by omega) y ?_
    have A := ih hj oi1 ho1 mo1 tl1 (upd ph (jr_cp lk p) (nI p)) (upd pt (jr_cp lk p) (nI e)) n ?_
    · rw [c3] at A; exact A
    · intro oi2 ho2 mo2 tl2 ph2 pt2 r2 q2 z2 t2
      have r0 := r2 (jr_cp lk p) (by omega)
      rw [jr_us, jr_us] at r0
      refine kont oi2 ho2 mo2 tl2 ph2 pt2 ?_ ?_ ?_ ?_
      · intro k hk
        have := r2 k (by omega)
        rw [jr_un (by omega), jr_un (by omega)] at this
        exact this
      · intro k hk
        have Q2 := q2 k (by omega)
        have Q1 := q1 k (by omega)
        exact ⟨Q2.1.trans Q1.1, Q2.2.1.trans Q1.2.1, Q2.2.2.trans Q1.2.2⟩
      · exact jr_pg1 x (jr_sqmo z1 (fun h' m' t' a b c d z => jr_lkmo (lo := p + 1) (hi := e) (fun k ka kb => q2 k (by omega)) a b c d z)) y z2
      · intro k ka kb
        by_cases ek : k = jr_cp lk p
        · exact ⟨p, e, by omega, by omega, x, ek.symm, jr_sqmo s (fun _ _ _ _ _ _ _ _ => trivial), y, by rw [ek]; exact r0.1, by rw [ek]; exact r0.2⟩
        · exact t2 k (by omega) kb
theorem jr_xlk {N : Nat} (hN : N ≤ 96) (H : jr_Pg lk jr_T3 0 N)
    (h : ∀ oi' ho' mo' tl' ph' pt' : Nat → Int32, jr_Pg lk (jr_Lk ho' mo' tl') 0 N → (∀ p, p < jr_cp lk N → jr_Pt lk jr_T3 N ph' pt' p) →
      post (vl, ll, nl, fl, nc, (nI N), (nI (jr_cp lk N)), (nI 0), rd, gp, fc, se, ck, pl, pg, pm, st, nk, na, nb, nm, nv, lk, la, lb, ho', mo', tl', ph', pt', oi', tg, sm, wk, wa, wb, fr)) : wpX_link post (vl, ll, nl, fl, nc, (nI N), pc, oc, rd, gp, fc, se, ck, pl, pg, pm, st, nk, na, nb, nm, nv, lk, la, lb, ho, mo, tl, ph, pt, oi, tg, sm, wk, wa, wb, fr) := by
  have A := jr_xlp (post := post) (lo := 0) (hi := N) hN H (Nat.le_refl N) oi ho mo tl ph pt 1 (vl := vl) (ll := ll) (nl := nl) (fl := fl) (nc := nc) (rd := rd) (gp := gp) (fc := fc) (se := se) (ck := ck) (pl := pl) (pg := pg) (pm := pm) (st := st) (nk := nk) (na := na) (nb := nb) (nm := nm) (nv := nv) (la := la) (lb := lb) (tg := tg) (sm := sm) (wk := wk) (wa := wa) (wb := wb) (fr := fr)
    (fun oi' ho' mo' tl' ph' pt' _ _ z t => br_t (nI_le (Nat.le_refl N) (by omega)) (h oi' ho' mo' tl' ph' pt' z (fun p hp => t p (Nat.zero_le p) hp)))
  exact ⟨_, A⟩
end JRE2
end
section
section JRF
variable {vl ll nl fl nc lc pc oc rd gp fc se ck pl pg pm gy : Int32} {st nk na nb nm nv lk la lb ho mo tl ph pt oi tg sm wk wa wb fr me po : Nat → Int32}
/-! the chain of open statements -/
def jr_Ch (K : Nat → Int32) (oi : Nat → Int32) : Nat → Nat → Prop
  | 0, i => ∃ p, jr_Pg K jr_T3 0 p ∧ K p = 0 ∧ jr_Sq K jr_T3 (p + 1) i
  | c + 1, i => ∃ h, jr_Ch K oi c h ∧ (((K h = 8 ∨ K h = 11) ∧ oi c = K h ∧ jr_Sq K jr_T3 (h + 1) i) ∨
      ∃ m, ((K h = 8 ∧ K m = 9) ∨ (K h = 11 ∧ K m = 12)) ∧ oi c = K m ∧ jr_Sq K jr_T3 (h + 1) m ∧ jr_Sq K jr_T3 (m + 1) i)
variable {K : Nat → Int32}
theorem jr_chcg {oi' : Nat → Int32} (c : Nat) : ∀ i, (∀ j, j < c → oi' j = oi j) → jr_Ch K oi c i → jr_Ch K oi' c i := by
  induction c with
  | zero => intro i _ h; exact h
  | succ c ih =>
    intro i q ⟨h, a, b⟩
    refine ⟨h, ih h (fun j hj => q j (by omega)) a, ?_⟩
    rw [q c (by omega)]; exact b
theorem jr_chle (c : Nat) : ∀ i, jr_Ch K oi c i → c < i := by
  induction c with
  | zero =>
    intro i ⟨p, _, _, s⟩
    have := jr_sqle s; omega
  | succ c ih =>
    intro i ⟨h, a, b⟩
    have l := ih h a
    rcases b with ⟨_, _, s⟩ | ⟨m, _, _, s, s2⟩
    · have := jr_sqle s; omega
    · have := jr_sqle s
      have := jr_sqle s2
      omega
theorem jr_chap {c i j : Nat} (H : jr_Ch K oi c i) (s : jr_Sq K jr_T3 i j) : jr_Ch K oi c j := by
  cases c with
  | zero =>
    obtain ⟨p, a, b, w⟩ := H
    exact ⟨p, a, b, jr_sqap w s⟩
  | succ c =>
    obtain ⟨h, a, b⟩ := H
    rcases b with ⟨b1, b2, w⟩ | ⟨m, b1, b2, w, w2⟩
    · exact ⟨h, a, Or.inl ⟨b1, b2, jr_sqap w s⟩⟩
    · exact ⟨h, a, Or.inr ⟨m, b1, b2, w, jr_sqap w2 s⟩⟩
theorem jr_chtp {c i : Nat} (H : jr_Ch K oi c i) : ∃ o, o < i ∧ jr_Sq K jr_T3 (o + 1) i ∧ jr_Own (K o) ∧
    ((c = 0 ∧ K o = 0) ∨ ∃ d, c = d + 1 ∧ oi d = K o ∧ ((K o = 8 ∨ K o = 11) ∨ (K o = 9 ∨ K o = 12))) := by
  cases c with
  | zero =>
    obtain ⟨p, a, b, w⟩ := H
    have := jr_sqle w
    exact ⟨p, by omega, w, Or.inl b, Or.inl ⟨rfl, b⟩⟩
  | succ c =>
    obtain ⟨h, a, b⟩ := H
    rcases b with ⟨b1, b2, w⟩ | ⟨m, b1, b2, w, w2⟩
    · have := jr_sqle w
      exact ⟨h, by omega, w, Or.inr (Or.inl b1), Or.inr ⟨c, rfl, b2, Or.inl b1⟩⟩
    · have := jr_sqle w2
      have b3 : K m = 9 ∨ K m = 12 := b1.imp (fun z => z.2) (fun z => z.2)
      exact ⟨m, by omega, w2, Or.inr (Or.inr b3), Or.inr ⟨c, rfl, b2, Or.inr b3⟩⟩
theorem jr_cho {c i : Nat} (H : jr_Ch K oi c i) (s : K i = 8 ∨ K i = 11) : jr_Ch K (upd oi c (K i)) (c + 1) (i + 1) :=
  ⟨i, jr_chcg c i (fun _ hj => jr_un (by omega)) H, Or.inl ⟨s, jr_us, jr_sq0 _⟩⟩
theorem jr_chm {c i : Nat} (H : jr_Ch K oi (c + 1) i) (s : (oi c = 8 ∧ K i = 9) ∨ (oi c = 11 ∧ K i = 12)) :
    jr_Ch K (upd oi c (K i)) (c + 1) (i + 1) := by
  obtain ⟨h, a, b⟩ := H
  refine ⟨h, jr_chcg c h (fun _ hj => jr_un (by omega)) a, Or.inr ⟨i, ?_, jr_us, ?_, jr_sq0 _⟩⟩
  · rcases b with ⟨b1, b2, w⟩ | ⟨m, b1, b2, w, w2⟩
    · rw [b2] at s; exact s
    · rw [b2] at s
      rcases b1 with ⟨_, e⟩ | ⟨_, e⟩ <;> rw [e] at s <;> rcases s with ⟨z, _⟩ | ⟨z, _⟩ <;> exact absurd z (by decide)
  · rcases b with ⟨b1, b2, w⟩ | ⟨m, b1, b2, w, w2⟩
    · exact w
    · rw [b2] at s
      rcases b1 with ⟨_, e⟩ | ⟨_, e⟩ <;> rw [e] at s <;> rcases s with ⟨z, _⟩ | ⟨z, _⟩ <;> exact absurd z (by decide)
theorem jr_chc {c i : Nat} (H : jr_Ch K oi (c + 1) i) (s : (oi c = 9 ∧ K i = 10) ∨ (oi c = 12 ∧ K i = 13)) :
    jr_Ch K oi c (i + 1) := by
  obtain ⟨h, a, b⟩ := H
  refine jr_chap a ?_
  rcases b with ⟨b1, b2, w⟩ | ⟨m, b1, b2, w, w2⟩
  · rw [b2] at s
    rcases b1 with e | e <;> rw [e] at s <;> rcases s with ⟨z, _⟩ | ⟨z, _⟩ <;> exact absurd z (by decide)
  · refine jr_sq2 ?_ trivial w w2 (jr_sq0 _)
    rw [b2] at s
    rcases b1 with ⟨e1, e⟩ | ⟨e1, e⟩
    · rcases s with ⟨z, z2⟩ | ⟨z, z2⟩
      · exact Or.inl ⟨e1, e, z2⟩
      · rw [e] at z; exact absurd z (by decide)
    · rcases s with ⟨z, z2⟩ | ⟨z, z2⟩
      · rw [e] at z; exact absurd z (by decide)
      · exact Or.inr ⟨e1, e, z2⟩
theorem jr_che {i : Nat} (H : jr_Ch K oi 0 i) (s : K i = 1) : jr_Pg K jr_T3 0 (i + 1) := by
  obtain ⟨p, a, b, w⟩ := H
  exact jr_pgap a (jr_pg1 b w s (jr_pg0 _))
def jr_CI (K oi : Nat → Int32) (i : Nat) (x : Int32) (c : Nat) : Prop :=
  (x = 0 ∧ c = 0 ∧ jr_Pg K jr_T3 0 i) ∨ (x = 1 ∧ jr_Ch K oi c i)
def jr_Kd (k : Int32) : Prop := k = 0 ∨ k = 1 ∨ k = 2 ∨ k = 3 ∨ k = 4 ∨ k = 5 ∨ k = 6 ∨ k = 7 ∨ k = 8 ∨ k = 9 ∨ k = 10 ∨ k = 11 ∨ k = 12 ∨ k = 13
/-- what is known of a line: N nodes -/
def jr_L1 (n : Nat) (k a b : Int32) : Prop := jr_Kd k ∧
  ((k = 2 ∨ k = 3 ∨ k = 4) → ∃ x y, x < 8 ∧ y < n ∧ a = nI x ∧ b = nI y) ∧
  (k = 5 → ∃ x y, x < 8 ∧ y < 8 ∧ a = nI x ∧ b = nI y) ∧ ((k = 6 ∨ k = 7) → ∃ x, x < 32 ∧ a = nI x)
def jr_Li (N n : Nat) (lk la lb : Nat → Int32) : Prop := ∀ i, i < N → jr_L1 n (lk i) (la i) (lb i)
def jr_Ct (lk la : Nat → Int32) (N i : Nat) : Prop := ∀ j, j < i → (lk j = 6 ∨ lk j = 7) → ∃ a, a < jr_cp lk N ∧ la j = nI a
end JRF
section JRF2
variable {vl ll nl fl nc lc pc oc rd gp fc se ck pl pg pm gy : Int32} {st nk na nb nm nv lk la lb ho mo tl ph pt oi tg sm wk wa wb fr me po : Nat → Int32}
/-! X: one line checked -/
variable {post : Int32 → SX → Prop} {N i c : Nat} {p : Int32}
theorem jr_xad1 {a b : Int32} (hc : c < 96) (e : oi c = a) (h : post 0 (vl, ll, nl, fl, nc, lc, pc, (nI (c + 1)), rd, gp, fc, se, ck, pl, pg, pm, st, nk, na, nb, nm, nv, lk, la, lb, ho, mo, tl, ph, pt, (upd oi c b), tg, sm, wk, wa, wb, fr)) : wpX_advanceOpen post (vl, ll, nl, fl, nc, lc, pc, (nI (c + 1)), rd, gp, fc, se, ck, pl, pg, pm, st, nk, na, nb, nm, nv, lk, la, lb, ho, mo, tl, ph, pt, oi, tg, sm, wk, wa, wb, fr) a b := by
  refine br_f (nI_ne0 (by omega) (by omega)) ?_
  rw [nI_pred c, nI_clamp (show c < 2 ^ 31 by omega)]
  exact ⟨vp_in_nI hc (by decide), br_t e ⟨vp_in_nI hc (by decide), nm_e h⟩⟩
theorem jr_xad0 {a b : Int32} (hc : c < 96) (e : ¬ oi c = a) (h : post 3 (vl, ll, nl, fl, nc, lc, pc, (nI (c + 1)), rd, gp, fc, se, ck, pl, pg, pm, st, nk, na, nb, nm, nv, lk, la, lb, ho, mo, tl, ph, pt, oi, tg, sm, wk, wa, wb, fr)) : wpX_advanceOpen post (vl, ll, nl, fl, nc, lc, pc, (nI (c + 1)), rd, gp, fc, se, ck, pl, pg, pm, st, nk, na, nb, nm, nv, lk, la, lb, ho, mo, tl, ph, pt, oi, tg, sm, wk, wa, wb, fr) a b := by
  refine br_f (nI_ne0 (by omega) (by omega)) ?_
  rw [nI_pred c, nI_clamp (show c < 2 ^ 31 by omega)]
  exact ⟨vp_in_nI hc (by decide), br_f e h⟩
theorem jr_xadz {a b : Int32} (h : post 3 (vl, ll, nl, fl, nc, lc, pc, (nI 0), rd, gp, fc, se, ck, pl, pg, pm, st, nk, na, nb, nm, nv, lk, la, lb, ho, mo, tl, ph, pt, oi, tg, sm, wk, wa, wb, fr)) : wpX_advanceOpen post (vl, ll, nl, fl, nc, lc, pc, (nI 0), rd, gp, fc, se, ck, pl, pg, pm, st, nk, na, nb, nm, nv, lk, la, lb, ho, mo, tl, ph, pt, oi, tg, sm, wk, wa, wb, fr) a b := br_t rfl h
theorem jr_xco1 {a : Int32} (hc : c < 96) (e : oi c = a) (h : post 0 (vl, ll, nl, fl, nc, lc, pc, (nI c), rd, gp, fc, se, ck, pl, pg, pm, st, nk, na, nb, nm, nv, lk, la, lb, ho, mo, tl, ph, pt, oi, tg, sm, wk, wa, wb, fr)) : wpX_closeOpen post (vl, ll, nl, fl, nc, lc, pc, (nI (c + 1)), rd, gp, fc, se, ck, pl, pg, pm, st, nk, na, nb, nm, nv, lk, la, lb, ho, mo, tl, ph, pt, oi, tg, sm, wk, wa, wb, fr) a := by
  refine br_f (nI_ne0 (by omega) (by omega)) ?_
  rw [nI_pred c, nI_clamp (show c < 2 ^ 31 by omega)]
  exact ⟨vp_in_nI hc (by decide), br_t e (nm_e h)⟩
theorem jr_xco0 {a : Int32} (hc : c < 96) (e : ¬ oi c = a) (h : post 3 (vl, ll, nl, fl, nc, lc, pc, (nI (c + 1)), rd, gp, fc, se, ck, pl, pg, pm, st, nk, na, nb, nm, nv, lk, la, lb, ho, mo, tl, ph, pt, oi, tg, sm, wk, wa, wb, fr)) : wpX_closeOpen post (vl, ll, nl, fl, nc, lc, pc, (nI (c + 1)), rd, gp, fc, se, ck, pl, pg, pm, st, nk, na, nb, nm, nv, lk, la, lb, ho, mo, tl, ph, pt, oi, tg, sm, wk, wa, wb, fr) a := by
  refine br_f (nI_ne0 (by omega) (by omega)) ?_
  rw [nI_pred c, nI_clamp (show c < 2 ^ 31 by omega)]
  exact ⟨vp_in_nI hc (by decide), br_f e h⟩
theorem jr_xcoz {a : Int32} (h : post 3 (vl, ll, nl, fl, nc, lc, pc, (nI 0), rd, gp, fc, se, ck, pl, pg, pm, st, nk, na, nb, nm, nv, lk, la, lb, ho, mo, tl, ph, pt, oi, tg, sm, wk, wa, wb, fr)) : wpX_closeOpen post (vl, ll, nl, fl, nc, lc, pc, (nI 0), rd, gp, fc, se, ck, pl, pg, pm, st, nk, na, nb, nm, nv, lk, la, lb, ho, mo, tl, ph, pt, oi, tg, sm, wk, wa, wb, fr) a := br_t rfl h
theorem jr_xle_0o (hi : i < 96) (e : lk i = 0) (h : post 0 (vl, ll, nl, fl, nc, lc, pc, oc, rd, gp, fc, se, ck, pl, pg, pm, st, nk, na, nb, nm, nv, lk, la, lb, ho, mo, tl, ph, pt, oi, tg, sm, wk, wa, wb, fr)) : wpX_lineError post (vl, ll, nl, fl, nc, lc, pc, oc, rd, gp, fc, se, ck, pl, pg, pm, st, nk, na, nb, nm, nv, lk, la, lb, ho, mo, tl, ph, pt, oi, tg, sm, wk, wa, wb, fr) (nI i) 0 p :=
  ⟨vp_in_nI hi (by decide), nm_r (e' := 0) (by rw [nI_clamp (by omega)]; exact e) (br_t rfl (br_t rfl h))⟩
theorem jr_xle_0i (hi : i < 96) (e : lk i = 0) (h : post 1 (vl, ll, nl, fl, nc, lc, pc, oc, rd, gp, fc, se, ck, pl, pg, pm, st, nk, na, nb, nm, nv, lk, la, lb, ho, mo, tl, ph, pt, oi, tg, sm, wk, wa, wb, fr)) : wpX_lineError post (vl, ll, nl, fl, nc, lc, pc, oc, rd, gp, fc, se, ck, pl, pg, pm, st, nk, na, nb, nm, nv, lk, la, lb, ho, mo, tl, ph, pt, oi, tg, sm, wk, wa, wb, fr) (nI i) 1 p :=
  ⟨vp_in_nI hi (by decide), nm_r (e' := 0) (by rw [nI_clamp (by omega)]; exact e) (br_t rfl (br_f (by decide) h))⟩
theorem jr_xle_o (hi : i < 96) (e : ¬ lk i = 0) (h : post 2 (vl, ll, nl, fl, nc, lc, pc, oc, rd, gp, fc, se, ck, pl, pg, pm, st, nk, na, nb, nm, nv, lk, la, lb, ho, mo, tl, ph, pt, oi, tg, sm, wk, wa, wb, fr)) : wpX_lineError post (vl, ll, nl, fl, nc, lc, pc, oc, rd, gp, fc, se, ck, pl, pg, pm, st, nk, na, nb, nm, nv, lk, la, lb, ho, mo, tl, ph, pt, oi, tg, sm, wk, wa, wb, fr) (nI i) 0 p :=
  ⟨vp_in_nI hi (by decide), nm_r (e' := lk i) (by rw [nI_clamp (by omega)]) (br_f e (br_t rfl h))⟩
theorem jr_xle_10 (hi : i < 96) (e : lk i = 1) (h : post 0 (vl, ll, nl, fl, nc, lc, pc, (nI 0), rd, gp, fc, se, ck, pl, pg, pm, st, nk, na, nb, nm, nv, lk, la, lb, ho, mo, tl, ph, pt, oi, tg, sm, wk, wa, wb, fr)) : wpX_lineError post (vl, ll, nl, fl, nc, lc, pc, (nI 0), rd, gp, fc, se, ck, pl, pg, pm, st, nk, na, nb, nm, nv, lk, la, lb, ho, mo, tl, ph, pt, oi, tg, sm, wk, wa, wb, fr) (nI i) 1 p :=
  ⟨vp_in_nI hi (by decide), nm_r (e' := 1) (by rw [nI_clamp (by omega)]; exact e) (br_f (by decide) (br_f (by decide) (br_f (by decide) (br_f (by decide) (br_t (by decide) (br_t (by decide) h))))))⟩
theorem jr_xle_11 (hi : i < 96) (hc : c < 96) (e : lk i = 1) (h : post 3 (vl, ll, nl, fl, nc, lc, pc, (nI (c + 1)), rd, gp, fc, se, ck, pl, pg, pm, st, nk, na, nb, nm, nv, lk, la, lb, ho, mo, tl, ph, pt, oi, tg, sm, wk, wa, wb, fr)) : wpX_lineError post (vl, ll, nl, fl, nc, lc, pc, (nI (c + 1)), rd, gp, fc, se, ck, pl, pg, pm, st, nk, na, nb, nm, nv, lk, la, lb, ho, mo, tl, ph, pt, oi, tg, sm, wk, wa, wb, fr) (nI i) 1 p :=
  ⟨vp_in_nI hi (by decide), nm_r (e' := 1) (by rw [nI_clamp (by omega)]; exact e) (br_f (by decide) (br_f (by decide) (br_f (by decide) (br_f (by decide) (br_t (by decide) (br_f (nI_nle (by omega) (by omega)) h))))))⟩
/-- the answer of the self test -/
def jr_sf (nm : Nat → Int32) (x y : Nat) : Int32 := if jr_mt nm x y = 0 then 0 else 4
theorem jr_xse {post : Int32 → Prop} {x y : Nat} (hi : i < 96) (hx : x < 8) (hy : y < 32) (ea : la i = nI x) (eb : lb i = nI y) (h : post (jr_sf nm x y)) : wpX_selfError post (vl, ll, nl, fl, nc, lc, pc, oc, rd, gp, fc, se, ck, pl, pg, pm, st, nk, na, nb, nm, nv, lk, la, lb, ho, mo, tl, ph, pt, oi, tg, sm, wk, wa, wb, fr) (nI i) := by
  have cl : (nI i).toNatClampNeg = i := nI_clamp (by omega)
  refine ⟨vp_in_nI hi (by decide), nm_r (e' := (1 : Int32) <<< (nI x &&& 31)) (by rw [cl, ea]) ⟨vp_in_nI hi (by decide), ?_⟩⟩
  rw [cl, eb, nI_clamp (show y < 2 ^ 31 by omega)]
  refine ⟨vp_in_nI hy (by decide), ?_⟩
  by_cases z : nm y &&& ((1 : Int32) <<< (nI x &&& 31)) = 0
  · have e1 : jr_sf nm x y = 0 := if_pos (jr_mt0 z)
    rw [e1] at h; exact br_t z h
  · have e1 : jr_sf nm x y = 4 := if_neg (by rw [jr_mt1 z]; decide)
    rw [e1] at h; exact br_f z h
theorem jr_xle_u {x y : Nat} (hi : i < 96) (hx : x < 8) (hy : y < 32) (ea : la i = nI x) (eb : lb i = nI y) (e : lk i = 2 ∨ lk i = 3 ∨ lk i = 4)
    (h : post (jr_sf nm x y) (vl, ll, nl, fl, nc, lc, pc, oc, rd, gp, fc, se, ck, pl, pg, pm, st, nk, na, nb, nm, nv, lk, la, lb, ho, mo, tl, ph, pt, oi, tg, sm, wk, wa, wb, fr)) : wpX_lineError post (vl, ll, nl, fl, nc, lc, pc, oc, rd, gp, fc, se, ck, pl, pg, pm, st, nk, na, nb, nm, nv, lk, la, lb, ho, mo, tl, ph, pt, oi, tg, sm, wk, wa, wb, fr) (nI i) 1 p := by
  have J : wX_lineError_186 post (nI i) vl ll nl fl nc lc pc oc rd gp fc se ck pl pg pm st nk na nb nm nv lk la lb ho mo tl ph pt oi tg sm wk wa wb fr := by
    unfold wX_lineError_186
    exact jr_xse hi hx hy ea eb h
  refine ⟨vp_in_nI hi (by decide), ?_⟩
  rcases e with e | e | e
  · exact nm_r (e' := 2) (by rw [nI_clamp (by omega)]; exact e) (br_f (by decide) (br_f (by decide) (br_f (by decide) (br_f (by decide) (br_f (by decide) (br_t (by decide) (J)))))))
  · exact nm_r (e' := 3) (by rw [nI_clamp (by omega)]; exact e) (br_f (by decide) (br_f (by decide) (br_f (by decide) (br_f (by decide) (br_f (by decide) (br_f (by decide) (br_t (by decide) (J))))))))
  · exact nm_r (e' := 4) (by rw [nI_clamp (by omega)]; exact e) (br_f (by decide) (br_f (by decide) (br_f (by decide) (br_f (by decide) (br_f (by decide) (br_f (by decide) (br_f (by decide) (br_t (by decide) (J)))))))))
/-- the answer of the swap test -/
def jr_sw (a b : Int32) : Int32 := if a = b then 4 else 0
theorem jr_xle_5 (hi : i < 96) (e : lk i = 5) (h : post (jr_sw (la i) (lb i)) (vl, ll, nl, fl, nc, lc, pc, oc, rd, gp, fc, se, ck, pl, pg, pm, st, nk, na, nb, nm, nv, lk, la, lb, ho, mo, tl, ph, pt, oi, tg, sm, wk, wa, wb, fr)) : wpX_lineError post (vl, ll, nl, fl, nc, lc, pc, oc, rd, gp, fc, se, ck, pl, pg, pm, st, nk, na, nb, nm, nv, lk, la, lb, ho, mo, tl, ph, pt, oi, tg, sm, wk, wa, wb, fr) (nI i) 1 p := by
  refine ⟨vp_in_nI hi (by decide), nm_r (e' := 5) (by rw [nI_clamp (by omega)]; exact e) (br_f (by decide) (br_f (by decide) (br_f (by decide) (br_f (by decide) (br_f (by decide) (br_f (by decide) (br_f (by decide) (br_f (by decide) (br_t (by decide) (⟨vp_in_nI hi (by decide), vp_in_nI hi (by decide), ?_⟩))))))))))⟩
  rw [nI_clamp (show i < 2 ^ 31 by omega)]
  by_cases z : la i = lb i
  · have e1 : jr_sw (la i) (lb i) = 4 := if_pos z
    rw [e1] at h; exact br_t z h
  · have e1 : jr_sw (la i) (lb i) = 0 := if_neg z
    rw [e1] at h; exact br_f z h
/-- the answer of the target test -/
def jr_tt (a p : Int32) : Int32 := if a < p then 0 else 5
theorem jr_xle_67 (hi : i < 96) (e : lk i = 6 ∨ lk i = 7) (h : post (jr_tt (la i) p) (vl, ll, nl, fl, nc, lc, pc, oc, rd, gp, fc, se, ck, pl, pg, pm, st, nk, na, nb, nm, nv, lk, la, lb, ho, mo, tl, ph, pt, oi, tg, sm, wk, wa, wb, fr)) : wpX_lineError post (vl, ll, nl, fl, nc, lc, pc, oc, rd, gp, fc, se, ck, pl, pg, pm, st, nk, na, nb, nm, nv, lk, la, lb, ho, mo, tl, ph, pt, oi, tg, sm, wk, wa, wb, fr) (nI i) 1 p := by
  have J : wX_lineError_170 post (nI i) p vl ll nl fl nc lc pc oc rd gp fc se ck pl pg pm st nk na nb nm nv lk la lb ho mo tl ph pt oi tg sm wk wa wb fr := by
    unfold wX_lineError_170
    refine ⟨vp_in_nI hi (by decide), ?_⟩
    rw [nI_clamp (show i < 2 ^ 31 by omega)]
    by_cases z : la i < p
    · have e1 : jr_tt (la i) p = 0 := if_pos z
      rw [e1] at h; exact br_t z h
    · have e1 : jr_tt (la i) p = 5 := if_neg z
      rw [e1] at h; exact br_f z h
  refine ⟨vp_in_nI hi (by decide), ?_⟩
  rcases e with e | e
  · exact nm_r (e' := 6) (by rw [nI_clamp (by omega)]; exact e) (br_f (by decide) (br_f (by decide) (br_f (by decide) (br_f (by decide) (br_f (by decide) (br_f (by decide) (br_f (by decide) (br_f (by decide) (br_f (by decide) (br_t (by decide) (J)))))))))))
  · exact nm_r (e' := 7) (by rw [nI_clamp (by omega)]; exact e) (br_f (by decide) (br_f (by decide) (br_f (by decide) (br_f (by decide) (br_f (by decide) (br_f (by decide) (br_f (by decide) (br_f (by decide) (br_f (by decide) (br_f (by decide) (br_t (by decide) (J))))))))))))
theorem jr_xle_811 (hi : i < 96) (hc : c < 96) (e : lk i = 8 ∨ lk i = 11) (h : post 0 (vl, ll, nl, fl, nc, lc, pc, (nI (c + 1)), rd, gp, fc, se, ck, pl, pg, pm, st, nk, na, nb, nm, nv, lk, la, lb, ho, mo, tl, ph, pt, (upd oi c (lk i)), tg, sm, wk, wa, wb, fr)) :
    wpX_lineError post (vl, ll, nl, fl, nc, lc, pc, (nI c), rd, gp, fc, se, ck, pl, pg, pm, st, nk, na, nb, nm, nv, lk, la, lb, ho, mo, tl, ph, pt, oi, tg, sm, wk, wa, wb, fr) (nI i) 1 p := by
  have J : ∀ k, k = lk i → wX_lineError_109 post k vl ll nl fl nc lc pc (nI c) rd gp fc se ck pl pg pm st nk na nb nm nv lk la lb ho mo tl ph pt oi tg sm wk wa wb fr := by
    intro k ek
    subst ek
    unfold wX_lineError_109
    exact jr_xpo hc h
  refine ⟨vp_in_nI hi (by decide), ?_⟩
  rcases e with e | e
  · exact nm_r (e' := 8) (by rw [nI_clamp (by omega)]; exact e) (br_f (by decide) (br_f (by decide) (br_f (by decide) (br_f (by decide) (br_f (by decide) (br_f (by decide) (br_f (by decide) (br_f (by decide) (br_f (by decide) (br_f (by decide) (br_f (by decide) (br_t (by decide) (J 8 e.symm)))))))))))))
  · exact nm_r (e' := 11) (by rw [nI_clamp (by omega)]; exact e) (br_f (by decide) (br_f (by decide) (br_f (by decide) (br_f (by decide) (br_f (by decide) (br_f (by decide) (br_f (by decide) (br_f (by decide) (br_f (by decide) (br_f (by decide) (br_f (by decide) (br_f (by decide) (br_f (by decide) (br_f (by decide) (br_t (by decide) (J 11 e.symm))))))))))))))))
theorem jr_xle_9 (hi : i < 96) (e : lk i = 9) (h : wpX_advanceOpen post (vl, ll, nl, fl, nc, lc, pc, oc, rd, gp, fc, se, ck, pl, pg, pm, st, nk, na, nb, nm, nv, lk, la, lb, ho, mo, tl, ph, pt, oi, tg, sm, wk, wa, wb, fr) 8 9) : wpX_lineError post (vl, ll, nl, fl, nc, lc, pc, oc, rd, gp, fc, se, ck, pl, pg, pm, st, nk, na, nb, nm, nv, lk, la, lb, ho, mo, tl, ph, pt, oi, tg, sm, wk, wa, wb, fr) (nI i) 1 p :=
  ⟨vp_in_nI hi (by decide), nm_r (e' := 9) (by rw [nI_clamp (by omega)]; exact e) (br_f (by decide) (br_f (by decide) (br_f (by decide) (br_f (by decide) (br_f (by decide) (br_f (by decide) (br_f (by decide) (br_f (by decide) (br_f (by decide) (br_f (by decide) (br_f (by decide) (br_f (by decide) (br_t (by decide) (h))))))))))))))⟩
theorem jr_xle_12 (hi : i < 96) (e : lk i = 12) (h : wpX_advanceOpen post (vl, ll, nl, fl, nc, lc, pc, oc, rd, gp, fc, se, ck, pl, pg, pm, st, nk, na, nb, nm, nv, lk, la, lb, ho, mo, tl, ph, pt, oi, tg, sm, wk, wa, wb, fr) 11 12) : wpX_lineError post (vl, ll, nl, fl, nc, lc, pc, oc, rd, gp, fc, se, ck, pl, pg, pm, st, nk, na, nb, nm, nv, lk, la, lb, ho, mo, tl, ph, pt, oi, tg, sm, wk, wa, wb, fr) (nI i) 1 p :=
  ⟨vp_in_nI hi (by decide), nm_r (e' := 12) (by rw [nI_clamp (by omega)]; exact e) (br_f (by decide) (br_f (by decide) (br_f (by decide) (br_f (by decide) (br_f (by decide) (br_f (by decide) (br_f (by decide) (br_f (by decide) (br_f (by decide) (br_f (by decide) (br_f (by decide) (br_f (by decide) (br_f (by decide) (br_f (by decide) (br_f (by decide) (br_t (by decide) (h)))))))))))))))))⟩
theorem jr_xle_c10 (hi : i < 96) (e : lk i = 10) (h : wpX_closeOpen post (vl, ll, nl, fl, nc, lc, pc, oc, rd, gp, fc, se, ck, pl, pg, pm, st, nk, na, nb, nm, nv, lk, la, lb, ho, mo, tl, ph, pt, oi, tg, sm, wk, wa, wb, fr) 9) : wpX_lineError post (vl, ll, nl, fl, nc, lc, pc, oc, rd, gp, fc, se, ck, pl, pg, pm, st, nk, na, nb, nm, nv, lk, la, lb, ho, mo, tl, ph, pt, oi, tg, sm, wk, wa, wb, fr) (nI i) 1 p :=
  ⟨vp_in_nI hi (by decide), nm_r (e' := 10) (by rw [nI_clamp (by omega)]; exact e) (br_f (by decide) (br_f (by decide) (br_f (by decide) (br_f (by decide) (br_f (by decide) (br_f (by decide) (br_f (by decide) (br_f (by decide) (br_f (by decide) (br_f (by decide) (br_f (by decide) (br_f (by decide) (br_f (by decide) (br_t (by decide) (h)))))))))))))))⟩
theorem jr_xle_c13 (hi : i < 96) (e : lk i = 13) (h : wpX_closeOpen post (vl, ll, nl, fl, nc, lc, pc, oc, rd, gp, fc, se, ck, pl, pg, pm, st, nk, na, nb, nm, nv, lk, la, lb, ho, mo, tl, ph, pt, oi, tg, sm, wk, wa, wb, fr) 12) : wpX_lineError post (vl, ll, nl, fl, nc, lc, pc, oc, rd, gp, fc, se, ck, pl, pg, pm, st, nk, na, nb, nm, nv, lk, la, lb, ho, mo, tl, ph, pt, oi, tg, sm, wk, wa, wb, fr) (nI i) 1 p :=
  ⟨vp_in_nI hi (by decide), nm_r (e' := 13) (by rw [nI_clamp (by omega)]; exact e) (br_f (by decide) (br_f (by decide) (br_f (by decide) (br_f (by decide) (br_f (by decide) (br_f (by decide) (br_f (by decide) (br_f (by decide) (br_f (by decide) (br_f (by decide) (br_f (by decide) (br_f (by decide) (br_f (by decide) (br_f (by decide) (br_f (by decide) (br_f (by decide) (br_t (by decide) (h))))))))))))))))))⟩
end JRF2
section JRF3
variable {vl ll nl fl nc lc pc oc rd gp fc se ck pl pg pm gy : Int32} {st nk na nb nm nv lk la lb ho mo tl ph pt oi tg sm wk wa wb fr me po : Nat → Int32}
/-! Y: one line checked -/
variable {post : Int32 → SY → Prop} {N i o : Nat} {z : Int32}
theorem jr_yer1 (hi : i < 96) (ho : o < i) (hq : jr_Sq lk jr_T3 (o + 1) i) (e : jr_Own (lk o)) {k : Int32} (ek : lk i = k) (h : wY_error_27 post (nI i) k (lk o) vl ll nl fl rd nc lc fc gy ck st nk na nb lk la lb fr nv me po wk wa wb) :
    wpY_error post (vl, ll, nl, fl, rd, nc, lc, fc, gy, ck, st, nk, na, nb, lk, la, lb, fr, nv, me, po, wk, wa, wb) (nI i) := by
  refine ⟨vp_in_nI hi (by decide), nm_r (e' := k) (by rw [nI_clamp (by omega)]; exact ek) (jr_yow (by omega) hq e (br_t (nI_pos' (by omega)) ⟨vp_in_nI (by omega) (by decide), ?_⟩))⟩
  rw [nI_clamp (show o < 2 ^ 31 by omega)]; exact h
theorem jr_yer0 (hi : i < 96) (e : i = 0 ∨ ∃ j, i = j + 1 ∧ lk j = 1) {k : Int32} (ek : lk i = k) (h : wY_error_27 post (nI i) k (-1) vl ll nl fl rd nc lc fc gy ck st nk na nb lk la lb fr nv me po wk wa wb) : wpY_error post (vl, ll, nl, fl, rd, nc, lc, fc, gy, ck, st, nk, na, nb, lk, la, lb, fr, nv, me, po, wk, wa, wb) (nI i) :=
  ⟨vp_in_nI hi (by decide), nm_r (e' := k) (by rw [nI_clamp (by omega)]; exact ek) (jr_yow0 (by omega) e (br_f (by decide) h))⟩
theorem jr_y27_0o (h : post 0 (vl, ll, nl, fl, rd, nc, lc, fc, gy, ck, st, nk, na, nb, lk, la, lb, fr, nv, me, po, wk, wa, wb)) : wY_error_27 post (nI i) 0 (-1) vl ll nl fl rd nc lc fc gy ck st nk na nb lk la lb fr nv me po wk wa wb := br_t rfl (br_t rfl h)
theorem jr_y27_0i (hz : ¬ z = -1) (h : post 1 (vl, ll, nl, fl, rd, nc, lc, fc, gy, ck, st, nk, na, nb, lk, la, lb, fr, nv, me, po, wk, wa, wb)) : wY_error_27 post (nI i) 0 z vl ll nl fl rd nc lc fc gy ck st nk na nb lk la lb fr nv me po wk wa wb := br_t rfl (br_f hz h)
theorem jr_y27_o {k : Int32} (hk : ¬ k = 0) (h : post 2 (vl, ll, nl, fl, rd, nc, lc, fc, gy, ck, st, nk, na, nb, lk, la, lb, fr, nv, me, po, wk, wa, wb)) : wY_error_27 post (nI i) k (-1) vl ll nl fl rd nc lc fc gy ck st nk na nb lk la lb fr nv me po wk wa wb := br_f hk (br_t rfl h)
theorem jr_y27_10 (h : post 0 (vl, ll, nl, fl, rd, nc, lc, fc, gy, ck, st, nk, na, nb, lk, la, lb, fr, nv, me, po, wk, wa, wb)) : wY_error_27 post (nI i) 1 0 vl ll nl fl rd nc lc fc gy ck st nk na nb lk la lb fr nv me po wk wa wb :=
  br_f (by decide) (br_f (by decide) (br_t rfl (br_t rfl (br_f (by decide) (br_f (by decide) (br_f (by decide) (br_f (by decide) (br_f (by decide) (br_f (by decide) (br_f (by decide) (br_f (by decide) (br_f (by decide) (br_f (by decide) (h))))))))))))))
theorem jr_y27_11 (hz : ¬ z = -1) (h0 : ¬ z = 0) (h : post 3 (vl, ll, nl, fl, rd, nc, lc, fc, gy, ck, st, nk, na, nb, lk, la, lb, fr, nv, me, po, wk, wa, wb)) : wY_error_27 post (nI i) 1 z vl ll nl fl rd nc lc fc gy ck st nk na nb lk la lb fr nv me po wk wa wb :=
  br_f (by decide) (br_f hz (br_t rfl (br_f h0 h)))
theorem jr_y155 {x1 x2 : Int32} (a : ¬ x2 = 5) (b : ¬ x2 = 6) (c : ¬ x2 = 7) (h : post 0 (vl, ll, nl, fl, rd, nc, lc, fc, gy, ck, st, nk, na, nb, lk, la, lb, fr, nv, me, po, wk, wa, wb)) : wY_error_155 post x1 x2 vl ll nl fl rd nc lc fc gy ck st nk na nb lk la lb fr nv me po wk wa wb :=
  br_f a (br_f b (br_f c h))
theorem jr_y134 {n x y : Nat} {k : Int32} (hi : i < 96) (hn : n ≤ 32) (hx : x < 8) (hy : y < n) (H : jr_Nd n nk na nb nm) (ea : la i = nI x) (eb : lb i = nI y)
    (a : ¬ k = 5) (b : ¬ k = 6) (c : ¬ k = 7) (h : ∀ me', post (jr_sf nm x y) (vl, ll, nl, fl, rd, (nI n), lc, fc, gy, ck, st, nk, na, nb, lk, la, lb, fr, nv, me', po, wk, wa, wb)) : wY_error_134 post (nI i) k vl ll nl fl rd (nI n) lc fc gy ck st nk na nb lk la lb fr nv me po wk wa wb := by
  refine ⟨vp_in_nI hi (by decide), vp_in_nI hi (by decide), ?_⟩
  rw [nI_clamp (show i < 2 ^ 31 by omega), ea, eb]
  refine jr_yme hn hy hx H (fun me' => ?_)
  have h := h me'
  by_cases q : jr_mt nm x y = 0
  · have e1 : jr_sf nm x y = 0 := if_pos q
    rw [e1] at h
    exact br_t q (jr_y155 a b c h)
  · have e1 : jr_sf nm x y = 4 := if_neg q
    rw [e1] at h
    exact br_f q h
theorem jr_y27_u {n x y : Nat} {k : Int32} (hz : ¬ z = -1) (hi : i < 96) (hn : n ≤ 32) (hx : x < 8) (hy : y < n) (H : jr_Nd n nk na nb nm) (ea : la i = nI x) (eb : lb i = nI y)
    (e : k = 2 ∨ k = 3 ∨ k = 4) (h : ∀ me', post (jr_sf nm x y) (vl, ll, nl, fl, rd, (nI n), lc, fc, gy, ck, st, nk, na, nb, lk, la, lb, fr, nv, me', po, wk, wa, wb)) : wY_error_27 post (nI i) k z vl ll nl fl rd (nI n) lc fc gy ck st nk na nb lk la lb fr nv me po wk wa wb := by
  rcases e with rfl | rfl | rfl
  · exact br_f (by decide) (br_f hz (br_f (by decide) (br_f (by decide) (br_f (by decide) (br_f (by decide) (br_f (by decide) (br_t (by decide) (jr_y134 hi hn hx hy H ea eb (by decide) (by decide) (by decide) h))))))))
  · exact br_f (by decide) (br_f hz (br_f (by decide) (br_f (by decide) (br_f (by decide) (br_f (by decide) (br_f (by decide) (br_f (by decide) (br_t (by decide) (jr_y134 hi hn hx hy H ea eb (by decide) (by decide) (by decide) h)))))))))
  · exact br_f (by decide) (br_f hz (br_f (by decide) (br_f (by decide) (br_f (by decide) (br_f (by decide) (br_f (by decide) (br_f (by decide) (br_f (by decide) (br_t (by decide) (jr_y134 hi hn hx hy H ea eb (by decide) (by decide) (by decide) h))))))))))
theorem jr_y27_5 (hz : ¬ z = -1) (hi : i < 96) (h : post (jr_sw (la i) (lb i)) (vl, ll, nl, fl, rd, nc, lc, fc, gy, ck, st, nk, na, nb, lk, la, lb, fr, nv, me, po, wk, wa, wb)) : wY_error_27 post (nI i) 5 z vl ll nl fl rd nc lc fc gy ck st nk na nb lk la lb fr nv me po wk wa wb := by
  refine br_f (by decide) (br_f hz (br_f (by decide) (br_f (by decide) (br_f (by decide) (br_f (by decide) (br_f (by decide) (br_f (by decide) (br_f (by decide) (br_f (by decide) (br_t (by decide) (⟨vp_in_nI hi (by decide), vp_in_nI hi (by decide), ?_⟩)))))))))))
  rw [nI_clamp (show i < 2 ^ 31 by omega)]
  by_cases q : la i = lb i
  · have e1 : jr_sw (la i) (lb i) = 4 := if_pos q
    rw [e1] at h; exact br_t q h
  · have e1 : jr_sw (la i) (lb i) = 0 := if_neg q
    rw [e1] at h
    exact br_f q (br_f (by decide) (br_f (by decide) (h)))
theorem jr_y27_67 {k : Int32} (hz : ¬ z = -1) (hi : i < 96) (hN : N ≤ 96) (e : k = 6 ∨ k = 7) (h : post (jr_tt (la i) (nI (jr_cp lk N))) (vl, ll, nl, fl, rd, nc, (nI N), fc, gy, ck, st, nk, na, nb, lk, la, lb, fr, nv, me, po, wk, wa, wb)) :
    wY_error_27 post (nI i) k z vl ll nl fl rd nc (nI N) fc gy ck st nk na nb lk la lb fr nv me po wk wa wb := by
  have J : wY_error_189 post (nI i) vl ll nl fl rd nc (nI N) fc gy ck st nk na nb lk la lb fr nv me po wk wa wb := by
    unfold wY_error_189
    refine ⟨vp_in_nI hi (by decide), jr_ypr hN ?_⟩
    rw [nI_clamp (show i < 2 ^ 31 by omega)]
    by_cases q : la i < nI (jr_cp lk N)
    · have e1 : jr_tt (la i) (nI (jr_cp lk N)) = 0 := if_pos q
      rw [e1] at h; exact br_t q h
    · have e1 : jr_tt (la i) (nI (jr_cp lk N)) = 5 := if_neg q
      rw [e1] at h; exact br_f q h
  rcases e with rfl | rfl
  · exact br_f (by decide) (br_f hz (br_f (by decide) (br_f (by decide) (br_f (by decide) (br_f (by decide) (br_f (by decide) (br_f (by decide) (br_f (by decide) (br_f (by decide) (br_f (by decide) (br_t (by decide) (J))))))))))))
  · exact br_f (by decide) (br_f hz (br_f (by decide) (br_f (by decide) (br_f (by decide) (br_f (by decide) (br_f (by decide) (br_f (by decide) (br_f (by decide) (br_f (by decide) (br_f (by decide) (br_f (by decide) (br_t (by decide) (J)))))))))))))
theorem jr_y27_811 {k : Int32} (hz : ¬ z = -1) (e : k = 8 ∨ k = 11) (h : post 0 (vl, ll, nl, fl, rd, nc, lc, fc, gy, ck, st, nk, na, nb, lk, la, lb, fr, nv, me, po, wk, wa, wb)) : wY_error_27 post (nI i) k z vl ll nl fl rd nc lc fc gy ck st nk na nb lk la lb fr nv me po wk wa wb := by
  rcases e with rfl | rfl
  · exact br_f (by decide) (br_f hz (br_f (by decide) (br_f (by decide) (br_f (by decide) (br_f (by decide) (br_f (by decide) (br_f (by decide) (br_f (by decide) (br_f (by decide) (br_f (by decide) (br_f (by decide) (br_f (by decide) (h)))))))))))))
  · exact br_f (by decide) (br_f hz (br_f (by decide) (br_f (by decide) (br_f (by decide) (br_f (by decide) (br_f (by decide) (br_f (by decide) (br_f (by decide) (br_f (by decide) (br_f (by decide) (br_f (by decide) (br_f (by decide) (h)))))))))))))
theorem jr_y27_9 (hz : z = 8) (h : post 0 (vl, ll, nl, fl, rd, nc, lc, fc, gy, ck, st, nk, na, nb, lk, la, lb, fr, nv, me, po, wk, wa, wb)) : wY_error_27 post (nI i) 9 z vl ll nl fl rd nc lc fc gy ck st nk na nb lk la lb fr nv me po wk wa wb := by
  subst hz; exact br_f (by decide) (br_f (by decide) (br_f (by decide) (br_t (by decide) (br_t rfl (br_f (by decide) (br_f (by decide) (br_f (by decide) (br_f (by decide) (br_f (by decide) (br_f (by decide) (br_f (by decide) (br_f (by decide) (br_f (by decide) (h))))))))))))))
theorem jr_y27_9e (hz : ¬ z = -1) (h8 : ¬ z = 8) (h : post 3 (vl, ll, nl, fl, rd, nc, lc, fc, gy, ck, st, nk, na, nb, lk, la, lb, fr, nv, me, po, wk, wa, wb)) : wY_error_27 post (nI i) 9 z vl ll nl fl rd nc lc fc gy ck st nk na nb lk la lb fr nv me po wk wa wb :=
  br_f (by decide) (br_f hz (br_f (by decide) (br_t (by decide) (br_f h8 h))))
theorem jr_y27_c10 (hz : z = 9) (h : post 0 (vl, ll, nl, fl, rd, nc, lc, fc, gy, ck, st, nk, na, nb, lk, la, lb, fr, nv, me, po, wk, wa, wb)) : wY_error_27 post (nI i) 10 z vl ll nl fl rd nc lc fc gy ck st nk na nb lk la lb fr nv me po wk wa wb := by
  subst hz; exact br_f (by decide) (br_f (by decide) (br_f (by decide) (br_f (by decide) (br_t (by decide) (br_t rfl (br_f (by decide) (br_f (by decide) (br_f (by decide) (br_f (by decide) (br_f (by decide) (br_f (by decide) (br_f (by decide) (br_f (by decide) (h))))))))))))))
theorem jr_y27_c10e (hz : ¬ z = -1) (h8 : ¬ z = 9) (h : post 3 (vl, ll, nl, fl, rd, nc, lc, fc, gy, ck, st, nk, na, nb, lk, la, lb, fr, nv, me, po, wk, wa, wb)) : wY_error_27 post (nI i) 10 z vl ll nl fl rd nc lc fc gy ck st nk na nb lk la lb fr nv me po wk wa wb :=
  br_f (by decide) (br_f hz (br_f (by decide) (br_f (by decide) (br_t (by decide) (br_f h8 h)))))
theorem jr_y27_12 (hz : z = 11) (h : post 0 (vl, ll, nl, fl, rd, nc, lc, fc, gy, ck, st, nk, na, nb, lk, la, lb, fr, nv, me, po, wk, wa, wb)) : wY_error_27 post (nI i) 12 z vl ll nl fl rd nc lc fc gy ck st nk na nb lk la lb fr nv me po wk wa wb := by
  subst hz; exact br_f (by decide) (br_f (by decide) (br_f (by decide) (br_f (by decide) (br_f (by decide) (br_t (by decide) (br_t rfl (br_f (by decide) (br_f (by decide) (br_f (by decide) (br_f (by decide) (br_f (by decide) (br_f (by decide) (br_f (by decide) (h))))))))))))))
theorem jr_y27_12e (hz : ¬ z = -1) (h8 : ¬ z = 11) (h : post 3 (vl, ll, nl, fl, rd, nc, lc, fc, gy, ck, st, nk, na, nb, lk, la, lb, fr, nv, me, po, wk, wa, wb)) : wY_error_27 post (nI i) 12 z vl ll nl fl rd nc lc fc gy ck st nk na nb lk la lb fr nv me po wk wa wb :=
  br_f (by decide) (br_f hz (br_f (by decide) (br_f (by decide) (br_f (by decide) (br_t (by decide) (br_f h8 h))))))
theorem jr_y27_c13 (hz : z = 12) (h : post 0 (vl, ll, nl, fl, rd, nc, lc, fc, gy, ck, st, nk, na, nb, lk, la, lb, fr, nv, me, po, wk, wa, wb)) : wY_error_27 post (nI i) 13 z vl ll nl fl rd nc lc fc gy ck st nk na nb lk la lb fr nv me po wk wa wb := by
  subst hz; exact br_f (by decide) (br_f (by decide) (br_f (by decide) (br_f (by decide) (br_f (by decide) (br_f (by decide) (br_t (by decide) (br_t rfl (br_f (by decide) (br_f (by decide) (br_f (by decide) (br_f (by decide) (br_f (by decide) (br_f (by decide) (h))))))))))))))
theorem jr_y27_c13e (hz : ¬ z = -1) (h8 : ¬ z = 12) (h : post 3 (vl, ll, nl, fl, rd, nc, lc, fc, gy, ck, st, nk, na, nb, lk, la, lb, fr, nv, me, po, wk, wa, wb)) : wY_error_27 post (nI i) 13 z vl ll nl fl rd nc lc fc gy ck st nk na nb lk la lb fr nv me po wk wa wb :=
  br_f (by decide) (br_f hz (br_f (by decide) (br_f (by decide) (br_f (by decide) (br_f (by decide) (br_t (by decide) (br_f h8 h)))))))
end JRF3
end
section
section JRG
variable {vl ll nl fl nc lc pc oc rd gp fc se ck pl pg pm gy : Int32} {st nk na nb nm nv lk la lb ho mo tl ph pt oi tg sm wk wa wb fr me po : Nat → Int32}
def jr_x2 (k x : Int32) : Int32 := if k = 0 then 1 else if k = 1 then 0 else x
theorem jr_x2z {k x : Int32} (e : k = 0) : jr_x2 k x = 1 := if_pos e
theorem jr_x2e {k x : Int32} (e : k = 1) : jr_x2 k x = 0 := by
  unfold jr_x2; rw [if_neg (by rw [e]; decide), if_pos e]
theorem jr_x2o {k x : Int32} (a : ¬ k = 0) (b : ¬ k = 1) : jr_x2 k x = x := by
  unfold jr_x2; rw [if_neg a, if_neg b]
theorem jr_sf01 (x y : Nat) : ∃ m, m < 6 ∧ jr_sf nm x y = nI m := by
  by_cases q : jr_mt nm x y = 0
  · exact ⟨0, by decide, if_pos q⟩
  · exact ⟨4, by decide, if_neg q⟩
theorem jr_sw01 (a b : Int32) : ∃ m, m < 6 ∧ jr_sw a b = nI m := by
  by_cases q : a = b
  · exact ⟨4, by decide, if_pos q⟩
  · exact ⟨0, by decide, if_neg q⟩
theorem jr_tt01 (a b : Int32) : ∃ m, m < 6 ∧ jr_tt a b = nI m := by
  by_cases q : a < b
  · exact ⟨0, by decide, if_pos q⟩
  · exact ⟨5, by decide, if_neg q⟩
theorem jr_own1 {k : Int32} (h : jr_Own k) : ¬ k = -1 := by
  rcases h with rfl | (rfl | rfl) | (rfl | rfl) <;> decide
theorem jr_ln {N i c n : Nat} {x : Int32} (hN : N ≤ 96) (hi : i < N) (hn : n ≤ 32) (HN : jr_Nd n nk na nb nm) (HL : jr_Li N n lk la lb) (CI : jr_CI lk oi i x c) :
    ∃ (r : Int32) (c' : Nat) (oi' : Nat → Int32), (∃ m, m < 6 ∧ r = nI m) ∧
      (∀ post : Int32 → SX → Prop, post r (vl, ll, nl, fl, (nI n), (nI N), pc, (nI c'), rd, gp, fc, se, ck, pl, pg, pm, st, nk, na, nb, nm, nv, lk, la, lb, ho, mo, tl, ph, pt, oi', tg, sm, wk, wa, wb, fr) → wpX_lineError post (vl, ll, nl, fl, (nI n), (nI N), pc, (nI c), rd, gp, fc, se, ck, pl, pg, pm, st, nk, na, nb, nm, nv, lk, la, lb, ho, mo, tl, ph, pt, oi, tg, sm, wk, wa, wb, fr) (nI i) x (nI (jr_cp lk N))) ∧
      (∀ (post : Int32 → SY → Prop) (me : Nat → Int32), (∀ me', post r (vl, ll, nl, fl, rd, (nI n), (nI N), fc, gy, ck, st, nk, na, nb, lk, la, lb, fr, nv, me', po, wk, wa, wb)) → wpY_error post (vl, ll, nl, fl, rd, (nI n), (nI N), fc, gy, ck, st, nk, na, nb, lk, la, lb, fr, nv, me, po, wk, wa, wb) (nI i)) ∧
      (r = 0 → jr_CI lk oi' (i + 1) (jr_x2 (lk i) x) c' ∧ ((lk i = 6 ∨ lk i = 7) → ∃ a, a < jr_cp lk N ∧ la i = nI a)) := by
  have h96 : i < 96 := by omega
  rcases CI with ⟨rfl, rfl, pg⟩ | ⟨rfl, ch⟩
  · have e0 : i = 0 ∨ ∃ j, i = j + 1 ∧ lk j = 1 := (jr_pgla pg).imp (fun z => z.symm) (fun z => z)
    by_cases k : lk i = 0
    · exact ⟨0, 0, oi, ⟨0, by decide, rfl⟩, fun post h => jr_xle_0o h96 k h, fun post me h => jr_yer0 h96 e0 k (jr_y27_0o (h me)),
        fun _ => ⟨Or.inr ⟨jr_x2z k, ⟨i, pg, k, jr_sq0 _⟩⟩, fun z => absurd k (by rcases z with z | z <;> rw [z] <;> decide)⟩⟩
    · exact ⟨2, 0, oi, ⟨2, by decide, rfl⟩, fun post h => jr_xle_o h96 k h, fun post me h => jr_yer0 h96 e0 rfl (jr_y27_o k (h me)),
        fun z => absurd z (by decide)⟩
  · obtain ⟨o, ho, hq, own, tp⟩ := jr_chtp ch
    have hz := jr_own1 own
    have hc : c < 96 := by have := jr_chle c i ch; omega
    have n67 : ∀ {k : Int32}, lk i = k → ¬ k = 6 → ¬ k = 7 → ((lk i = 6 ∨ lk i = 7) → ∃ a, a < jr_cp lk N ∧ la i = nI a) := by
      intro k e a b z
      rw [e] at z
      exact absurd z (fun z => z.elim a b)
    have L := HL i hi
    have stay : ∀ {k : Int32}, lk i = k → jr_Smp k → jr_CI lk oi (i + 1) (jr_x2 (lk i) 1) c := by
      intro k e s
      subst e
      exact Or.inr ⟨jr_x2o (jr_smf s).1 (jr_smf s).2.1, jr_chap ch (jr_sq1 s (jr_sq0 _))⟩
    rcases L.1 with k | k | k | k | k | k | k | k | k | k | k | k | k | k
    · exact ⟨1, c, oi, ⟨1, by decide, rfl⟩, fun post h => jr_xle_0i h96 k h, fun post me h => jr_yer1 h96 ho hq own k (jr_y27_0i hz (h me)), fun z => absurd z (by decide)⟩
    · rcases tp with ⟨rfl, z0⟩ | ⟨d, rfl, od, kd⟩
      · exact ⟨0, 0, oi, ⟨0, by decide, rfl⟩, fun post h => jr_xle_10 h96 k h, fun post me h => jr_yer1 h96 ho hq own k (by rw [z0]; exact jr_y27_10 (h me)),
          fun _ => ⟨Or.inl ⟨jr_x2e k, rfl, jr_che ch k⟩, n67 k (by decide) (by decide)⟩⟩
      · have k0 : ¬ lk o = 0 := by rcases kd with (e | e) | (e | e) <;> rw [e] <;> decide
        exact ⟨3, d + 1, oi, ⟨3, by decide, rfl⟩, fun post h => jr_xle_11 h96 (by omega) k h, fun post me h => jr_yer1 h96 ho hq own k (jr_y27_11 hz k0 (h me)), fun z => absurd z (by decide)⟩
    · obtain ⟨x, y, hx, hy, ea, eb⟩ := L.2.1 (Or.inl k)
      exact ⟨jr_sf nm x y, c, oi, jr_sf01 x y, fun post h => jr_xle_u h96 hx (by omega) ea eb (Or.inl k) h,
        fun post me h => jr_yer1 h96 ho hq own k (jr_y27_u hz h96 hn hx hy HN ea eb (Or.inl rfl) h), fun _ => ⟨stay k (Or.inl rfl), n67 k (by decide) (by decide)⟩⟩
    · obtain ⟨x, y, hx, hy, ea, eb⟩ := L.2.1 (Or.inr (Or.inl k))
      exact ⟨jr_sf nm x y, c, oi, jr_sf01 x y, fun post h => jr_xle_u h96 hx (by omega) ea eb (Or.inr (Or.inl k)) h,
        fun post me h => jr_yer1 h96 ho hq own k (jr_y27_u hz h96 hn hx hy HN ea eb (Or.inr (Or.inl rfl)) h), fun _ => ⟨stay k (Or.inr (Or.inl rfl)), n67 k (by decide) (by decide)⟩⟩
    · obtain ⟨x, y, hx, hy, ea, eb⟩ := L.2.1 (Or.inr (Or.inr k))
      exact ⟨jr_sf nm x y, c, oi, jr_sf01 x y, fun post h => jr_xle_u h96 hx (by omega) ea eb (Or.inr (Or.inr k)) h,
        fun post me h => jr_yer1 h96 ho hq own k (jr_y27_u hz h96 hn hx hy HN ea eb (Or.inr (Or.inr rfl)) h), fun _ => ⟨stay k (Or.inr (Or.inr (Or.inl rfl))), n67 k (by decide) (by decide)⟩⟩
    · exact ⟨jr_sw (la i) (lb i), c, oi, jr_sw01 _ _, fun post h => jr_xle_5 h96 k h,
        fun post me h => jr_yer1 h96 ho hq own k (jr_y27_5 hz h96 (h me)), fun _ => ⟨stay k (Or.inr (Or.inr (Or.inr (Or.inl rfl)))), n67 k (by decide) (by decide)⟩⟩
    · have T : jr_tt (la i) (nI (jr_cp lk N)) = 0 → ∃ a, a < jr_cp lk N ∧ la i = nI a := by
        intro z
        obtain ⟨a, ha, ea⟩ := L.2.2.2 (Or.inl k)
        have b2 := jr_cple (K := lk) N
        by_cases q : la i < nI (jr_cp lk N)
        · rw [ea, nI_ltI (by omega) (by omega)] at q
          exact ⟨a, q, ea⟩
        · have e1 : jr_tt (la i) (nI (jr_cp lk N)) = 5 := if_neg q
          rw [e1] at z; exact absurd z (by decide)
      exact ⟨jr_tt (la i) (nI (jr_cp lk N)), c, oi, jr_tt01 _ _, fun post h => jr_xle_67 h96 (Or.inl k) h,
        fun post me h => jr_yer1 h96 ho hq own k (jr_y27_67 hz h96 hN (Or.inl rfl) (h me)), fun z => ⟨stay k (Or.inr (Or.inr (Or.inr (Or.inr (Or.inl rfl))))), fun _ => T z⟩⟩
    · have T : jr_tt (la i) (nI (jr_cp lk N)) = 0 → ∃ a, a < jr_cp lk N ∧ la i = nI a := by
        intro z
        obtain ⟨a, ha, ea⟩ := L.2.2.2 (Or.inr k)
        have b2 := jr_cple (K := lk) N
        by_cases q : la i < nI (jr_cp lk N)
        · rw [ea, nI_ltI (by omega) (by omega)] at q
          exact ⟨a, q, ea⟩
        · have e1 : jr_tt (la i) (nI (jr_cp lk N)) = 5 := if_neg q
          rw [e1] at z; exact absurd z (by decide)
      exact ⟨jr_tt (la i) (nI (jr_cp lk N)), c, oi, jr_tt01 _ _, fun post h => jr_xle_67 h96 (Or.inr k) h,
        fun post me h => jr_yer1 h96 ho hq own k (jr_y27_67 hz h96 hN (Or.inr rfl) (h me)), fun z => ⟨stay k (Or.inr (Or.inr (Or.inr (Or.inr (Or.inr rfl))))), fun _ => T z⟩⟩
    · exact ⟨0, c + 1, upd oi c (lk i), ⟨0, by decide, rfl⟩, fun post h => jr_xle_811 h96 hc (Or.inl k) h,
        fun post me h => jr_yer1 h96 ho hq own k (jr_y27_811 hz (Or.inl rfl) (h me)),
        fun _ => ⟨Or.inr ⟨jr_x2o (by rw [k]; decide) (by rw [k]; decide), jr_cho ch (Or.inl k)⟩, n67 k (by decide) (by decide)⟩⟩
    · rcases tp with ⟨rfl, z0⟩ | ⟨d, rfl, od, kd⟩
      · exact ⟨3, 0, oi, ⟨3, by decide, rfl⟩, fun post h => jr_xle_9 h96 k (jr_xadz h), fun post me h => jr_yer1 h96 ho hq own k (jr_y27_9e hz (by rw [z0]; decide) (h me)), fun z => absurd z (by decide)⟩
      · by_cases q : oi d = 8
        · exact ⟨0, d + 1, upd oi d 9, ⟨0, by decide, rfl⟩, fun post h => jr_xle_9 h96 k (jr_xad1 (by omega) q h),
            fun post me h => jr_yer1 h96 ho hq own k (jr_y27_9 (od.symm.trans q) (h me)),
            fun _ => ⟨Or.inr ⟨jr_x2o (by rw [k]; decide) (by rw [k]; decide), by have A := jr_chm ch (Or.inl ⟨q, k⟩); rw [k] at A; exact A⟩, n67 k (by decide) (by decide)⟩⟩
        · exact ⟨3, d + 1, oi, ⟨3, by decide, rfl⟩, fun post h => jr_xle_9 h96 k (jr_xad0 (by omega) q h),
            fun post me h => jr_yer1 h96 ho hq own k (jr_y27_9e hz (by rw [← od]; exact q) (h me)), fun z => absurd z (by decide)⟩
    · rcases tp with ⟨rfl, z0⟩ | ⟨d, rfl, od, kd⟩
      · exact ⟨3, 0, oi, ⟨3, by decide, rfl⟩, fun post h => jr_xle_c10 h96 k (jr_xcoz h), fun post me h => jr_yer1 h96 ho hq own k (jr_y27_c10e hz (by rw [z0]; decide) (h me)), fun z => absurd z (by decide)⟩
      · by_cases q : oi d = 9
        · exact ⟨0, d, oi, ⟨0, by decide, rfl⟩, fun post h => jr_xle_c10 h96 k (jr_xco1 (by omega) q h),
            fun post me h => jr_yer1 h96 ho hq own k (jr_y27_c10 (od.symm.trans q) (h me)),
            fun _ => ⟨Or.inr ⟨jr_x2o (by rw [k]; decide) (by rw [k]; decide), jr_chc ch (Or.inl ⟨q, k⟩)⟩, n67 k (by decide) (by decide)⟩⟩
        · exact ⟨3, d + 1, oi, ⟨3, by decide, rfl⟩, fun post h => jr_xle_c10 h96 k (jr_xco0 (by omega) q h),
            fun post me h => jr_yer1 h96 ho hq own k (jr_y27_c10e hz (by rw [← od]; exact q) (h me)), fun z => absurd z (by decide)⟩
    · exact ⟨0, c + 1, upd oi c (lk i), ⟨0, by decide, rfl⟩, fun post h => jr_xle_811 h96 hc (Or.inr k) h,
        fun post me h => jr_yer1 h96 ho hq own k (jr_y27_811 hz (Or.inr rfl) (h me)),
        fun _ => ⟨Or.inr ⟨jr_x2o (by rw [k]; decide) (by rw [k]; decide), jr_cho ch (Or.inr k)⟩, n67 k (by decide) (by decide)⟩⟩
    · rcases tp with ⟨rfl, z0⟩ | ⟨d, rfl, od, kd⟩
      · exact ⟨3, 0, oi, ⟨3, by decide, rfl⟩, fun post h => jr_xle_12 h96 k (jr_xadz h), fun post me h => jr_yer1 h96 ho hq own k (jr_y27_12e hz (by rw [z0]; decide) (h me)), fun z => absurd z (by decide)⟩
      · by_cases q : oi d = 11
        · exact ⟨0, d + 1, upd oi d 12, ⟨0, by decide, rfl⟩, fun post h => jr_xle_12 h96 k (jr_xad1 (by omega) q h),
            fun post me h => jr_yer1 h96 ho hq own k (jr_y27_12 (od.symm.trans q) (h me)),
            fun _ => ⟨Or.inr ⟨jr_x2o (by rw [k]; decide) (by rw [k]; decide), by have A := jr_chm ch (Or.inr ⟨q, k⟩); rw [k] at A; exact A⟩, n67 k (by decide) (by decide)⟩⟩
        · exact ⟨3, d + 1, oi, ⟨3, by decide, rfl⟩, fun post h => jr_xle_12 h96 k (jr_xad0 (by omega) q h),
            fun post me h => jr_yer1 h96 ho hq own k (jr_y27_12e hz (by rw [← od]; exact q) (h me)), fun z => absurd z (by decide)⟩
    · rcases tp with ⟨rfl, z0⟩ | ⟨d, rfl, od, kd⟩
      · exact ⟨3, 0, oi, ⟨3, by decide, rfl⟩, fun post h => jr_xle_c13 h96 k (jr_xcoz h), fun post me h => jr_yer1 h96 ho hq own k (jr_y27_c13e hz (by rw [z0]; decide) (h me)), fun z => absurd z (by decide)⟩
      · by_cases q : oi d = 12
        · exact ⟨0, d, oi, ⟨0, by decide, rfl⟩, fun post h => jr_xle_c13 h96 k (jr_xco1 (by omega) q h),
            fun post me h => jr_yer1 h96 ho hq own k (jr_y27_c13 (od.symm.trans q) (h me)),
            fun _ => ⟨Or.inr ⟨jr_x2o (by rw [k]; decide) (by rw [k]; decide), jr_chc ch (Or.inr ⟨q, k⟩)⟩, n67 k (by decide) (by decide)⟩⟩
        · exact ⟨3, d + 1, oi, ⟨3, by decide, rfl⟩, fun post h => jr_xle_c13 h96 k (jr_xco0 (by omega) q h),
            fun post me h => jr_yer1 h96 ho hq own k (jr_y27_c13e hz (by rw [← od]; exact q) (h me)), fun z => absurd z (by decide)⟩
end JRG
section JRG2
variable {vl ll nl fl nc lc pc oc rd gp fc se ck pl pg pm gy : Int32} {st nk na nb nm nv lk la lb ho mo tl ph pt oi tg sm wk wa wb fr me po : Nat → Int32}
theorem jr_16 (i m : Nat) : (16 : Int32) * nI i + nI m = nI (16 * i + m) := by
  have e : (16 : Int32) * nI i = nI (16 * i) := (Int32.ofNat_mul 16 i).symm
  rw [e, nI_add]
theorem jr_xpr {post : Int32 → Prop} {N : Nat} (hN : N ≤ 96) (h : post (nI (jr_cp lk N))) : wpX_countProcs post (vl, ll, nl, fl, nc, (nI N), pc, oc, rd, gp, fc, se, ck, pl, pg, pm, st, nk, na, nb, nm, nv, lk, la, lb, ho, mo, tl, ph, pt, oi, tg, sm, wk, wa, wb, fr) := by
  have A : ∀ d i, i + d = N → wX_countProcs_4 post vl ll nl fl nc (nI N) pc oc rd gp fc se ck pl pg pm st nk na nb nm nv lk la lb ho mo tl ph pt oi tg sm wk wa wb fr (d + 1) (nI (jr_cp lk i)) (nI i) := by
    intro d
    induction d with
    | zero =>
      intro i e
      have e : i = N := by omega
      subst e
      exact br_t (nI_le (by omega) (by omega)) h
    | succ d ih =>
      intro i e
      refine br_f (nI_ge (by omega) (by omega)) ⟨vp_in_nI (by omega) (by omega), ?_⟩
      rw [nI_clamp (by omega)]
      have z := ih (i + 1) (by omega)
      by_cases c : lk i = 0
      · rw [jr_cp1 c] at z
        exact br_t c (nm_r (nI_1 _) (nm_r (nI_1 _) z))
      · rw [jr_cp0 c] at z
        exact br_f c (nm_r (nI_1 _) z)
  exact ⟨_, A N 0 (by omega)⟩
/-- Y from line i on: an error, or the end -/
def jr_Yend (N : Nat) (lk : Nat → Int32) (r : Int32) (A B : Prop) : Prop := (¬ r = 0 ∧ A) ∨ (r = 0 ∧ B)
theorem jr_ck {N n : Nat} (hN : N ≤ 96) (hn : n ≤ 32) (HN : jr_Nd n nk na nb nm) (HL : jr_Li N n lk la lb) :
    ∀ (d i c : Nat) (oi : Nat → Int32) (x : Int32), i + d = N → jr_CI lk oi i x c → jr_Ct lk la N i →
    ∃ (r : Int32) (c' : Nat) (oi' : Nat → Int32),
      (∀ post : Int32 → SX → Prop, post r (vl, ll, nl, fl, (nI n), (nI N), pc, (nI c'), rd, gp, fc, se, ck, pl, pg, pm, st, nk, na, nb, nm, nv, lk, la, lb, ho, mo, tl, ph, pt, oi', tg, sm, wk, wa, wb, fr) → wX_check_14 post (nI (jr_cp lk N)) (d + 1) x (nI i) vl ll nl fl (nI n) (nI N) pc (nI c) rd gp fc se ck pl pg pm st nk na nb nm nv lk la lb ho mo tl ph pt oi tg sm wk wa wb fr) ∧
      jr_Yend N lk r (∀ (post : Int32 → SY → Prop) (me : Nat → Int32), (∀ me', post r (vl, ll, nl, fl, rd, (nI n), (nI N), fc, gy, ck, st, nk, na, nb, lk, la, lb, fr, nv, me', po, wk, wa, wb)) → wY_compile_11 post (d + 1) (nI i) vl ll nl fl rd (nI n) (nI N) fc gy ck st nk na nb lk la lb fr nv me po wk wa wb)
        ((jr_Pg lk jr_T3 0 N ∧ 0 < N ∧ jr_Ct lk la N N) ∧ ∀ i0, i0 < N → lk i0 = 0 → jr_cp lk i0 = 0 → ∀ (post : Int32 → SY → Prop) (me : Nat → Int32),
          (∀ me', post 0 (vl, ll, nl, fl, 1, (nI n), (nI N), 0, (nI (i0 + 1)), 0, st, nk, na, nb, lk, la, lb, fr, nv, me', po, wk, wa, wb)) → wY_compile_11 post (d + 1) (nI i) vl ll nl fl rd (nI n) (nI N) fc gy ck st nk na nb lk la lb fr nv me po wk wa wb) := by
  intro d
  induction d with
  | zero =>
    intro i c oi x e CI CT
    have e : i = N := by omega
    subst e
    have q16 : ¬ (16 : Int32) * nI i + 6 = 0 := by
      have := jr_16 i 6
      rw [show (nI 6 : Int32) = 6 from rfl] at this
      rw [this]
      exact nI_ne0 (by omega) (by omega)
    have le : nI i ≤ nI i := nI_le (Nat.le_refl i) (by omega)
    rcases CI with ⟨rfl, rfl, pg⟩ | ⟨rfl, ch⟩
    · by_cases z : i = 0
      · have z' : nI i = 0 := by rw [z]; rfl
        exact ⟨16 * nI i + 6, 0, oi, fun post h => br_t le (br_t rfl (br_t z' h)), Or.inl ⟨q16, fun post me h => br_t le (br_t z' (h me))⟩⟩
      · have z' : ¬ nI i = 0 := nI_ne0 (by omega) (by omega)
        have e0 : i = 0 ∨ ∃ j, i = j + 1 ∧ lk j = 1 := (jr_pgla pg).imp (fun z => z.symm) (fun z => z)
        refine ⟨0, 0, oi, fun post h => br_t le (br_t rfl (br_f z' h)), Or.inr ⟨rfl, ⟨pg, by omega, CT⟩, fun i0 h0 k0 c0 post me h => br_t le (br_f z' (jr_yow0 hN e0 (br_t rfl ?_)))⟩⟩
        refine br_f (by decide) (br_t rfl ?_)
        unfold wY_place_21
        exact br_t rfl (jr_yfg (p := 0) hN h0 k0 c0 (h me))
    · obtain ⟨o, ho, hq, own, tp⟩ := jr_chtp ch
      have z' : ¬ nI i = 0 := nI_ne0 (by omega) (by omega)
      exact ⟨16 * nI i + 6, c, oi, fun post h => br_t le (br_f (by decide) h), Or.inl ⟨q16, fun post me h => br_t le (br_f z' (jr_yow hN hq own (br_f (jr_nm1 (by omega)) (h me))))⟩⟩
  | succ d ih =>
    intro i c oi x e CI CT
    have ge : ¬ nI N ≤ nI i := nI_ge (by omega) (by omega)
    have cl : (nI i).toNatClampNeg = i := nI_clamp (by omega)
    have vi : vp_in (nI i) 96 := vp_in_nI (by omega) (by decide)
    obtain ⟨r, c1, oi1, ⟨m, hm, rm⟩, hX, hY, hO⟩ := jr_ln (i := i) (x := x) (gy := gy) (po := po) (nv := nv) (vl := vl) (ll := ll) (nl := nl) (fl := fl) (pc := pc) (rd := rd) (gp := gp) (fc := fc) (se := se) (ck := ck) (pl := pl) (pg := pg) (pm := pm) (st := st) (ho := ho) (mo := mo) (tl := tl) (ph := ph) (pt := pt) (tg := tg) (sm := sm) (wk := wk) (wa := wa) (wb := wb) (fr := fr) hN (by omega) hn HN HL CI
    by_cases z : r = 0
    · obtain ⟨CI1, T1⟩ := hO z
      subst z
      have CT1 : jr_Ct lk la N (i + 1) := by
        intro j hj kj
        by_cases ej : j = i
        · subst ej; exact T1 kj
        · exact CT j (by omega) kj
      obtain ⟨r2, c2, oi2, gX, gY⟩ := ih (i + 1) c1 oi1 (jr_x2 (lk i) x) (by omega) CI1 CT1
      refine ⟨r2, c2, oi2, fun post h => br_f ge (hX _ (br_t rfl ⟨vi, ?_⟩)), ?_⟩
      · have G := gX post h
        rw [cl]
        by_cases k0 : lk i = 0
        · rw [jr_x2z k0] at G
          exact br_t k0 (nm_r (nI_1 i) G)
        · refine br_f k0 ⟨vi, ?_⟩
          by_cases k1 : lk i = 1
          · rw [jr_x2e k1] at G
            exact br_t k1 (nm_r (nI_1 i) G)
          · rw [jr_x2o k0 k1] at G
            exact br_f k1 (nm_r (nI_1 i) G)
      · rcases gY with ⟨a, b⟩ | ⟨a, ab, b⟩
        · exact Or.inl ⟨a, fun post me h => br_f ge (hY _ me (fun me' => br_t rfl (nm_r (nI_1 i) (b post me' h))))⟩
        · exact Or.inr ⟨a, ab, fun i0 h0 k0 c0 post me h => br_f ge (hY _ me (fun me' => br_t rfl (nm_r (nI_1 i) (b i0 h0 k0 c0 post me' h))))⟩
    · refine ⟨16 * nI i + r, c1, oi1, fun post h => br_f ge (hX _ (br_f z h)), Or.inl ⟨?_, fun post me h => br_f ge (hY _ me (fun me' => br_f z (h me')))⟩⟩
      rw [rm, jr_16]
      have : ¬ m = 0 := fun q => z (by rw [rm, q]; rfl)
      exact nI_ne0 (by omega) (by omega)
theorem jr_cmp {N n : Nat} (hN : N ≤ 96) (hn : n ≤ 32) (HN : jr_Nd n nk na nb nm) (HL : jr_Li N n lk la lb) {Q : SX → SY → Prop}
    (h1 : ∀ (c : Nat) (oi me : Nat → Int32), Q (vl, ll, nl, fl, (nI n), (nI N), pc, (nI c), 0, gp, fc, se, ck, pl, pg, pm, st, nk, na, nb, nm, nv, lk, la, lb, ho, mo, tl, ph, pt, oi, tg, sm, wk, wa, wb, fr) (vl, ll, nl, fl, 0, (nI n), (nI N), fc, gy, ck, st, nk, na, nb, lk, la, lb, fr, nv, me, po, wk, wa, wb))
    (h2 : ∀ (oi ho mo tl ph pt me : Nat → Int32) (i0 : Nat), 0 < N → jr_Ct lk la N N → jr_Pg lk (jr_Lk ho mo tl) 0 N → (∀ p, p < jr_cp lk N → jr_Pt lk jr_T3 N ph pt p) →
      Q (vl, ll, nl, fl, (nI n), (nI N), (nI (jr_cp lk N)), (nI 0), 1, (nI (i0 + 1)), 0, 1, 0, pl, pg, pm, st, nk, na, nb, nm, nv, lk, la, lb, ho, mo, tl, ph, pt, oi, tg, sm, wk, wa, wb, fr) (vl, ll, nl, fl, 1, (nI n), (nI N), 0, (nI (i0 + 1)), 0, st, nk, na, nb, lk, la, lb, fr, nv, me, po, wk, wa, wb)) :
    wpX_compile (fun r u' => wpY_compile (fun r' v' => r' = r ∧ Q u' v') (vl, ll, nl, fl, 0, (nI n), (nI N), fc, gy, ck, st, nk, na, nb, lk, la, lb, fr, nv, me, po, wk, wa, wb)) (vl, ll, nl, fl, (nI n), (nI N), pc, oc, 0, gp, fc, se, ck, pl, pg, pm, st, nk, na, nb, nm, nv, lk, la, lb, ho, mo, tl, ph, pt, oi, tg, sm, wk, wa, wb, fr) := by
  obtain ⟨r, c, oi1, hX, hY⟩ := jr_ck (nk := nk) (na := na) (nb := nb) (nm := nm) (lk := lk) (la := la) (lb := lb) (gy := gy) (po := po) (nv := nv) (vl := vl) (ll := ll) (nl := nl) (fl := fl) (pc := pc) (rd := 0) (gp := gp) (fc := fc) (se := se) (ck := ck) (pl := pl) (pg := pg) (pm := pm) (st := st) (ho := ho) (mo := mo) (tl := tl) (ph := ph) (pt := pt) (tg := tg) (sm := sm) (wk := wk) (wa := wa) (wb := wb) (fr := fr) hN hn HN HL N 0 0 oi 0 (by omega) (Or.inl ⟨rfl, rfl, jr_pg0 0⟩) (fun j hj => absurd hj (Nat.not_lt_zero j))
  refine br_t rfl ?_
  unfold wpX_check
  refine jr_xpr hN ⟨N + 1, hX _ ?_⟩
  rcases hY with ⟨z, hY⟩ | ⟨z, ⟨pg0, hp, ct⟩, hY⟩
  · exact br_f z (br_t rfl ⟨N + 1, hY _ me (fun me' => ⟨rfl, h1 c oi1 me'⟩)⟩)
  · refine br_t z (jr_xlk hN pg0 (fun oi' ho' mo' tl' ph' pt' pg1 tab => ?_))
    have hc : 0 < jr_cp lk N := by
      obtain ⟨d, hd⟩ : ∃ d, N = d + 1 := ⟨N - 1, by omega⟩
      refine Nat.pos_of_ne_zero (fun q => ?_)
      have k0 : lk 0 = 0 := by
        have A : ∀ {lo hi : Nat}, jr_Pg lk jr_T3 lo hi → lo < hi → lk lo = 0 := by
          intro lo hi H
          refine jr_pgi (P := fun lo hi => lo < hi → lk lo = 0) ?_ ?_ H
          · intro i z; exact absurd z (Nat.lt_irrefl i)
          · intro p e j a _ _ _ _ _; exact a
        exact A pg0 hp
      have := jr_cpm (K := lk) (show 0 + 1 ≤ N by omega)
      rw [jr_cp1 k0] at this
      omega
    obtain ⟨i0, e0, _, he, k0, c0, _, _, hph, _⟩ := tab 0 hc
    refine br_t rfl (nm_r (e' := nI (i0 + 1)) (by rw [hph, nI_1]) ?_)
    exact br_t rfl ⟨N + 1, hY i0 (by omega) k0 c0 _ me (fun me' => ⟨rfl, h2 oi' ho' mo' tl' ph' pt' me' i0 hp ct pg1 tab⟩)⟩
end JRG2
end
section
section JRH
variable {vl ll nl fl nc lc pc oc rd gp fc se ck pl pg pm gy : Int32} {st nk na nb nm nv lk la lb ho mo tl ph pt oi tg sm wk wa wb fr me po : Nat → Int32}
variable {post : SX → Prop} {N n i : Nat} {x1 x2 : Int32} {P : Nat → Nat}
/-! mapInverse: one line -/
theorem jr_xm_s (hN : N ≤ 96) (hi : i < N) (s : jr_Smp (lk i))
    (h : wX_mapInverse_6 post vl ll nl fl nc (nI N) pc oc rd gp fc se ck pl pg pm n x1 x2 (nI (i + 1)) st nk na nb nm nv lk la lb ho mo tl ph pt oi (upd tg i (x1 - nI (i + 1))) sm wk wa wb fr) :
    wX_mapInverse_6 post vl ll nl fl nc (nI N) pc oc rd gp fc se ck pl pg pm (n + 1) x1 x2 (nI i) st nk na nb nm nv lk la lb ho mo tl ph pt oi tg sm wk wa wb fr := by
  have cl : (nI i).toNatClampNeg = i := nI_clamp (by omega)
  have vi : vp_in (nI i) 96 := vp_in_nI (by omega) (by decide)
  have J : wX_mapInverse_250 post (wX_mapInverse_6 post vl ll nl fl nc (nI N) pc oc rd gp fc se ck pl pg pm n) x1 x2 (nI i) vl ll nl fl nc (nI N) pc oc rd gp fc se ck pl pg pm st nk na nb nm nv lk la lb ho mo tl ph pt oi tg sm wk wa wb fr := by
    unfold wX_mapInverse_250
    exact ⟨vi, nm_r (e' := upd tg i (x1 - nI (i + 1))) (by rw [cl, nI_1]) (nm_r (nI_1 i) h)⟩
  refine br_f (nI_ge hi (by omega)) ⟨vi, nm_e ⟨vi, ?_⟩⟩
  rcases s with e | e | e | e | e | e
  · exact nm_r (e' := 2) (by rw [cl]; exact e) (br_f (by decide) (br_f (by decide) (br_f (by decide) (br_f (by decide) (br_t (by decide) (J))))))
  · exact nm_r (e' := 3) (by rw [cl]; exact e) (br_f (by decide) (br_f (by decide) (br_f (by decide) (br_f (by decide) (br_f (by decide) (br_t (by decide) (J)))))))
  · exact nm_r (e' := 4) (by rw [cl]; exact e) (br_f (by decide) (br_f (by decide) (br_f (by decide) (br_f (by decide) (br_f (by decide) (br_f (by decide) (br_t (by decide) (J))))))))
  · exact nm_r (e' := 5) (by rw [cl]; exact e) (br_f (by decide) (br_f (by decide) (br_f (by decide) (br_f (by decide) (br_f (by decide) (br_f (by decide) (br_f (by decide) (br_t (by decide) (J)))))))))
  · exact nm_r (e' := 6) (by rw [cl]; exact e) (br_f (by decide) (br_f (by decide) (br_f (by decide) (br_f (by decide) (br_f (by decide) (br_f (by decide) (br_f (by decide) (br_f (by decide) (br_t (by decide) (J))))))))))
  · exact nm_r (e' := 7) (by rw [cl]; exact e) (br_f (by decide) (br_f (by decide) (br_f (by decide) (br_f (by decide) (br_f (by decide) (br_f (by decide) (br_f (by decide) (br_f (by decide) (br_f (by decide) (br_t (by decide) (J)))))))))))
theorem jr_xm_o {v w : Int32} (hN : N ≤ 96) (hi : i < N) (s : lk i = 8 ∨ lk i = 11) (ev : x1 - (tl i + 1) = v) (ew : v + 1 + mo i = w)
    (h : wX_mapInverse_6 post vl ll nl fl nc (nI N) pc oc rd gp fc se ck pl pg pm n w x2 (nI (i + 1)) st nk na nb nm nv lk la lb ho mo tl ph pt oi (upd tg i v) (upd sm i x1) wk wa wb fr) :
    wX_mapInverse_6 post vl ll nl fl nc (nI N) pc oc rd gp fc se ck pl pg pm (n + 1) x1 x2 (nI i) st nk na nb nm nv lk la lb ho mo tl ph pt oi tg sm wk wa wb fr := by
  have cl : (nI i).toNatClampNeg = i := nI_clamp (by omega)
  have vi : vp_in (nI i) 96 := vp_in_nI (by omega) (by decide)
  have J : wX_mapInverse_142 post (wX_mapInverse_6 post vl ll nl fl nc (nI N) pc oc rd gp fc se ck pl pg pm n) x1 x2 (nI i) vl ll nl fl nc (nI N) pc oc rd gp fc se ck pl pg pm st nk na nb nm nv lk la lb ho mo tl ph pt oi tg sm wk wa wb fr := by
    unfold wX_mapInverse_142
    exact ⟨vi, nm_r (e' := upd sm i x1) (by rw [cl]) ⟨vi, vi, nm_r (e' := upd tg i v) (by rw [cl, ev]) ⟨vi, vi, nm_r (e' := w) (by rw [cl, jr_us]; exact ew) (nm_r (nI_1 i) h)⟩⟩⟩
  refine br_f (nI_ge hi (by omega)) ⟨vi, nm_e ⟨vi, ?_⟩⟩
  rcases s with e | e
  · exact nm_r (e' := 8) (by rw [cl]; exact e) (br_f (by decide) (br_f (by decide) (br_f (by decide) (br_f (by decide) (br_f (by decide) (br_f (by decide) (br_f (by decide) (br_f (by decide) (br_f (by decide) (br_f (by decide) (br_t (by decide) (J))))))))))))
  · exact nm_r (e' := 11) (by rw [cl]; exact e) (br_f (by decide) (br_f (by decide) (br_f (by decide) (br_f (by decide) (br_f (by decide) (br_f (by decide) (br_f (by decide) (br_f (by decide) (br_f (by decide) (br_f (by decide) (br_f (by decide) (br_f (by decide) (br_f (by decide) (br_t (by decide) (J)))))))))))))))
theorem jr_xm_m {v w : Int32} {h : Nat} (hN : N ≤ 96) (hi : i < N) (hh : h < 96) (s : lk i = 9 ∨ lk i = 12) (eh : ho i = nI h) (ev : tg h + (nI i - nI h) = v) (ew : v + 1 + tl i = w)
    (z : wX_mapInverse_6 post vl ll nl fl nc (nI N) pc oc rd gp fc se ck pl pg pm n w x2 (nI (i + 1)) st nk na nb nm nv lk la lb ho mo tl ph pt oi (upd tg i v) sm wk wa wb fr) :
    wX_mapInverse_6 post vl ll nl fl nc (nI N) pc oc rd gp fc se ck pl pg pm (n + 1) x1 x2 (nI i) st nk na nb nm nv lk la lb ho mo tl ph pt oi tg sm wk wa wb fr := by
  have cl : (nI i).toNatClampNeg = i := nI_clamp (by omega)
  have vi : vp_in (nI i) 96 := vp_in_nI (by omega) (by decide)
  have J : wX_mapInverse_184 post (wX_mapInverse_6 post vl ll nl fl nc (nI N) pc oc rd gp fc se ck pl pg pm n) x2 (nI i) (nI h) vl ll nl fl nc (nI N) pc oc rd gp fc se ck pl pg pm st nk na nb nm nv lk la lb ho mo tl ph pt oi tg sm wk wa wb fr := by
    unfold wX_mapInverse_184
    exact ⟨vp_in_nI hh (by decide), vi, nm_r (e' := upd tg i v) (by rw [cl, nI_clamp (show h < 2 ^ 31 by omega), ev]) ⟨vi, vi, nm_r (e' := w) (by rw [cl, jr_us]; exact ew) (nm_r (nI_1 i) z)⟩⟩
  refine br_f (nI_ge hi (by omega)) ⟨vi, nm_r (e' := nI h) (by rw [cl]; exact eh) ⟨vi, ?_⟩⟩
  rcases s with e | e
  · exact nm_r (e' := 9) (by rw [cl]; exact e) (br_f (by decide) (br_f (by decide) (br_f (by decide) (br_f (by decide) (br_f (by decide) (br_f (by decide) (br_f (by decide) (br_f (by decide) (br_f (by decide) (br_f (by decide) (br_f (by decide) (br_t (by decide) (J)))))))))))))
  · exact nm_r (e' := 12) (by rw [cl]; exact e) (br_f (by decide) (br_f (by decide) (br_f (by decide) (br_f (by decide) (br_f (by decide) (br_f (by decide) (br_f (by decide) (br_f (by decide) (br_f (by decide) (br_f (by decide) (br_f (by decide) (br_f (by decide) (br_f (by decide) (br_f (by decide) (br_t (by decide) (J))))))))))))))))
theorem jr_xm_c {v : Int32} {h : Nat} (hN : N ≤ 96) (hi : i < N) (hh : h < 96) (s : lk i = 10 ∨ lk i = 13) (eh : ho i = nI h) (ev : tg h + (nI i - nI h) = v)
    (z : wX_mapInverse_6 post vl ll nl fl nc (nI N) pc oc rd gp fc se ck pl pg pm n (sm h) x2 (nI (i + 1)) st nk na nb nm nv lk la lb ho mo tl ph pt oi (upd tg i v) sm wk wa wb fr) :
    wX_mapInverse_6 post vl ll nl fl nc (nI N) pc oc rd gp fc se ck pl pg pm (n + 1) x1 x2 (nI i) st nk na nb nm nv lk la lb ho mo tl ph pt oi tg sm wk wa wb fr := by
  have cl : (nI i).toNatClampNeg = i := nI_clamp (by omega)
  have vi : vp_in (nI i) 96 := vp_in_nI (by omega) (by decide)
  have J : wX_mapInverse_221 post (wX_mapInverse_6 post vl ll nl fl nc (nI N) pc oc rd gp fc se ck pl pg pm n) x2 (nI i) (nI h) vl ll nl fl nc (nI N) pc oc rd gp fc se ck pl pg pm st nk na nb nm nv lk la lb ho mo tl ph pt oi tg sm wk wa wb fr := by
    unfold wX_mapInverse_221
    exact ⟨vp_in_nI hh (by decide), vi, nm_r (e' := upd tg i v) (by rw [cl, nI_clamp (show h < 2 ^ 31 by omega), ev]) ⟨vp_in_nI hh (by decide), nm_r (e' := sm h) (by rw [nI_clamp (show h < 2 ^ 31 by omega)]) (nm_r (nI_1 i) z)⟩⟩
  refine br_f (nI_ge hi (by omega)) ⟨vi, nm_r (e' := nI h) (by rw [cl]; exact eh) ⟨vi, ?_⟩⟩
  rcases s with e | e
  · exact nm_r (e' := 10) (by rw [cl]; exact e) (br_f (by decide) (br_f (by decide) (br_f (by decide) (br_f (by decide) (br_f (by decide) (br_f (by decide) (br_f (by decide) (br_f (by decide) (br_f (by decide) (br_f (by decide) (br_f (by decide) (br_f (by decide) (br_t (by decide) (J))))))))))))))
  · exact nm_r (e' := 13) (by rw [cl]; exact e) (br_f (by decide) (br_f (by decide) (br_f (by decide) (br_f (by decide) (br_f (by decide) (br_f (by decide) (br_f (by decide) (br_f (by decide) (br_f (by decide) (br_f (by decide) (br_f (by decide) (br_f (by decide) (br_f (by decide) (br_f (by decide) (br_f (by decide) (br_t (by decide) (J)))))))))))))))))
theorem jr_xm_p {q c : Nat} {w : Int32} (hN : N ≤ 96) (hi : i < N) (hc : c ≤ 96) (hq : q < c) (e : lk i = 0) (ew : nI i + 1 + pt q = w)
    (z : wX_mapInverse_6 post vl ll nl fl nc (nI N) (nI c) oc rd gp fc se ck pl pg pm n w (nI (q + 1)) (nI (i + 1)) st nk na nb nm nv lk la lb ho mo tl ph pt oi (upd tg i (nI i)) sm wk wa wb fr) :
    wX_mapInverse_6 post vl ll nl fl nc (nI N) (nI c) oc rd gp fc se ck pl pg pm (n + 1) x1 (nI q) (nI i) st nk na nb nm nv lk la lb ho mo tl ph pt oi tg sm wk wa wb fr := by
  have cl : (nI i).toNatClampNeg = i := nI_clamp (by omega)
  have vi : vp_in (nI i) 96 := vp_in_nI (by omega) (by decide)
  refine br_f (nI_ge hi (by omega)) ⟨vi, nm_e ⟨vi, nm_r (e' := 0) (by rw [cl]; exact e) (br_f (by decide) (br_f (by decide) (br_t (by decide) (⟨vi, nm_r (e' := upd tg i (nI i)) (by rw [cl]) ?_⟩))))⟩⟩
  exact br_f (nI_ge hq (by omega)) ⟨vp_in_nI (by omega) (by decide), nm_r (e' := w) (by rw [nI_clamp (show q < 2 ^ 31 by omega)]; exact ew) (nm_r (nI_1 q) (nm_r (nI_1 i) z))⟩
theorem jr_xm_e (hN : N ≤ 96) (hi : i < N) (e : lk i = 1)
    (z : wX_mapInverse_6 post vl ll nl fl nc (nI N) pc oc rd gp fc se ck pl pg pm n x1 x2 (nI (i + 1)) st nk na nb nm nv lk la lb ho mo tl ph pt oi (upd tg i (nI i)) sm wk wa wb fr) :
    wX_mapInverse_6 post vl ll nl fl nc (nI N) pc oc rd gp fc se ck pl pg pm (n + 1) x1 x2 (nI i) st nk na nb nm nv lk la lb ho mo tl ph pt oi tg sm wk wa wb fr := by
  have cl : (nI i).toNatClampNeg = i := nI_clamp (by omega)
  have vi : vp_in (nI i) 96 := vp_in_nI (by omega) (by decide)
  exact br_f (nI_ge hi (by omega)) ⟨vi, nm_e ⟨vi, nm_r (e' := 1) (by rw [cl]; exact e) (br_f (by decide) (br_f (by decide) (br_f (by decide) (br_t (by decide) (⟨vi, nm_r (e' := upd tg i (nI i)) (by rw [cl]) (nm_r (nI_1 i) z)⟩)))))⟩⟩
end JRH
section JRH2
variable {vl ll nl fl nc lc pc oc rd gp fc se ck pl pg pm gy : Int32} {st nk na nb nm nv lk la lb ho mo tl ph pt oi tg sm wk wa wb fr me po : Nat → Int32}
variable {post : SX → Prop} {N : Nat} {P : Nat → Nat}
/-! mapInverse: a sequence, the program -/
theorem jr_tgs {tg : Nat → Int32} {i : Nat} {v : Int32} (h : ∀ j, j < i → tg j = nI (P j)) (e : v = nI (P i)) : ∀ j, j < i + 1 → upd tg i v j = nI (P j) := by
  intro j hj
  by_cases ej : j = i
  · rw [ej, jr_us]; exact e
  · rw [jr_un ej]; exact h j (by omega)
theorem jr_xmi {lo hi s : Nat} (hN : N ≤ 96) (H : jr_Tq lk (jr_Lk ho mo tl) P lo hi s) : hi ≤ N → ∀ (tg sm : Nat → Int32) (x2 : Int32) (n : Nat), (∀ j, j < lo → tg j = nI (P j)) →
    (∀ tg' sm' : Nat → Int32, (∀ j, j < hi → tg' j = nI (P j)) → (∀ j, j < lo → sm' j = sm j) →
      wX_mapInverse_6 post vl ll nl fl nc (nI N) pc oc rd gp fc se ck pl pg pm n (nI (s + hi)) x2 (nI hi) st nk na nb nm nv lk la lb ho mo tl ph pt oi tg' sm' wk wa wb fr) →
    wX_mapInverse_6 post vl ll nl fl nc (nI N) pc oc rd gp fc se ck pl pg pm (n + (hi - lo)) (nI (s + hi)) x2 (nI lo) st nk na nb nm nv lk la lb ho mo tl ph pt oi tg sm wk wa wb fr := by
  refine jr_tqi (Q := fun lo hi s => hi ≤ N → ∀ (tg sm : Nat → Int32) (x2 : Int32) (n : Nat), (∀ j, j < lo → tg j = nI (P j)) →
    (∀ tg' sm' : Nat → Int32, (∀ j, j < hi → tg' j = nI (P j)) → (∀ j, j < lo → sm' j = sm j) →
      wX_mapInverse_6 post vl ll nl fl nc (nI N) pc oc rd gp fc se ck pl pg pm n (nI (s + hi)) x2 (nI hi) st nk na nb nm nv lk la lb ho mo tl ph pt oi tg' sm' wk wa wb fr) →
    wX_mapInverse_6 post vl ll nl fl nc (nI N) pc oc rd gp fc se ck pl pg pm (n + (hi - lo)) (nI (s + hi)) x2 (nI lo) st nk na nb nm nv lk la lb ho mo tl ph pt oi tg sm wk wa wb fr) ?_ ?_ ?_ H
  · intro i s hi tg sm x2 n ht kont
    rw [Nat.sub_self]
    exact kont tg sm ht (fun _ _ => rfl)
  · intro i j s a b w ih hj tg sm x2 n ht kont
    have l := jr_sqle (jr_tqsq w)
    have e : n + (j - i) = n + (j - (i + 1)) + 1 := by omega
    rw [e]
    refine jr_xm_s hN (by omega) a (ih hj _ sm x2 n (jr_tgs ht ?_) ?_)
    · rw [jr_sub (by omega)]
      exact congrArg nI (by omega)
    · intro tg' sm' q r
      exact kont tg' sm' q (fun k hk => r k (by omega))
  · intro h m t j s a r b c d x y w i1 i2 i3 hj tg sm x2 n ht kont
    have a1 := jr_sqle (jr_tqsq x)
    have a2 := jr_sqle (jr_tqsq y)
    have a3 := jr_sqle (jr_tqsq w)
    have rh := r h (Or.inl rfl)
    have rm := r m (Or.inr (Or.inl rfl))
    have rt := r t (Or.inr (Or.inr rfl))
    have e : n + (j - h) = n + (j - (t + 1)) + 1 + (t - (m + 1)) + 1 + (m - (h + 1)) + 1 := by omega
    rw [e]
    have ev1 : nI (s + j) - (tl h + 1) = nI (P h) := by
      rw [rh.2.2, nI_1, jr_sub (by omega)]
      exact congrArg nI (by omega)
    have ew1 : nI (P h) + 1 + mo h = nI (P h + 1 + m) := by
      rw [rh.2.1, nI_1, nI_add]
    refine jr_xm_o hN (by omega) (jr_t1 a) ev1 ew1 ?_
    refine i1 (by omega) _ _ x2 _ (jr_tgs ht rfl) ?_
    intro tg1 sm1 q1 r1
    have s1 : sm1 h = nI (s + j) := (r1 h (by omega)).trans jr_us
    have ev2 : tg1 h + (nI m - nI h) = nI (P m) := by
      rw [q1 h (by omega), jr_sub (by omega), nI_add]
      exact congrArg nI (by omega)
    have ew2 : nI (P m) + 1 + tl m = nI (P m + 1 + t) := by
      rw [rm.2.2, nI_1, nI_add]
    refine jr_xm_m hN (by omega) (by omega) (jr_t2 a) rm.1 ev2 ew2 ?_
    refine i2 (by omega) _ _ x2 _ (jr_tgs q1 rfl) ?_
    intro tg2 sm2 q2 r2
    have s2 : sm2 h = nI (s + j) := (r2 h (by omega)).trans s1
    have ev3 : tg2 h + (nI t - nI h) = nI (P t) := by
      rw [q2 h (by omega), jr_sub (by omega), nI_add]
      exact congrArg nI (by omega)
    refine jr_xm_c hN (by omega) (by omega) (jr_t3 a) rt.1 ev3 ?_
    rw [s2]
    refine i3 hj _ _ x2 n (jr_tgs q2 rfl) ?_
    intro tg3 sm3 q3 r3
    exact kont tg3 sm3 q3 (fun k hk => ((r3 k (by omega)).trans ((r2 k (by omega)).trans ((r1 k (by omega)).trans (jr_un (by omega))))))
/-- the table's row of a procedure -/
theorem jr_ptu {R R' : Nat → Nat → Nat → Prop} {p e : Nat} (T : jr_Pt lk R' N ph pt (jr_cp lk p)) (k0 : lk p = 0) (s : jr_Sq lk R (p + 1) e) (k1 : lk e = 1) :
    ph (jr_cp lk p) = nI p ∧ pt (jr_cp lk p) = nI e := by
  obtain ⟨i, e', h1, h2, h3, h4, h5, h6, h7, h8⟩ := T
  have ei : i = p := by
    rcases Nat.lt_trichotomy i p with z | z | z
    · have := jr_cpm (K := lk) (show i + 1 ≤ p by omega)
      rw [jr_cp1 h3] at this
      omega
    · exact z
    · have := jr_cpm (K := lk) (show p + 1 ≤ i by omega)
      rw [jr_cp1 k0] at this
      omega
  subst ei
  have l1 := jr_sqle h5
  have l2 := jr_sqle s
  have ee : e' = e := by
    rcases Nat.lt_trichotomy e' e with z | z | z
    · exact absurd h6 (jr_sq01 s e' l1 z).2
    · exact z
    · exact absurd k1 (jr_sq01 h5 e l2 z).2
  subst ee
  exact ⟨h7, h8⟩
theorem jr_xmp {lo hi : Nat} (hN : N ≤ 96) (HT : ∀ p, p < jr_cp lk N → jr_Pt lk jr_T3 N ph pt p) (H : jr_Pp lk (jr_Lk ho mo tl) P lo hi) : hi ≤ N →
    ∀ (tg sm : Nat → Int32) (x1 : Int32) (n : Nat), (∀ j, j < lo → tg j = nI (P j)) →
    (∀ (tg' sm' : Nat → Int32) (x1' : Int32), (∀ j, j < hi → tg' j = nI (P j)) →
      wX_mapInverse_6 post vl ll nl fl nc (nI N) (nI (jr_cp lk N)) oc rd gp fc se ck pl pg pm n x1' (nI (jr_cp lk hi)) (nI hi) st nk na nb nm nv lk la lb ho mo tl ph pt oi tg' sm' wk wa wb fr) →
    wX_mapInverse_6 post vl ll nl fl nc (nI N) (nI (jr_cp lk N)) oc rd gp fc se ck pl pg pm (n + (hi - lo)) x1 (nI (jr_cp lk lo)) (nI lo) st nk na nb nm nv lk la lb ho mo tl ph pt oi tg sm wk wa wb fr := by
  refine jr_ppi (Q := fun lo hi => hi ≤ N → ∀ (tg sm : Nat → Int32) (x1 : Int32) (n : Nat), (∀ j, j < lo → tg j = nI (P j)) →
    (∀ (tg' sm' : Nat → Int32) (x1' : Int32), (∀ j, j < hi → tg' j = nI (P j)) →
      wX_mapInverse_6 post vl ll nl fl nc (nI N) (nI (jr_cp lk N)) oc rd gp fc se ck pl pg pm n x1' (nI (jr_cp lk hi)) (nI hi) st nk na nb nm nv lk la lb ho mo tl ph pt oi tg' sm' wk wa wb fr) →
    wX_mapInverse_6 post vl ll nl fl nc (nI N) (nI (jr_cp lk N)) oc rd gp fc se ck pl pg pm (n + (hi - lo)) x1 (nI (jr_cp lk lo)) (nI lo) st nk na nb nm nv lk la lb ho mo tl ph pt oi tg sm wk wa wb fr) ?_ ?_ H
  · intro i hi tg sm x1 n ht kont
    rw [Nat.sub_self]
    exact kont tg sm x1 ht
  · intro p e j a b c d s w ih hj tg sm x1 n ht kont
    have a1 := jr_sqle (jr_tqsq s)
    have a2 := jr_pgle (jr_pppg w)
    have b1 := jr_cple (K := lk) p
    have bN := jr_cple (K := lk) N
    have c1 : jr_cp lk (p + 1) = jr_cp lk p + 1 := jr_cp1 a
    have c2 : jr_cp lk e = jr_cp lk p + 1 := (jr_cpsq (jr_tqsq s)).trans c1
    have c3 : jr_cp lk (e + 1) = jr_cp lk p + 1 := (jr_cp0 (by rw [b]; decide)).trans c2
    have c4 := jr_cpm (K := lk) (show p + 1 ≤ N by omega)
    have T := jr_ptu (HT (jr_cp lk p) (by omega)) a (jr_tqsq s) b
    have ee : n + (j - p) = n + (j - (e + 1)) + 1 + (e - (p + 1)) + 1 := by omega
    rw [ee]
    refine jr_xm_p (w := nI (p + 1 + e)) hN (by omega) (by omega) (by omega) a ?_ ?_
    · rw [T.2, nI_1, nI_add]
    refine jr_xmi hN s (by omega) _ _ _ _ (jr_tgs ht (by rw [c])) ?_
    intro tg1 sm1 q1 r1
    refine jr_xm_e hN (by omega) b ?_
    have A := ih hj (upd tg1 e (nI e)) sm1 (nI (p + 1 + e)) n (jr_tgs q1 (by rw [d])) kont
    rw [c3] at A
    exact A
theorem jr_xmap (hN : N ≤ 96) (HT : ∀ p, p < jr_cp lk N → jr_Pt lk jr_T3 N ph pt p) (H : jr_Pp lk (jr_Lk ho mo tl) P 0 N)
    (h : ∀ tg sm : Nat → Int32, (∀ j, j < N → tg j = nI (P j)) → post (vl, ll, nl, fl, nc, (nI N), (nI (jr_cp lk N)), oc, rd, gp, fc, se, ck, pl, pg, pm, st, nk, na, nb, nm, nv, lk, la, lb, ho, mo, tl, ph, pt, oi, tg, sm, wk, wa, wb, fr)) : wpX_mapInverse post (vl, ll, nl, fl, nc, (nI N), (nI (jr_cp lk N)), oc, rd, gp, fc, se, ck, pl, pg, pm, st, nk, na, nb, nm, nv, lk, la, lb, ho, mo, tl, ph, pt, oi, tg, sm, wk, wa, wb, fr) := by
  have A := jr_xmp (post := post) (lo := 0) (hi := N) hN HT H (Nat.le_refl N) tg sm 0 1 (vl := vl) (ll := ll) (nl := nl) (fl := fl) (nc := nc) (oc := oc) (rd := rd) (gp := gp) (fc := fc) (se := se) (ck := ck) (pl := pl) (pg := pg) (pm := pm) (st := st) (nk := nk) (na := na) (nb := nb) (nm := nm) (nv := nv) (la := la) (lb := lb) (oi := oi) (wk := wk) (wa := wa) (wb := wb) (fr := fr) (fun j hj => absurd hj (Nat.not_lt_zero j))
    (fun tg' sm' x1' q => br_t (nI_le (Nat.le_refl N) (by omega)) (h tg' sm' q))
  exact ⟨_, A⟩
/-! writeInverse -/
def jr_ia (lk la ho tl : Nat → Int32) (i : Nat) : Int32 :=
  if lk i = 8 ∨ lk i = 11 then la (tl i).toNatClampNeg else if lk i = 10 ∨ lk i = 13 then la (ho i).toNatClampNeg else la i
theorem jr_iao {i : Nat} (h : lk i = 8 ∨ lk i = 11) : jr_ia lk la ho tl i = la (tl i).toNatClampNeg := if_pos h
theorem jr_iac {i : Nat} (h : lk i = 10 ∨ lk i = 13) : jr_ia lk la ho tl i = la (ho i).toNatClampNeg := by
  unfold jr_ia
  rw [if_neg (fun z => by rcases h with e | e <;> rw [e] at z <;> exact absurd z (by decide)), if_pos h]
theorem jr_ian {i : Nat} (h : ¬ (lk i = 8 ∨ lk i = 11)) (h' : ¬ (lk i = 10 ∨ lk i = 13)) : jr_ia lk la ho tl i = la i := by
  unfold jr_ia
  rw [if_neg h, if_neg h']
def jr_wr (P : Nat → Nat) (v w : Nat → Int32) : Nat → (Nat → Int32)
  | 0 => w
  | i + 1 => upd (jr_wr P v w i) (P i) (v i)
theorem jr_wrs {v w : Nat → Int32} (i : Nat) : jr_wr P v w (i + 1) = upd (jr_wr P v w i) (P i) (v i) := rfl
theorem jr_wrv {v w : Nat → Int32} (hP : ∀ i k, i < N → k < N → P i = P k → i = k) (i : Nat) : i ≤ N → ∀ j, j < i → jr_wr P v w i (P j) = v j := by
  induction i with
  | zero => intro _ j hj; omega
  | succ i ih =>
    intro hi j hj
    rw [jr_wrs]
    by_cases e : j = i
    · rw [e, jr_us]
    · rw [jr_un (fun z => e (hP j i (by omega) (by omega) z))]
      exact ih (by omega) j (by omega)
def jr_cy (f g : Nat → Int32) : Nat → (Nat → Int32)
  | 0 => f
  | i + 1 => upd (jr_cy f g i) i (g i)
theorem jr_cys {f g : Nat → Int32} (i : Nat) : jr_cy f g (i + 1) = upd (jr_cy f g i) i (g i) := rfl
theorem jr_cyv {f g : Nat → Int32} (i : Nat) : ∀ j, j < i → jr_cy f g i j = g j := by
  induction i with
  | zero => intro j hj; omega
  | succ i ih =>
    intro j hj
    rw [jr_cys]
    by_cases e : j = i
    · rw [e, jr_us]
    · rw [jr_un e]; exact ih j (by omega)
theorem jr_xik {post : Int32 → Prop} {k : Int32} (h : post (jr_ik k)) : wpX_inverseKind post (vl, ll, nl, fl, nc, lc, pc, oc, rd, gp, fc, se, ck, pl, pg, pm, st, nk, na, nb, nm, nv, lk, la, lb, ho, mo, tl, ph, pt, oi, tg, sm, wk, wa, wb, fr) k := by
  by_cases a : k = 2
  · rw [a, jr_ik2] at h; exact br_t a h
  by_cases b : k = 3
  · rw [b, jr_ik3] at h; exact br_f a (br_t b h)
  · rw [jr_iko a b] at h; exact br_f a (br_f b h)
theorem jr_xia {post : Int32 → Prop} {i : Nat} (hi : i < 96) (hL : (lk i = 8 ∨ lk i = 11) ∨ (lk i = 10 ∨ lk i = 13) → ∃ h t, h < 96 ∧ t < 96 ∧ ho i = nI h ∧ tl i = nI t)
    (h : post (jr_ia lk la ho tl i)) : wpX_inverseA post (vl, ll, nl, fl, nc, lc, pc, oc, rd, gp, fc, se, ck, pl, pg, pm, st, nk, na, nb, nm, nv, lk, la, lb, ho, mo, tl, ph, pt, oi, tg, sm, wk, wa, wb, fr) (nI i) := by
  have cl : (nI i).toNatClampNeg = i := nI_clamp (by omega)
  have vi : vp_in (nI i) 96 := vp_in_nI (by omega) (by decide)
  refine ⟨vi, nm_r (e' := lk i) (by rw [cl]) ?_⟩
  by_cases a : lk i = 8 ∨ lk i = 11
  · obtain ⟨q, t, _, ht, _, et⟩ := hL (Or.inl a)
    rw [jr_iao a] at h
    have J : wX_inverseA_19 post (nI i) vl ll nl fl nc lc pc oc rd gp fc se ck pl pg pm st nk na nb nm nv lk la lb ho mo tl ph pt oi tg sm wk wa wb fr := by
      unfold wX_inverseA_19
      refine ⟨vi, ?_⟩
      rw [cl]
      refine ⟨?_, h⟩
      rw [et]; exact vp_in_nI ht (by decide)
    by_cases a8 : lk i = 8
    · exact br_t a8 J
    · exact br_f a8 (br_t (a.resolve_left a8) J)
  by_cases b : lk i = 10 ∨ lk i = 13
  · obtain ⟨q, t, hq, _, eq, _⟩ := hL (Or.inr b)
    rw [jr_iac b] at h
    have J : wX_inverseA_43 post (nI i) vl ll nl fl nc lc pc oc rd gp fc se ck pl pg pm st nk na nb nm nv lk la lb ho mo tl ph pt oi tg sm wk wa wb fr := by
      unfold wX_inverseA_43
      refine ⟨vi, ?_⟩
      rw [cl]
      refine ⟨?_, h⟩
      rw [eq]; exact vp_in_nI hq (by decide)
    refine br_f (fun z => a (Or.inl z)) (br_f (fun z => a (Or.inr z)) ?_)
    by_cases b10 : lk i = 10
    · exact br_t b10 J
    · exact br_f b10 (br_t (b.resolve_left b10) J)
  · rw [jr_ian a b] at h
    refine br_f (fun z => a (Or.inl z)) (br_f (fun z => a (Or.inr z)) (br_f (fun z => b (Or.inl z)) (br_f (fun z => b (Or.inr z)) ⟨vi, ?_⟩)))
    rw [cl]; exact h
end JRH2
section JRH3
variable {vl ll nl fl nc lc pc oc rd gp fc se ck pl pg pm gy : Int32} {st nk na nb nm nv lk la lb ho mo tl ph pt oi tg sm wk wa wb fr me po : Nat → Int32}
variable {post : SX → Prop} {N : Nat} {P : Nat → Nat}
theorem jr_xw76 (hN : N ≤ 96) (h : post (vl, ll, nl, fl, nc, (nI N), pc, oc, rd, gp, fc, se, ck, pl, pg, pm, st, nk, na, nb, nm, nv, (jr_cy lk wk N), (jr_cy la wa N), (jr_cy lb wb N), ho, mo, tl, ph, pt, oi, tg, sm, wk, wa, wb, fr)) :
    ∀ d i, i + d = N → wX_writeInverse_76 post vl ll nl fl nc (nI N) pc oc rd gp fc se ck pl pg pm (d + 1) (nI i) st nk na nb nm nv (jr_cy lk wk i) (jr_cy la wa i) (jr_cy lb wb i) ho mo tl ph pt oi tg sm wk wa wb fr := by
  intro d
  induction d with
  | zero =>
    intro i e
    have e : i = N := by omega
    subst e
    exact br_t (nI_le (by omega) (by omega)) h
  | succ d ih =>
    intro i e
    have W := ih (i + 1) (by omega)
    have cl : (nI i).toNatClampNeg = i := nI_clamp (by omega)
    have vi : vp_in (nI i) 96 := vp_in_nI (by omega) (by decide)
    exact br_f (nI_ge (by omega) (by omega)) ⟨vi, vi, nm_r (e' := jr_cy lk wk (i + 1)) (by rw [cl, jr_cys]) ⟨vi, vi, nm_r (e' := jr_cy la wa (i + 1)) (by rw [cl, jr_cys])
      ⟨vi, vi, nm_r (e' := jr_cy lb wb (i + 1)) (by rw [cl, jr_cys]) (nm_r (nI_1 i) W)⟩⟩⟩
theorem jr_xwr (hN : N ≤ 96) (hP : ∀ j, j < N → P j < N) (hT : ∀ j, j < N → tg j = nI (P j))
    (hL : ∀ i, i < N → (lk i = 8 ∨ lk i = 11) ∨ (lk i = 10 ∨ lk i = 13) → ∃ h t, h < 96 ∧ t < 96 ∧ ho i = nI h ∧ tl i = nI t)
    (h : post (vl, ll, nl, fl, nc, (nI N), pc, oc, rd, gp, fc, se, ck, pl, pg, pm, st, nk, na, nb, nm, nv, (jr_cy lk (jr_wr P (fun i => jr_ik (lk i)) wk N) N), (jr_cy la (jr_wr P (jr_ia lk la ho tl) wa N) N), (jr_cy lb (jr_wr P lb wb N) N), ho, mo, tl, ph, pt, oi, tg, sm, (jr_wr P (fun i => jr_ik (lk i)) wk N), (jr_wr P (jr_ia lk la ho tl) wa N), (jr_wr P lb wb N), fr)) :
    wpX_writeInverse post (vl, ll, nl, fl, nc, (nI N), pc, oc, rd, gp, fc, se, ck, pl, pg, pm, st, nk, na, nb, nm, nv, lk, la, lb, ho, mo, tl, ph, pt, oi, tg, sm, wk, wa, wb, fr) := by
  have A : ∀ d i, i + d = N → wX_writeInverse_2 post vl ll nl fl nc (nI N) pc oc rd gp fc se ck pl pg pm (d + 1) (nI i) st nk na nb nm nv lk la lb ho mo tl ph pt oi tg sm (jr_wr P (fun i => jr_ik (lk i)) wk i) (jr_wr P (jr_ia lk la ho tl) wa i) (jr_wr P lb wb i) fr := by
    intro d
    induction d with
    | zero =>
      intro i e
      have e : i = N := by omega
      subst e
      exact br_t (nI_le (by omega) (by omega)) ⟨_, jr_xw76 hN h i 0 (by omega)⟩
    | succ d ih =>
      intro i e
      have W := ih (i + 1) (by omega)
      have cl : (nI i).toNatClampNeg = i := nI_clamp (by omega)
      have vi : vp_in (nI i) 96 := vp_in_nI (by omega) (by decide)
      have p1 := hP i (by omega)
      have cq : (nI (P i)).toNatClampNeg = P i := nI_clamp (by omega)
      have vq : vp_in (nI (P i)) 96 := vp_in_nI (by omega) (by decide)
      refine br_f (nI_ge (by omega) (by omega)) ⟨vi, nm_r (e' := nI (P i)) (by rw [cl]; exact hT i (by omega)) (br_f (nI_pos (by omega)) (br_f (nI_ge p1 (by omega)) ⟨vi, ?_⟩))⟩
      refine jr_xik ⟨vq, nm_r (e' := jr_wr P (fun i => jr_ik (lk i)) wk (i + 1)) (by rw [cl, cq, jr_wrs]) ?_⟩
      refine jr_xia (by omega) (hL i (by omega)) ⟨vq, nm_r (e' := jr_wr P (jr_ia lk la ho tl) wa (i + 1)) (by rw [cq, jr_wrs]) ⟨vi, vq, nm_r (e' := jr_wr P lb wb (i + 1)) (by rw [cl, cq, jr_wrs]) (nm_r (nI_1 i) W)⟩⟩
  exact ⟨_, A N 0 (by omega)⟩
end JRH3
end
section
section JRI
variable {vl ll nl fl nc lc pc oc rd gp fc se ck pl pg pm gy : Int32} {st nk na nb nm nv lk la lb ho mo tl ph pt oi tg sm wk wa wb fr me po : Nat → Int32}
variable {post : Int32 → SY → Prop} {N n i : Nat} {P : Nat → Nat} {J : Int32 → (Nat → Int32) → (Nat → Int32) → (Nat → Int32) → (Nat → Int32) → (Nat → Int32) → (Nat → Int32) → (Nat → Int32) → (Nat → Int32) → (Nat → Int32) → (Nat → Int32) → (Nat → Int32) → (Nat → Int32) → (Nat → Int32) → (Nat → Int32) → Prop}
/-! Y's invert: one line -/
theorem jr_y255 {q : Nat} {v : Int32} (hi : i < 96) (hq : q < 96) (h : J (nI (i + 1)) st nk na nb lk la lb fr nv me po wk (upd wa q v) (upd wb q (lb i))) :
    wY_invert_255 post J (nI i) (nI q) v (nI q) vl ll nl fl rd nc lc fc gy ck st nk na nb lk la lb fr nv me po wk wa wb := by
  have cl : (nI i).toNatClampNeg = i := nI_clamp (by omega)
  have cq : (nI q).toNatClampNeg = q := nI_clamp (by omega)
  exact ⟨vp_in_nI hq (by decide), nm_r (e' := upd wa q v) (by rw [cq]) ⟨vp_in_nI hi (by decide), vp_in_nI hq (by decide), nm_r (e' := upd wb q (lb i)) (by rw [cq, cl]) (nm_r (nI_1 i) h)⟩⟩
theorem jr_y217 {q j : Nat} {k v z : Int32} (hi : i < 96) (hq : q < 96) (hj : j < 96)
    (ev : (((k = 8 ∨ k = 11) ∨ (k = 10 ∨ k = 13)) ∧ v = la j) ∨ ((¬ (k = 8 ∨ k = 11) ∧ ¬ (k = 10 ∨ k = 13)) ∧ v = la i))
    (h : J (nI (i + 1)) st nk na nb lk la lb fr nv me po (upd wk q z) (upd wa q v) (upd wb q (lb i))) :
    wY_invert_217 post J (nI i) k (nI j) (nI q) z (nI q) vl ll nl fl rd nc lc fc gy ck st nk na nb lk la lb fr nv me po wk wa wb := by
  have cl : (nI i).toNatClampNeg = i := nI_clamp (by omega)
  have cq : (nI q).toNatClampNeg = q := nI_clamp (by omega)
  have cj : (nI j).toNatClampNeg = j := nI_clamp (by omega)
  refine ⟨vp_in_nI hq (by decide), nm_r (e' := upd wk q z) (by rw [cq]) ?_⟩
  rcases ev with ⟨e, rfl⟩ | ⟨⟨e1, e2⟩, rfl⟩
  · have J2 : wY_invert_240 post J (nI i) (nI j) (nI q) (nI q) vl ll nl fl rd nc lc fc gy ck st nk na nb lk la lb fr nv me po (upd wk q z) wa wb := by
      unfold wY_invert_240
      refine ⟨vp_in_nI hj (by decide), ?_⟩
      rw [cj]
      exact jr_y255 hi hq h
    by_cases a : k = 8 ∨ k = 11
    · exact jr_op1 rfl a (br_f (by decide) J2)
    · exact jr_op0 rfl (fun z => a (Or.inl z)) (fun z => a (Or.inr z)) (br_t rfl (jr_cl1 rfl (e.resolve_left a) (br_f (by decide) J2)))
  · refine jr_op0 rfl (fun z => e1 (Or.inl z)) (fun z => e1 (Or.inr z)) (br_t rfl (jr_cl0 rfl (fun z => e2 (Or.inl z)) (fun z => e2 (Or.inr z)) (br_t rfl ⟨vp_in_nI hi (by decide), ?_⟩)))
    rw [cl]
    exact jr_y255 hi hq h
theorem jr_y184 {q j : Nat} {k v : Int32} (hi : i < 96) (hq : q < 96) (hj : j < 96)
    (ev : (((k = 8 ∨ k = 11) ∨ (k = 10 ∨ k = 13)) ∧ v = la j) ∨ ((¬ (k = 8 ∨ k = 11) ∧ ¬ (k = 10 ∨ k = 13)) ∧ v = la i))
    (h : J (nI (i + 1)) st nk na nb lk la lb fr nv me (upd po i (nI q)) (upd wk q (jr_ik k)) (upd wa q v) (upd wb q (lb i))) :
    wY_invert_184 post J (nI i) k (nI j) (nI q) vl ll nl fl rd nc lc fc gy ck st nk na nb lk la lb fr nv me po wk wa wb := by
  have cl : (nI i).toNatClampNeg = i := nI_clamp (by omega)
  refine ⟨vp_in_nI hi (by decide), nm_r (e' := upd po i (nI q)) (by rw [cl]) ?_⟩
  by_cases a : k = 2
  · refine br_t a (jr_y217 hi hq hj ev ?_)
    rw [a, jr_ik2] at h; exact h
  by_cases b : k = 3
  · refine br_f a (br_t b (jr_y217 hi hq hj ev ?_))
    rw [b, jr_ik3] at h; exact h
  · refine br_f a (br_f b (jr_y217 hi hq hj ev ?_))
    rw [jr_iko a b] at h; exact h
/-- what line i with place q leaves behind -/
theorem jr_yi_pe {k : Int32} (hN : N ≤ 96) (hi : i < N) (e : lk i = k) (ek : k = 0 ∨ k = 1)
    (h : wY_invert_21 post vl ll nl fl rd nc (nI N) fc gy ck n (nI (i + 1)) st nk na nb lk la lb fr nv me (upd po i (nI i)) (upd wk i (jr_ik k)) (upd wa i (la i)) (upd wb i (lb i))) :
    wY_invert_21 post vl ll nl fl rd nc (nI N) fc gy ck (n + 1) (nI i) st nk na nb lk la lb fr nv me po wk wa wb := by
  have cl : (nI i).toNatClampNeg = i := nI_clamp (by omega)
  have vi : vp_in (nI i) 96 := vp_in_nI (by omega) (by decide)
  have f : ¬ k = 8 ∧ ¬ k = 11 ∧ ¬ k = 10 ∧ ¬ k = 13 ∧ ¬ k = 9 ∧ ¬ k = 12 := by rcases ek with rfl | rfl <;> decide
  have J2 : wY_invert_184 post (wY_invert_21 post vl ll nl fl rd nc (nI N) fc gy ck n) (nI i) k (nI i) (nI i) vl ll nl fl rd nc (nI N) fc gy ck st nk na nb lk la lb fr nv me po wk wa wb :=
    jr_y184 (by omega) (by omega) (by omega) (Or.inr ⟨⟨fun z => z.elim f.1 f.2.1, fun z => z.elim f.2.2.1 f.2.2.2.1⟩, rfl⟩) h
  refine br_f (nI_ge hi (by omega)) ⟨vi, nm_r (e' := k) (by rw [cl]; exact e) (jr_op0 rfl f.1 f.2.1 (br_t rfl ?_))⟩
  unfold wY_invert_65
  refine jr_cl0 rfl f.2.2.1 f.2.2.2.1 (br_t rfl (jr_mi0 rfl f.2.2.2.2.1 f.2.2.2.2.2 (br_t rfl ?_)))
  unfold wY_invert_106
  refine jr_cl0 rfl f.2.2.1 f.2.2.2.1 (br_t rfl (jr_mi0 rfl f.2.2.2.2.1 f.2.2.2.2.2 (br_t rfl ?_)))
  by_cases k0 : k = 0
  · exact br_t k0 J2
  · exact br_f k0 (br_t (ek.resolve_left k0) J2)
theorem jr_y106 {R : Nat → Nat → Nat → Prop} {k : Int32} {o e j q : Nat} (hN : N ≤ 96) (hi : i < N) (f : ¬ k = 0 ∧ ¬ k = 1 ∧ ¬ k = 10 ∧ ¬ k = 13 ∧ ¬ k = 9 ∧ ¬ k = 12)
    (ho : o < i) (hq : jr_Sq lk R (o + 1) i) (own : jr_Own (lk o)) (he : e < N) (se : jr_Sq lk R (j + 1) e) (ke : jr_End (lk e)) (hj : j < 96)
    (ep : po o + nI e - nI j = nI q) (h : wY_invert_184 post J (nI i) k (nI j) (nI q) vl ll nl fl rd nc (nI N) fc gy ck st nk na nb lk la lb fr nv me po wk wa wb) :
    wY_invert_106 post J (nI i) k (nI j) vl ll nl fl rd nc (nI N) fc gy ck st nk na nb lk la lb fr nv me po wk wa wb := by
  unfold wY_invert_106
  refine jr_cl0 rfl f.2.2.1 f.2.2.2.1 (br_t rfl (jr_mi0 rfl f.2.2.2.2.1 f.2.2.2.2.2 (br_t rfl (br_f f.1 (br_f f.2.1 ?_)))))
  refine jr_yow (by omega) hq own ?_
  rw [nI_1 j]
  refine jr_yse hN he se ke ?_
  refine br_f (nI_pos (by omega)) ⟨vp_in_nI (by omega) (by decide), nm_r (e' := nI q) ?_ h⟩
  rw [nI_clamp (show o < 2 ^ 31 by omega)]; exact ep
theorem jr_yi_s {R : Nat → Nat → Nat → Prop} {o e q : Nat} (hN : N ≤ 96) (hi : i < N) (s : jr_Smp (lk i)) (hq96 : q < 96)
    (ho : o < i) (hq : jr_Sq lk R (o + 1) i) (own : jr_Own (lk o)) (he : e < N) (se : jr_Sq lk R (i + 1) e) (ke : jr_End (lk e))
    (ep : po o + nI e - nI i = nI q)
    (h : wY_invert_21 post vl ll nl fl rd nc (nI N) fc gy ck n (nI (i + 1)) st nk na nb lk la lb fr nv me (upd po i (nI q)) (upd wk q (jr_ik (lk i))) (upd wa q (la i)) (upd wb q (lb i))) :
    wY_invert_21 post vl ll nl fl rd nc (nI N) fc gy ck (n + 1) (nI i) st nk na nb lk la lb fr nv me po wk wa wb := by
  have cl : (nI i).toNatClampNeg = i := nI_clamp (by omega)
  have vi : vp_in (nI i) 96 := vp_in_nI (by omega) (by decide)
  have f := jr_smf s
  have J2 : wY_invert_184 post (wY_invert_21 post vl ll nl fl rd nc (nI N) fc gy ck n) (nI i) (lk i) (nI i) (nI q) vl ll nl fl rd nc (nI N) fc gy ck st nk na nb lk la lb fr nv me po wk wa wb :=
    jr_y184 (by omega) hq96 (by omega) (Or.inr ⟨⟨fun z => z.elim f.2.2.1 f.2.2.2.2.2.1, fun z => z.elim f.2.2.2.2.1 f.2.2.2.2.2.2.2⟩, rfl⟩) h
  refine br_f (nI_ge hi (by omega)) ⟨vi, nm_r (e' := lk i) (by rw [cl]) (jr_op0 rfl f.2.2.1 f.2.2.2.2.2.1 (br_t rfl ?_))⟩
  unfold wY_invert_65
  refine jr_cl0 rfl f.2.2.2.2.1 f.2.2.2.2.2.2.2 (br_t rfl (jr_mi0 rfl f.2.2.2.1 f.2.2.2.2.2.2.1 (br_t rfl ?_)))
  exact jr_y106 hN hi ⟨f.1, f.2.1, f.2.2.2.2.1, f.2.2.2.2.2.2.2, f.2.2.2.1, f.2.2.2.2.2.2.1⟩ ho hq own he se ke (by omega) ep J2
theorem jr_yi_o {R : Nat → Nat → Nat → Prop} {o e q m t : Nat} (hN : N ≤ 96) (ht : t < N) (s : jr_Tri (lk i) (lk m) (lk t)) (hq96 : q < 96)
    (q1 : jr_Sq lk R (i + 1) m) (q2 : jr_Sq lk R (m + 1) t)
    (ho : o < i) (hq : jr_Sq lk R (o + 1) i) (own : jr_Own (lk o)) (he : e < N) (se : jr_Sq lk R (t + 1) e) (ke : jr_End (lk e))
    (ep : po o + nI e - nI t = nI q)
    (h : wY_invert_21 post vl ll nl fl rd nc (nI N) fc gy ck n (nI (i + 1)) st nk na nb lk la lb fr nv me (upd po i (nI q)) (upd wk q (jr_ik (lk i))) (upd wa q (la t)) (upd wb q (lb i))) :
    wY_invert_21 post vl ll nl fl rd nc (nI N) fc gy ck (n + 1) (nI i) st nk na nb lk la lb fr nv me po wk wa wb := by
  have l1 := jr_sqle q1
  have l2 := jr_sqle q2
  have cl : (nI i).toNatClampNeg = i := nI_clamp (by omega)
  have vi : vp_in (nI i) 96 := vp_in_nI (by omega) (by decide)
  have f := jr_opf (jr_t1 s)
  have J2 : wY_invert_184 post (wY_invert_21 post vl ll nl fl rd nc (nI N) fc gy ck n) (nI i) (lk i) (nI t) (nI q) vl ll nl fl rd nc (nI N) fc gy ck st nk na nb lk la lb fr nv me po wk wa wb :=
    jr_y184 (by omega) hq96 (by omega) (Or.inl ⟨Or.inl (jr_t1 s), rfl⟩) h
  have J3 : wY_invert_65 post (wY_invert_21 post vl ll nl fl rd nc (nI N) fc gy ck n) (nI i) (lk i) (nI t) vl ll nl fl rd nc (nI N) fc gy ck st nk na nb lk la lb fr nv me po wk wa wb := by
    unfold wY_invert_65
    refine jr_cl0 rfl f.2.2.2.2.1 f.2.2.2.2.2 (br_t rfl (jr_mi0 rfl f.2.2.1 f.2.2.2.1 (br_t rfl ?_)))
    exact jr_y106 hN (by omega) ⟨f.1, f.2.1, f.2.2.2.2.1, f.2.2.2.2.2, f.2.2.1, f.2.2.2.1⟩ ho hq own he se ke (by omega) ep J2
  refine br_f (nI_ge (by omega) (by omega)) ⟨vi, nm_r (e' := lk i) (by rw [cl]) (jr_op1 rfl (jr_t1 s) (br_f (by decide) ?_))⟩
  rcases s with ⟨s1, s2, s3⟩ | ⟨s1, s2, s3⟩
  · refine br_t s1 ?_
    unfold wY_invert_61
    exact jr_ypa (r := t) hN ht (Or.inl ⟨s1, s2, s3⟩) q1 q2 (Or.inl rfl) (Or.inr (Or.inr ⟨s3.symm, rfl⟩)) J3
  · refine br_f (by rw [s1]; decide) ?_
    unfold wY_invert_61
    exact jr_ypa (r := t) hN ht (Or.inr ⟨s1, s2, s3⟩) q1 q2 (Or.inl rfl) (Or.inr (Or.inr ⟨s3.symm, rfl⟩)) J3
theorem jr_y125 {k : Int32} {h q : Nat} (hh : h < 96) (ep : po h + nI i - nI h = nI q) (z : wY_invert_184 post J (nI i) k (nI h) (nI q) vl ll nl fl rd nc lc fc gy ck st nk na nb lk la lb fr nv me po wk wa wb) :
    wY_invert_125 post J (nI i) k (nI h) vl ll nl fl rd nc lc fc gy ck st nk na nb lk la lb fr nv me po wk wa wb := by
  unfold wY_invert_125
  exact ⟨vp_in_nI hh (by decide), nm_r (e' := nI q) (by rw [nI_clamp (show h < 2 ^ 31 by omega)]; exact ep) z⟩
theorem jr_yi_m {R : Nat → Nat → Nat → Prop} {q h t : Nat} (hN : N ≤ 96) (ht : t < N) (s : jr_Tri (lk h) (lk i) (lk t)) (hq96 : q < 96)
    (q1 : jr_Sq lk R (h + 1) i) (q2 : jr_Sq lk R (i + 1) t) (ep : po h + nI i - nI h = nI q)
    (w : wY_invert_21 post vl ll nl fl rd nc (nI N) fc gy ck n (nI (i + 1)) st nk na nb lk la lb fr nv me (upd po i (nI q)) (upd wk q (jr_ik (lk i))) (upd wa q (la i)) (upd wb q (lb i))) :
    wY_invert_21 post vl ll nl fl rd nc (nI N) fc gy ck (n + 1) (nI i) st nk na nb lk la lb fr nv me po wk wa wb := by
  have l1 := jr_sqle q1
  have l2 := jr_sqle q2
  have cl : (nI i).toNatClampNeg = i := nI_clamp (by omega)
  have vi : vp_in (nI i) 96 := vp_in_nI (by omega) (by decide)
  have f := jr_mif (jr_t2 s)
  have J2 : wY_invert_184 post (wY_invert_21 post vl ll nl fl rd nc (nI N) fc gy ck n) (nI i) (lk i) (nI h) (nI q) vl ll nl fl rd nc (nI N) fc gy ck st nk na nb lk la lb fr nv me po wk wa wb :=
    jr_y184 (by omega) hq96 (by omega) (Or.inr ⟨⟨fun z => z.elim f.2.2.1 f.2.2.2.1, fun z => z.elim f.2.2.2.2.1 f.2.2.2.2.2⟩, rfl⟩) w
  have J3 : wY_invert_106 post (wY_invert_21 post vl ll nl fl rd nc (nI N) fc gy ck n) (nI i) (lk i) (nI h) vl ll nl fl rd nc (nI N) fc gy ck st nk na nb lk la lb fr nv me po wk wa wb := by
    unfold wY_invert_106
    exact jr_cl0 rfl f.2.2.2.2.1 f.2.2.2.2.2 (br_t rfl (jr_mi1 rfl (jr_t2 s) (br_f (by decide) (jr_y125 (by omega) ep J2))))
  refine br_f (nI_ge (by omega) (by omega)) ⟨vi, nm_r (e' := lk i) (by rw [cl]) (jr_op0 rfl f.2.2.1 f.2.2.2.1 (br_t rfl ?_))⟩
  unfold wY_invert_65
  refine jr_cl0 rfl f.2.2.2.2.1 f.2.2.2.2.2 (br_t rfl (jr_mi1 rfl (jr_t2 s) (br_f (by decide) ?_)))
  unfold wY_invert_81
  rcases s with ⟨s1, s2, s3⟩ | ⟨s1, s2, s3⟩
  · refine br_t s2 ?_
    unfold wY_invert_95 wY_invert_102
    exact jr_ypa (r := h) hN ht (Or.inl ⟨s1, s2, s3⟩) q1 q2 (Or.inr (Or.inl rfl)) (Or.inl ⟨s1.symm, rfl⟩) J3
  · refine br_f (by rw [s2]; decide) (br_f (by rw [s2]; decide) ?_)
    unfold wY_invert_102
    exact jr_ypa (r := h) hN ht (Or.inr ⟨s1, s2, s3⟩) q1 q2 (Or.inr (Or.inl rfl)) (Or.inl ⟨s1.symm, rfl⟩) J3
theorem jr_yi_c {R : Nat → Nat → Nat → Prop} {q h m : Nat} (hN : N ≤ 96) (hi : i < N) (s : jr_Tri (lk h) (lk m) (lk i)) (hq96 : q < 96)
    (q1 : jr_Sq lk R (h + 1) m) (q2 : jr_Sq lk R (m + 1) i) (ep : po h + nI i - nI h = nI q)
    (w : wY_invert_21 post vl ll nl fl rd nc (nI N) fc gy ck n (nI (i + 1)) st nk na nb lk la lb fr nv me (upd po i (nI q)) (upd wk q (jr_ik (lk i))) (upd wa q (la h)) (upd wb q (lb i))) :
    wY_invert_21 post vl ll nl fl rd nc (nI N) fc gy ck (n + 1) (nI i) st nk na nb lk la lb fr nv me po wk wa wb := by
  have l1 := jr_sqle q1
  have l2 := jr_sqle q2
  have cl : (nI i).toNatClampNeg = i := nI_clamp (by omega)
  have vi : vp_in (nI i) 96 := vp_in_nI (by omega) (by decide)
  have f := jr_clf (jr_t3 s)
  have J2 : wY_invert_184 post (wY_invert_21 post vl ll nl fl rd nc (nI N) fc gy ck n) (nI i) (lk i) (nI h) (nI q) vl ll nl fl rd nc (nI N) fc gy ck st nk na nb lk la lb fr nv me po wk wa wb :=
    jr_y184 (by omega) hq96 (by omega) (Or.inl ⟨Or.inr (jr_t3 s), rfl⟩) w
  have J3 : wY_invert_106 post (wY_invert_21 post vl ll nl fl rd nc (nI N) fc gy ck n) (nI i) (lk i) (nI h) vl ll nl fl rd nc (nI N) fc gy ck st nk na nb lk la lb fr nv me po wk wa wb := by
    unfold wY_invert_106
    exact jr_cl1 rfl (jr_t3 s) (br_f (by decide) (jr_y125 (by omega) ep J2))
  refine br_f (nI_ge (by omega) (by omega)) ⟨vi, nm_r (e' := lk i) (by rw [cl]) (jr_op0 rfl f.2.2.1 f.2.2.2.1 (br_t rfl ?_))⟩
  unfold wY_invert_65
  refine jr_cl1 rfl (jr_t3 s) (br_f (by decide) ?_)
  unfold wY_invert_81
  rcases s with ⟨s1, s2, s3⟩ | ⟨s1, s2, s3⟩
  · refine br_f (by rw [s3]; decide) (br_t s3 ?_)
    unfold wY_invert_95 wY_invert_102
    exact jr_ypa (r := h) hN hi (Or.inl ⟨s1, s2, s3⟩) q1 q2 (Or.inr (Or.inr rfl)) (Or.inl ⟨s1.symm, rfl⟩) J3
  · refine br_f (by rw [s3]; decide) (br_f (by rw [s3]; decide) ?_)
    unfold wY_invert_102
    exact jr_ypa (r := h) hN hi (Or.inr ⟨s1, s2, s3⟩) q1 q2 (Or.inr (Or.inr rfl)) (Or.inl ⟨s1.symm, rfl⟩) J3
end JRI
section JRI2
variable {vl ll nl fl nc lc pc oc rd gp fc se ck pl pg pm gy : Int32} {st nk na nb nm nv lk la lb ho mo tl ph pt oi tg sm wk wa wb fr me po : Nat → Int32}
variable {post : Int32 → SY → Prop} {N : Nat} {P : Nat → Nat}
/-! Y's invert: a sequence, the program -/
theorem jr_ymi {lo hi s : Nat} (hN : N ≤ 96) (hP : ∀ j, j < N → P j < N) (H : jr_Tq lk (jr_Lk ho mo tl) P lo hi s) : hi < N → jr_End (lk hi) →
    ∀ o, s = P o + 1 → o < lo → jr_Sq lk (jr_Lk ho mo tl) (o + 1) lo → jr_Own (lk o) → ∀ (po : Nat → Int32) (n : Nat), (∀ j, j < lo → po j = nI (P j)) →
    (∀ po' : Nat → Int32, (∀ j, j < hi → po' j = nI (P j)) →
      wY_invert_21 post vl ll nl fl rd nc (nI N) fc gy ck n (nI hi) st nk na nb lk la lb fr nv me po' (jr_wr P (fun i => jr_ik (lk i)) wk hi) (jr_wr P (jr_ia lk la ho tl) wa hi) (jr_wr P lb wb hi)) →
    wY_invert_21 post vl ll nl fl rd nc (nI N) fc gy ck (n + (hi - lo)) (nI lo) st nk na nb lk la lb fr nv me po (jr_wr P (fun i => jr_ik (lk i)) wk lo) (jr_wr P (jr_ia lk la ho tl) wa lo) (jr_wr P lb wb lo) := by
  refine jr_tqi (Q := fun lo hi s => hi < N → jr_End (lk hi) →
    ∀ o, s = P o + 1 → o < lo → jr_Sq lk (jr_Lk ho mo tl) (o + 1) lo → jr_Own (lk o) → ∀ (po : Nat → Int32) (n : Nat), (∀ j, j < lo → po j = nI (P j)) →
    (∀ po' : Nat → Int32, (∀ j, j < hi → po' j = nI (P j)) →
      wY_invert_21 post vl ll nl fl rd nc (nI N) fc gy ck n (nI hi) st nk na nb lk la lb fr nv me po' (jr_wr P (fun i => jr_ik (lk i)) wk hi) (jr_wr P (jr_ia lk la ho tl) wa hi) (jr_wr P lb wb hi)) →
    wY_invert_21 post vl ll nl fl rd nc (nI N) fc gy ck (n + (hi - lo)) (nI lo) st nk na nb lk la lb fr nv me po (jr_wr P (fun i => jr_ik (lk i)) wk lo) (jr_wr P (jr_ia lk la ho tl) wa lo) (jr_wr P lb wb lo)) ?_ ?_ ?_ H
  · intro i s hi ke o es ol oq own po n hp kont
    rw [Nat.sub_self]
    exact kont po hp
  · intro i j s a b w ih hj ke o es ol oq own po n hp kont
    have l := jr_sqle (jr_tqsq w)
    have e : n + (j - i) = n + (j - (i + 1)) + 1 := by omega
    have p1 := hP i (by omega)
    have f := jr_smf a
    have ei : jr_ia lk la ho tl i = la i := jr_ian (fun z => z.elim f.2.2.1 f.2.2.2.2.2.1) (fun z => z.elim f.2.2.2.2.1 f.2.2.2.2.2.2.2)
    rw [e]
    refine jr_yi_s (q := P i) hN (by omega) a (by omega) ol oq own hj (jr_tqsq w) ke ?_ ?_
    · rw [hp o ol, nI_add, jr_sub (by omega)]
      exact congrArg nI (by omega)
    · have A := ih hj ke o es (by omega) (jr_sqap oq (jr_sq1 a (jr_sq0 _))) own (upd po i (nI (P i))) n (jr_tgs hp rfl) kont
      rw [jr_wrs, jr_wrs, jr_wrs, ei] at A
      exact A
  · intro h m t j s a r b c d x y w i1 i2 i3 hj ke o es ol oq own po n hp kont
    have a1 := jr_sqle (jr_tqsq x)
    have a2 := jr_sqle (jr_tqsq y)
    have a3 := jr_sqle (jr_tqsq w)
    have ph := hP h (by omega)
    have pm := hP m (by omega)
    have pt := hP t (by omega)
    have rh := r h (Or.inl rfl)
    have rt := r t (Or.inr (Or.inr rfl))
    have fm := jr_mif (jr_t2 a)
    have eh : jr_ia lk la ho tl h = la t := by rw [jr_iao (jr_t1 a), rh.2.2, nI_clamp (by omega)]
    have em : jr_ia lk la ho tl m = la m := jr_ian (fun z => z.elim fm.2.2.1 fm.2.2.2.1) (fun z => z.elim fm.2.2.2.2.1 fm.2.2.2.2.2)
    have et : jr_ia lk la ho tl t = la h := by rw [jr_iac (jr_t3 a), rt.1, nI_clamp (by omega)]
    have e : n + (j - h) = n + (j - (t + 1)) + 1 + (t - (m + 1)) + 1 + (m - (h + 1)) + 1 := by omega
    rw [e]
    refine jr_yi_o (q := P h) hN (by omega) a (by omega) (jr_tqsq x) (jr_tqsq y) ol oq own hj (jr_tqsq w) ke ?_ ?_
    · rw [hp o ol, nI_add, jr_sub (by omega)]
      exact congrArg nI (by omega)
    have A1 := i1 (by omega) (Or.inr (Or.inr (jr_t2 a))) h rfl (by omega) (jr_sq0 _) (Or.inr (Or.inl (jr_t1 a))) (upd po h (nI (P h))) (n + (j - (t + 1)) + 1 + (t - (m + 1)) + 1) (jr_tgs hp rfl) ?_
    · rw [jr_wrs, jr_wrs, jr_wrs, eh] at A1
      exact A1
    intro po1 hp1
    refine jr_yi_m (q := P m) hN (by omega) a (by omega) (jr_tqsq x) (jr_tqsq y) ?_ ?_
    · rw [hp1 h (by omega), nI_add, jr_sub (by omega)]
      exact congrArg nI (by omega)
    have A2 := i2 (by omega) (Or.inr (Or.inl (jr_t3 a))) m rfl (by omega) (jr_sq0 _) (Or.inr (Or.inr (jr_t2 a))) (upd po1 m (nI (P m))) (n + (j - (t + 1)) + 1) (jr_tgs hp1 rfl) ?_
    · rw [jr_wrs, jr_wrs, jr_wrs, em] at A2
      exact A2
    intro po2 hp2
    refine jr_yi_c (q := P t) hN (by omega) a (by omega) (jr_tqsq x) (jr_tqsq y) ?_ ?_
    · rw [hp2 h (by omega), nI_add, jr_sub (by omega)]
      exact congrArg nI (by omega)
    have A3 := i3 hj ke o es (by omega) (jr_sqap oq (jr_sq2 a r (jr_tqsq x) (jr_tqsq y) (jr_sq0 _))) own (upd po2 t (nI (P t))) n (jr_tgs hp2 rfl) kont
    rw [jr_wrs, jr_wrs, jr_wrs, et] at A3
    exact A3
theorem jr_ymp {lo hi : Nat} (hN : N ≤ 96) (hP : ∀ j, j < N → P j < N) (H : jr_Pp lk (jr_Lk ho mo tl) P lo hi) : hi ≤ N → ∀ (po : Nat → Int32) (n : Nat), (∀ j, j < lo → po j = nI (P j)) →
    (∀ po' : Nat → Int32, (∀ j, j < hi → po' j = nI (P j)) →
      wY_invert_21 post vl ll nl fl rd nc (nI N) fc gy ck n (nI hi) st nk na nb lk la lb fr nv me po' (jr_wr P (fun i => jr_ik (lk i)) wk hi) (jr_wr P (jr_ia lk la ho tl) wa hi) (jr_wr P lb wb hi)) →
    wY_invert_21 post vl ll nl fl rd nc (nI N) fc gy ck (n + (hi - lo)) (nI lo) st nk na nb lk la lb fr nv me po (jr_wr P (fun i => jr_ik (lk i)) wk lo) (jr_wr P (jr_ia lk la ho tl) wa lo) (jr_wr P lb wb lo) := by
  refine jr_ppi (Q := fun lo hi => hi ≤ N → ∀ (po : Nat → Int32) (n : Nat), (∀ j, j < lo → po j = nI (P j)) →
    (∀ po' : Nat → Int32, (∀ j, j < hi → po' j = nI (P j)) →
      wY_invert_21 post vl ll nl fl rd nc (nI N) fc gy ck n (nI hi) st nk na nb lk la lb fr nv me po' (jr_wr P (fun i => jr_ik (lk i)) wk hi) (jr_wr P (jr_ia lk la ho tl) wa hi) (jr_wr P lb wb hi)) →
    wY_invert_21 post vl ll nl fl rd nc (nI N) fc gy ck (n + (hi - lo)) (nI lo) st nk na nb lk la lb fr nv me po (jr_wr P (fun i => jr_ik (lk i)) wk lo) (jr_wr P (jr_ia lk la ho tl) wa lo) (jr_wr P lb wb lo)) ?_ ?_ H
  · intro i hi po n hp kont
    rw [Nat.sub_self]
    exact kont po hp
  · intro p e j a b c d s w ih hj po n hp kont
    have a1 := jr_sqle (jr_tqsq s)
    have a2 := jr_pgle (jr_pppg w)
    have ep : jr_ia lk la ho tl p = la p := jr_ian (by rw [a]; decide) (by rw [a]; decide)
    have ee : jr_ia lk la ho tl e = la e := jr_ian (by rw [b]; decide) (by rw [b]; decide)
    have en : n + (j - p) = n + (j - (e + 1)) + 1 + (e - (p + 1)) + 1 := by omega
    rw [en]
    refine jr_yi_pe hN (by omega) rfl (Or.inl a) ?_
    have A1 := jr_ymi (post := post) (vl := vl) (ll := ll) (nl := nl) (fl := fl) (rd := rd) (nc := nc) (fc := fc) (gy := gy) (ck := ck) (st := st) (nk := nk) (na := na) (nb := nb) (la := la) (lb := lb) (fr := fr) (nv := nv) (me := me) (wk := wk) (wa := wa) (wb := wb) hN hP s (by omega) (Or.inl b) p (by rw [c]) (by omega) (jr_sq0 _) (Or.inl a) (upd po p (nI p)) (n + (j - (e + 1)) + 1) (jr_tgs hp (by rw [c])) ?_
    · rw [jr_wrs, jr_wrs, jr_wrs, ep, c] at A1
      exact A1
    intro po1 hp1
    refine jr_yi_pe hN (by omega) rfl (Or.inr b) ?_
    have A2 := ih hj (upd po1 e (nI e)) n (jr_tgs hp1 (by rw [d])) kont
    rw [jr_wrs, jr_wrs, jr_wrs, ee, d] at A2
    exact A2
theorem jr_ypl0 {i0 : Nat} (hN : N ≤ 96) (h0 : i0 < N) (k0 : lk i0 = 0) (c0 : jr_cp lk i0 = 0) (h : post 0 (vl, ll, nl, fl, 1, nc, (nI N), 0, (nI (i0 + 1)), 0, st, nk, na, nb, lk, la, lb, fr, nv, me, po, wk, wa, wb)) :
    wpY_place post (vl, ll, nl, fl, 1, nc, (nI N), fc, gy, ck, st, nk, na, nb, lk, la, lb, fr, nv, me, po, wk, wa, wb) 0 := by
  refine br_f (by decide) (br_t rfl ?_)
  unfold wY_place_21
  exact br_t rfl (jr_yfg (p := 0) hN h0 k0 c0 h)
theorem jr_y277 {i0 : Nat} (hN : N ≤ 96) (h0 : i0 < N) (k0 : jr_cy lk wk N i0 = 0) (c0 : jr_cp (jr_cy lk wk N) i0 = 0)
    (h : post 0 (vl, ll, nl, fl, 1, nc, (nI N), 0, (nI (i0 + 1)), 0, st, nk, na, nb, (jr_cy lk wk N), (jr_cy la wa N), (jr_cy lb wb N), fr, nv, me, po, wk, wa, wb)) :
    ∀ d i, i + d = N → wY_invert_277 post vl ll nl fl 1 nc (nI N) fc gy ck (d + 1) (nI i) st nk na nb (jr_cy lk wk i) (jr_cy la wa i) (jr_cy lb wb i) fr nv me po wk wa wb := by
  intro d
  induction d with
  | zero =>
    intro i e
    have e : i = N := by omega
    subst e
    exact br_t (nI_le (by omega) (by omega)) (jr_ypl0 hN h0 k0 c0 h)
  | succ d ih =>
    intro i e
    have W := ih (i + 1) (by omega)
    have cl : (nI i).toNatClampNeg = i := nI_clamp (by omega)
    have vi : vp_in (nI i) 96 := vp_in_nI (by omega) (by decide)
    exact br_f (nI_ge (by omega) (by omega)) ⟨vi, vi, nm_r (e' := jr_cy lk wk (i + 1)) (by rw [cl, jr_cys]) ⟨vi, vi, nm_r (e' := jr_cy la wa (i + 1)) (by rw [cl, jr_cys])
      ⟨vi, vi, nm_r (e' := jr_cy lb wb (i + 1)) (by rw [cl, jr_cys]) (nm_r (nI_1 i) W)⟩⟩⟩
/-- the loop of Y's invert, whole -/
theorem jr_yinv {i0 : Nat} (hN : N ≤ 96) (hP : ∀ j, j < N → P j < N) (H : jr_Pp lk (jr_Lk ho mo tl) P 0 N) (h0 : i0 < N)
    (k0 : jr_cy lk (jr_wr P (fun i => jr_ik (lk i)) wk N) N i0 = 0) (c0 : jr_cp (jr_cy lk (jr_wr P (fun i => jr_ik (lk i)) wk N) N) i0 = 0)
    (h : ∀ po : Nat → Int32, post 0 (vl, ll, nl, fl, 1, nc, (nI N), 0, (nI (i0 + 1)), 0, st, nk, na, nb, (jr_cy lk (jr_wr P (fun i => jr_ik (lk i)) wk N) N), (jr_cy la (jr_wr P (jr_ia lk la ho tl) wa N) N), (jr_cy lb (jr_wr P lb wb N) N), fr, nv, me, po, (jr_wr P (fun i => jr_ik (lk i)) wk N), (jr_wr P (jr_ia lk la ho tl) wa N), (jr_wr P lb wb N))) :
    ∃ n, wY_invert_21 post vl ll nl fl 1 nc (nI N) fc gy ck n 0 st nk na nb lk la lb fr nv me po wk wa wb := by
  have A := jr_ymp (post := post) (lo := 0) (hi := N) (vl := vl) (ll := ll) (nl := nl) (fl := fl) (rd := 1) (nc := nc) (fc := fc) (gy := gy) (ck := ck) (st := st) (nk := nk) (na := na) (nb := nb) (la := la) (lb := lb) (fr := fr) (nv := nv) (me := me) (wk := wk) (wa := wa) (wb := wb) hN hP H (Nat.le_refl N) po 1 (fun j hj => absurd hj (Nat.not_lt_zero j))
    (fun po' _ => br_t (nI_le (Nat.le_refl N) (by omega)) ⟨_, jr_y277 hN h0 k0 c0 (h po') N 0 (by omega)⟩)
  exact ⟨_, A⟩
end JRI2
end
section
section JRJ
variable {vl ll nl fl nc lc pc oc rd gp fc se ck pl pg pm gy : Int32} {st nk na nb nm nv lk la lb ho mo tl ph pt oi tg sm wk wa wb fr me po : Nat → Int32}
variable {N n : Nat} {P : Nat → Nat} {R : Nat → Nat → Nat → Prop}
/-! the new program -/
theorem jr_nwv {f v w : Nat → Int32} {j : Nat} (H : jr_Pp lk R P 0 N) (hj : j < N) : jr_cy f (jr_wr P v w N) N (P j) = v j := by
  rw [jr_cyv N (P j) (jr_ppra H j (by omega) hj).2]
  exact jr_wrv (fun i k hi hk e => jr_ppin H i k (by omega) hi (by omega) hk e) N (Nat.le_refl N) j hj
theorem jr_ik234 {k : Int32} (h : jr_ik k = 2 ∨ jr_ik k = 3 ∨ jr_ik k = 4) : k = 2 ∨ k = 3 ∨ k = 4 := by
  by_cases a : k = 2
  · exact Or.inl a
  by_cases b : k = 3
  · exact Or.inr (Or.inl b)
  rw [jr_iko a b] at h; exact h
theorem jr_ik5 {k v : Int32} (h2 : ¬ v = 2) (h3 : ¬ v = 3) (h : jr_ik k = v) : k = v := by
  by_cases a : k = 2
  · rw [a, jr_ik2] at h; exact absurd h.symm h3
  by_cases b : k = 3
  · rw [b, jr_ik3] at h; exact absurd h.symm h2
  rw [jr_iko a b] at h; exact h
theorem jr_ikd {k : Int32} (h : jr_Kd k) : jr_Kd (jr_ik k) := by
  by_cases a : k = 2
  · rw [a, jr_ik2]; unfold jr_Kd; decide
  by_cases b : k = 3
  · rw [b, jr_ik3]; unfold jr_Kd; decide
  rw [jr_iko a b]; exact h
theorem jr_ias {j : Nat} (s : jr_Smp (lk j)) : jr_ia lk la ho tl j = la j := by
  have f := jr_smf s
  exact jr_ian (fun z => z.elim f.2.2.1 f.2.2.2.2.2.1) (fun z => z.elim f.2.2.2.2.1 f.2.2.2.2.2.2.2)
theorem jr_L1i {j : Nat} (L : jr_L1 n (lk j) (la j) (lb j)) : jr_L1 n (jr_ik (lk j)) (jr_ia lk la ho tl j) (lb j) := by
  refine ⟨jr_ikd L.1, fun z => ?_, fun z => ?_, fun z => ?_⟩
  · have k := jr_ik234 z
    rw [jr_ias (by rcases k with k | k | k <;> rw [k] <;> unfold jr_Smp <;> decide)]
    exact L.2.1 k
  · have k := jr_ik5 (by decide) (by decide) z
    rw [jr_ias (by rw [k]; unfold jr_Smp; decide)]
    exact L.2.2.1 k
  · have k : lk j = 6 ∨ lk j = 7 := z.imp (jr_ik5 (by decide) (by decide)) (jr_ik5 (by decide) (by decide))
    rw [jr_ias (by rcases k with k | k <;> rw [k] <;> unfold jr_Smp <;> decide)]
    exact L.2.2.2 k
theorem jr_nwl (H : jr_Pp lk R P 0 N) (HL : jr_Li N n lk la lb) :
    jr_Li N n (jr_cy lk (jr_wr P (fun i => jr_ik (lk i)) wk N) N) (jr_cy la (jr_wr P (jr_ia lk la ho tl) wa N) N) (jr_cy lb (jr_wr P lb wb N) N) := by
  intro x hx
  obtain ⟨j, _, hj, rfl⟩ := jr_ppsu H x (by omega) hx
  rw [jr_nwv H hj, jr_nwv H hj, jr_nwv H hj]
  exact jr_L1i (HL j hj)
theorem jr_nwc (H : jr_Pp lk R P 0 N) (CT : jr_Ct lk la N N) :
    jr_Ct (jr_cy lk (jr_wr P (fun i => jr_ik (lk i)) wk N) N) (jr_cy la (jr_wr P (jr_ia lk la ho tl) wa N) N) N N := by
  intro x hx kx
  obtain ⟨j, _, hj, rfl⟩ := jr_ppsu H x (by omega) hx
  rw [jr_nwv H hj] at kx
  rw [jr_nwv H hj, jr_ppcp H (fun i hi => jr_nwv H hi)]
  have k : lk j = 6 ∨ lk j = 7 := kx.imp (jr_ik5 (by decide) (by decide)) (jr_ik5 (by decide) (by decide))
  rw [jr_ias (by rcases k with k | k <;> rw [k] <;> unfold jr_Smp <;> decide)]
  exact CT j hj k
theorem jr_nwp (H : jr_Pp lk R P 0 N) : jr_Pg (jr_cy lk (jr_wr P (fun i => jr_ik (lk i)) wk N) N) jr_T3 0 N :=
  jr_ppinv H (fun i _ hi => jr_nwv H hi)
theorem jr_pgk {lo hi : Nat} (H : jr_Pg lk R lo hi) : lo < hi → lk lo = 0 := by
  refine jr_pgi (P := fun lo hi => lo < hi → lk lo = 0) ?_ ?_ H
  · intro i z; exact absurd z (Nat.lt_irrefl i)
  · intro p e j a _ _ _ _ _; exact a
theorem jr_cppos (H : jr_Pg lk R 0 N) (hp : 0 < N) : 0 < jr_cp lk N := by
  have := jr_cpm (K := lk) (show 0 + 1 ≤ N by omega)
  rw [jr_cp1 (jr_pgk H hp)] at this
  omega
/-! at rest -/
def jr_ar (fc gp a b : Int32) : Int32 := if fc = 0 then (if gp = a then 1 else if gp = b then 1 else 0) else 0
theorem jr_xar {post : Int32 → Prop} {a b : Int32} (ea : ph 0 + 1 = a) (eb : pt 0 = b) (h : post (jr_ar fc gp a b)) : wpX_atRest post (vl, ll, nl, fl, nc, lc, pc, oc, rd, gp, fc, se, ck, pl, pg, pm, st, nk, na, nb, nm, nv, lk, la, lb, ho, mo, tl, ph, pt, oi, tg, sm, wk, wa, wb, fr) := by
  subst ea eb
  unfold jr_ar at h
  by_cases c : fc = 0
  · rw [if_pos c] at h
    refine br_t c ?_
    by_cases c1 : gp = ph 0 + 1
    · rw [if_pos c1] at h; exact br_t c1 h
    · rw [if_neg c1] at h
      refine br_f c1 ?_
      by_cases c2 : gp = pt 0
      · rw [if_pos c2] at h; exact br_t c2 h
      · rw [if_neg c2] at h; exact br_f c2 h
  · rw [if_neg c] at h; exact br_f c h
theorem jr_yar {post : Int32 → Prop} {i e : Nat} (hN : N ≤ 96) (he : e < N) (k0 : lk i = 0) (c0 : jr_cp lk i = 0) (q : jr_Sq lk R (i + 1) e) (k1 : lk e = 1)
    (h : post (jr_ar fc gy (nI (i + 1)) (nI e))) : wpY_atRest post (vl, ll, nl, fl, 1, nc, (nI N), fc, gy, ck, st, nk, na, nb, lk, la, lb, fr, nv, me, po, wk, wa, wb) := by
  have l := jr_sqle q
  unfold jr_ar at h
  refine br_f (by decide) ?_
  by_cases c : fc = 0
  · rw [if_pos c] at h
    refine br_t c (jr_yfg (p := 0) hN (by omega) k0 c0 ?_)
    by_cases c1 : gy = nI (i + 1)
    · rw [if_pos c1] at h; exact br_t c1 h
    · rw [if_neg c1] at h
      refine br_f c1 (jr_ylg (p := 0) hN he k0 c0 q k1 ?_)
      by_cases c2 : gy = nI e
      · rw [if_pos c2] at h; exact br_t c2 h
      · rw [if_neg c2] at h; exact br_f c2 h
  · rw [if_neg c] at h; exact br_f c h
end JRJ
section JRJ2
variable {vl ll nl fl nc lc pc oc rd gp fc se ck pl pg pm gy : Int32} {st nk na nb nm nv lk la lb ho mo tl ph pt oi tg sm wk wa wb fr me po : Nat → Int32}
variable {N n : Nat}
theorem jr_athl {i : Nat} (hN : N ≤ 96) (pg : jr_Pg lk (jr_Lk ho mo tl) 0 N) (hi : i < N) (k : (lk i = 8 ∨ lk i = 11) ∨ (lk i = 10 ∨ lk i = 13)) :
    ∃ h t, h < 96 ∧ t < 96 ∧ ho i = nI h ∧ tl i = nI t := by
  rcases jr_pgfl pg i (by omega) hi with z | z | z | ⟨h, m, t, h1, h2, h3, h4, _, r, _, _, e⟩
  · rcases k with (k | k) | (k | k) <;> rw [z] at k <;> exact absurd k (by decide)
  · rcases k with (k | k) | (k | k) <;> rw [z] at k <;> exact absurd k (by decide)
  · have f := jr_smf z
    rcases k with (k | k) | (k | k)
    · exact absurd k f.2.2.1
    · exact absurd k f.2.2.2.2.2.1
    · exact absurd k f.2.2.2.2.1
    · exact absurd k f.2.2.2.2.2.2.2
  · have L := r i e
    exact ⟨h, t, by omega, by omega, L.1, L.2.2⟩
theorem jr_inv {Q : SX → SY → Prop} (hN : N ≤ 96) (HL : jr_Li N n lk la lb) (hp : 0 < N) (CT : jr_Ct lk la N N) (pg0 : jr_Pg lk (jr_Lk ho mo tl) 0 N)
    (tab : ∀ p, p < jr_cp lk N → jr_Pt lk jr_T3 N ph pt p)
    (h1 : Q (vl, ll, nl, fl, nc, (nI N), (nI (jr_cp lk N)), oc, 1, gp, fc, se, ck, pl, pg, pm, st, nk, na, nb, nm, nv, lk, la, lb, ho, mo, tl, ph, pt, oi, tg, sm, wk, wa, wb, fr) (vl, ll, nl, fl, 1, nc, (nI N), fc, gp, ck, st, nk, na, nb, lk, la, lb, fr, nv, me, po, wk, wa, wb))
    (h2 : ∀ (lk la lb oi ho mo tl ph pt tg sm wk wa wb po : Nat → Int32) (i0 : Nat), jr_Li N n lk la lb → jr_Ct lk la N N → jr_Pg lk (jr_Lk ho mo tl) 0 N →
      (∀ p, p < jr_cp lk N → jr_Pt lk jr_T3 N ph pt p) →
      Q (vl, ll, nl, fl, nc, (nI N), (nI (jr_cp lk N)), (nI 0), 1, (nI (i0 + 1)), 0, 1, 0, pl, pg, pm, st, nk, na, nb, nm, nv, lk, la, lb, ho, mo, tl, ph, pt, oi, tg, sm, wk, wa, wb, fr) (vl, ll, nl, fl, 1, nc, (nI N), 0, (nI (i0 + 1)), 0, st, nk, na, nb, lk, la, lb, fr, nv, me, po, wk, wa, wb)) :
    wpX_invert (fun r u' => wpY_invert (fun r' v' => r' = r ∧ Q u' v') (vl, ll, nl, fl, 1, nc, (nI N), fc, gp, ck, st, nk, na, nb, lk, la, lb, fr, nv, me, po, wk, wa, wb)) (vl, ll, nl, fl, nc, (nI N), (nI (jr_cp lk N)), oc, 1, gp, fc, se, ck, pl, pg, pm, st, nk, na, nb, nm, nv, lk, la, lb, ho, mo, tl, ph, pt, oi, tg, sm, wk, wa, wb, fr) := by
  obtain ⟨a0, e0, ae, eN, k0, c0, q0, k1, hph, hpt⟩ := tab 0 (jr_cppos pg0 hp)
  refine br_f (by decide) (jr_xar (a := nI (a0 + 1)) (b := nI e0) (by rw [hph, nI_1]) hpt ?_)
  by_cases z : jr_ar fc gp (nI (a0 + 1)) (nI e0) = 0
  · exact br_t z (br_f (by decide) (jr_yar hN eN k0 c0 q0 k1 (br_t z ⟨rfl, h1⟩)))
  · refine br_f z ?_
    obtain ⟨P, H⟩ := jr_ppex pg0
    have hP : ∀ j, j < N → P j < N := fun j hj => (jr_ppra H j (by omega) hj).2
    refine jr_xmap hN tab H (fun tg' sm' hT => ?_)
    refine jr_xwr hN hP hT (fun i hi k => jr_athl hN pg0 hi k) ?_
    refine jr_xlk hN (jr_nwp H) (fun oi' ho' mo' tl' ph' pt' pg1 tab1 => ?_)
    obtain ⟨i0, e1, ie, eN', k0', c0', _, _, hph', _⟩ := tab1 0 (jr_cppos pg1 hp)
    refine br_t rfl (nm_r (e' := nI (i0 + 1)) (by rw [hph', nI_1]) ?_)
    refine br_f (by decide) (jr_yar hN eN k0 c0 q0 k1 (br_f z ?_))
    exact jr_yinv hN hP H (by omega) k0' c0' (fun po' => ⟨rfl, h2 _ _ _ oi' ho' mo' tl' ph' pt' tg' sm' _ _ _ po' i0 (jr_nwl H HL) (jr_nwc H CT) pg1 tab1⟩)
end JRJ2
end
section
section JRK
variable {vl ll nl fl nc lc pc oc rd gp fc se ck pl pg pm gy : Int32} {st nk na nb nm nv lk la lb ho mo tl ph pt oi tg sm wk wa wb fr me po : Nat → Int32}
variable {N n : Nat}
/-! tests: X -/
theorem jr_cv {post : Int32 → SY → Prop} {u : SY} {a b : Int32} (e : a = b) (w : post b u) : post a u := by rw [e]; exact w
theorem jr_xho0 {post : Int32 → SX → Prop} {q : Nat} {a : Int32} (hn : n ≤ 32) (HN : jr_Nd n nk na nb nm) (ea : a = nI q) (hq : q < 96)
    (c : jr_vr n st nk na nb nv (la q) = 0) (h : post 0 (vl, ll, nl, fl, (nI n), lc, pc, oc, rd, gp, fc, se, ck, pl, pg, pm, st, nk, na, nb, nm, (jr_vn n st nk na nb nv (la q)), lk, la, lb, ho, mo, tl, ph, pt, oi, tg, sm, wk, wa, wb, fr)) : wpX_holds post (vl, ll, nl, fl, (nI n), lc, pc, oc, rd, gp, fc, se, ck, pl, pg, pm, st, nk, na, nb, nm, nv, lk, la, lb, ho, mo, tl, ph, pt, oi, tg, sm, wk, wa, wb, fr) a := by
  subst ea
  refine ⟨vp_in_nI hq (by decide), ?_⟩
  rw [nI_clamp (show q < 2 ^ 31 by omega)]
  exact jr_xvo hn HN (br_t c h)
theorem jr_xho1 {post : Int32 → SX → Prop} {q : Nat} {a : Int32} (hn : n ≤ 32) (HN : jr_Nd n nk na nb nm) (ea : a = nI q) (hq : q < 96)
    (c : ¬ jr_vr n st nk na nb nv (la q) = 0) (h : post 1 (vl, ll, nl, fl, (nI n), lc, pc, oc, rd, gp, fc, se, ck, pl, pg, pm, st, nk, na, nb, nm, (jr_vn n st nk na nb nv (la q)), lk, la, lb, ho, mo, tl, ph, pt, oi, tg, sm, wk, wa, wb, fr)) : wpX_holds post (vl, ll, nl, fl, (nI n), lc, pc, oc, rd, gp, fc, se, ck, pl, pg, pm, st, nk, na, nb, nm, nv, lk, la, lb, ho, mo, tl, ph, pt, oi, tg, sm, wk, wa, wb, fr) a := by
  subst ea
  refine ⟨vp_in_nI hq (by decide), ?_⟩
  rw [nI_clamp (show q < 2 ^ 31 by omega)]
  exact jr_xvo hn HN (br_f c h)
variable {post : Int32 → SX → Prop} {q : Nat} {a p1 p2 g : Int32}
theorem jr_xch0 (hn : n ≤ 32) (HN : jr_Nd n nk na nb nm) (ea : a = nI q) (eg : p2 = g) (hq : q < 96)
    (c : jr_vr n st nk na nb nv (la q) = 0) (h : post 0 (vl, ll, nl, fl, (nI n), lc, pc, oc, rd, gp, fc, se, ck, pl, g, pm, st, nk, na, nb, nm, (jr_vn n st nk na nb nv (la q)), lk, la, lb, ho, mo, tl, ph, pt, oi, tg, sm, wk, wa, wb, fr)) : wpX_choose post (vl, ll, nl, fl, (nI n), lc, pc, oc, rd, gp, fc, se, ck, pl, pg, pm, st, nk, na, nb, nm, nv, lk, la, lb, ho, mo, tl, ph, pt, oi, tg, sm, wk, wa, wb, fr) a p1 p2 := by
  subst eg
  unfold wpX_choose
  exact jr_xho0 hn HN ea hq c (br_t rfl h)
theorem jr_xch1 (hn : n ≤ 32) (HN : jr_Nd n nk na nb nm) (ea : a = nI q) (eg : p1 = g) (hq : q < 96)
    (c : ¬ jr_vr n st nk na nb nv (la q) = 0) (h : post 0 (vl, ll, nl, fl, (nI n), lc, pc, oc, rd, gp, fc, se, ck, pl, g, pm, st, nk, na, nb, nm, (jr_vn n st nk na nb nv (la q)), lk, la, lb, ho, mo, tl, ph, pt, oi, tg, sm, wk, wa, wb, fr)) : wpX_choose post (vl, ll, nl, fl, (nI n), lc, pc, oc, rd, gp, fc, se, ck, pl, pg, pm, st, nk, na, nb, nm, nv, lk, la, lb, ho, mo, tl, ph, pt, oi, tg, sm, wk, wa, wb, fr) a p1 p2 := by
  subst eg
  unfold wpX_choose
  exact jr_xho1 hn HN ea hq c (br_f (by decide) h)
theorem jr_xwt0 (hn : n ≤ 32) (HN : jr_Nd n nk na nb nm) (ea : a = nI q) (hq : q < 96)
    (c : jr_vr n st nk na nb nv (la q) = 0) (h : post 2 (vl, ll, nl, fl, (nI n), lc, pc, oc, rd, gp, fc, se, ck, pl, pg, pm, st, nk, na, nb, nm, (jr_vn n st nk na nb nv (la q)), lk, la, lb, ho, mo, tl, ph, pt, oi, tg, sm, wk, wa, wb, fr)) : wpX_wantTrue post (vl, ll, nl, fl, (nI n), lc, pc, oc, rd, gp, fc, se, ck, pl, pg, pm, st, nk, na, nb, nm, nv, lk, la, lb, ho, mo, tl, ph, pt, oi, tg, sm, wk, wa, wb, fr) a p1 := by
  unfold wpX_wantTrue
  exact jr_xho0 hn HN ea hq c (br_t rfl h)
theorem jr_xwt1 (hn : n ≤ 32) (HN : jr_Nd n nk na nb nm) (ea : a = nI q) (eg : p1 = g) (hq : q < 96)
    (c : ¬ jr_vr n st nk na nb nv (la q) = 0) (h : post 0 (vl, ll, nl, fl, (nI n), lc, pc, oc, rd, gp, fc, se, ck, pl, g, pm, st, nk, na, nb, nm, (jr_vn n st nk na nb nv (la q)), lk, la, lb, ho, mo, tl, ph, pt, oi, tg, sm, wk, wa, wb, fr)) : wpX_wantTrue post (vl, ll, nl, fl, (nI n), lc, pc, oc, rd, gp, fc, se, ck, pl, pg, pm, st, nk, na, nb, nm, nv, lk, la, lb, ho, mo, tl, ph, pt, oi, tg, sm, wk, wa, wb, fr) a p1 := by
  subst eg
  unfold wpX_wantTrue
  exact jr_xho1 hn HN ea hq c (br_f (by decide) h)
theorem jr_xwf0 (hn : n ≤ 32) (HN : jr_Nd n nk na nb nm) (ea : a = nI q) (eg : p1 = g) (hq : q < 96)
    (c : jr_vr n st nk na nb nv (la q) = 0) (h : post 0 (vl, ll, nl, fl, (nI n), lc, pc, oc, rd, gp, fc, se, ck, pl, g, pm, st, nk, na, nb, nm, (jr_vn n st nk na nb nv (la q)), lk, la, lb, ho, mo, tl, ph, pt, oi, tg, sm, wk, wa, wb, fr)) : wpX_wantFalse post (vl, ll, nl, fl, (nI n), lc, pc, oc, rd, gp, fc, se, ck, pl, pg, pm, st, nk, na, nb, nm, nv, lk, la, lb, ho, mo, tl, ph, pt, oi, tg, sm, wk, wa, wb, fr) a p1 := by
  subst eg
  unfold wpX_wantFalse
  exact jr_xho0 hn HN ea hq c (br_t rfl h)
theorem jr_xwf1 (hn : n ≤ 32) (HN : jr_Nd n nk na nb nm) (ea : a = nI q) (hq : q < 96)
    (c : ¬ jr_vr n st nk na nb nv (la q) = 0) (h : post 3 (vl, ll, nl, fl, (nI n), lc, pc, oc, rd, gp, fc, se, ck, pl, pg, pm, st, nk, na, nb, nm, (jr_vn n st nk na nb nv (la q)), lk, la, lb, ho, mo, tl, ph, pt, oi, tg, sm, wk, wa, wb, fr)) : wpX_wantFalse post (vl, ll, nl, fl, (nI n), lc, pc, oc, rd, gp, fc, se, ck, pl, pg, pm, st, nk, na, nb, nm, nv, lk, la, lb, ho, mo, tl, ph, pt, oi, tg, sm, wk, wa, wb, fr) a p1 := by
  unfold wpX_wantFalse
  exact jr_xho1 hn HN ea hq c (br_f (by decide) h)
end JRK
section JRK2
variable {vl ll nl fl nc lc pc oc rd gp fc se ck pl pg pm gy : Int32} {st nk na nb nm nv lk la lb ho mo tl ph pt oi tg sm wk wa wb fr me po : Nat → Int32}
variable {N n q : Nat} {post : Int32 → SY → Prop} {x1 x2 x3 : Int32}
/-! tests: Y -/
theorem jr_yc0 (hn : n ≤ 32) (HN : jr_Nd n nk na nb nm) (hq : q < 96) (c : jr_vr n st nk na nb nv (la q) = 0)
    (h : wY_cross_87 post x1 x2 x3 (nI q) 0 vl ll nl fl rd (nI n) lc fc gy ck st nk na nb lk la lb fr (jr_vn n st nk na nb nv (la q)) me po wk wa wb) : wY_cross_68 post x1 x2 x3 (nI q) vl ll nl fl rd (nI n) lc fc gy ck st nk na nb lk la lb fr nv me po wk wa wb := by
  unfold wY_cross_68
  refine ⟨vp_in_nI hq (by decide), ?_⟩
  rw [nI_clamp (show q < 2 ^ 31 by omega)]
  exact jr_yvo hn HN (br_t c h)
theorem jr_yc1 (hn : n ≤ 32) (HN : jr_Nd n nk na nb nm) (hq : q < 96) (c : ¬ jr_vr n st nk na nb nv (la q) = 0)
    (h : wY_cross_87 post x1 x2 x3 (nI q) 1 vl ll nl fl rd (nI n) lc fc gy ck st nk na nb lk la lb fr (jr_vn n st nk na nb nv (la q)) me po wk wa wb) : wY_cross_68 post x1 x2 x3 (nI q) vl ll nl fl rd (nI n) lc fc gy ck st nk na nb lk la lb fr nv me po wk wa wb := by
  unfold wY_cross_68
  refine ⟨vp_in_nI hq (by decide), ?_⟩
  rw [nI_clamp (show q < 2 ^ 31 by omega)]
  exact jr_yvo hn HN (br_f c h)
/-- X's answer r and gap g, Y's word y -/
def jr_O (r y g : Int32) : Prop := (r = 0 ∧ y = g ∧ 0 ≤ y) ∨ (¬ r = 0 ∧ -y = r ∧ ¬ 0 ≤ y)
end JRK2
section JRK3
variable {vl ll nl fl nc lc pc oc rd gp fc se ck pl pg pm gy : Int32} {st nk na nb nm nv lk la lb ho mo tl ph pt oi tg sm wk wa wb fr me po : Nat → Int32}
variable {N n h m t : Nat}
theorem jr_evd8 (hN : N ≤ 96) (hn : n ≤ 32) (HN : jr_Nd n nk na nb nm) (l1 : h < m) (l2 : m < t) (ht : t < N) (s1 : lk h = 8) (s2 : lk m = 9) (s3 : lk t = 10)
    (q1 : jr_Sq lk (jr_Lk ho mo tl) (h + 1) m) (q2 : jr_Sq lk (jr_Lk ho mo tl) (m + 1) t) (L : jr_Lk ho mo tl h m t) :
    ∃ (r y g : Int32) (nv' : Nat → Int32), jr_O r y g ∧
      (∀ post : Int32 → SX → Prop, post r (vl, ll, nl, fl, (nI n), (nI N), pc, oc, rd, gp, fc, se, ck, pl, g, pm, st, nk, na, nb, nm, nv', lk, la, lb, ho, mo, tl, ph, pt, oi, tg, sm, wk, wa, wb, fr) → wpX_planDown post (vl, ll, nl, fl, (nI n), (nI N), pc, oc, rd, gp, fc, se, ck, pl, pg, pm, st, nk, na, nb, nm, nv, lk, la, lb, ho, mo, tl, ph, pt, oi, tg, sm, wk, wa, wb, fr) (nI h)) ∧
      (∀ post : Int32 → SY → Prop, post y (vl, ll, nl, fl, rd, (nI n), (nI N), fc, gy, ck, st, nk, na, nb, lk, la, lb, fr, nv', me, po, wk, wa, wb) → wpY_cross post (vl, ll, nl, fl, rd, (nI n), (nI N), fc, gy, ck, st, nk, na, nb, lk, la, lb, fr, nv, me, po, wk, wa, wb) (nI h) 1) := by
  by_cases c : jr_vr n st nk na nb nv (la h) = 0
  · exact ⟨0, nI (m + 1), nI (m + 1), jr_vn n st nk na nb nv (la h), Or.inl ⟨rfl, rfl, nI_pos' (by omega)⟩,
      fun post w => ⟨vp_in_nI (show h < 96 by omega) (by decide), nm_r (e' := 8) (by rw [nI_clamp (show h < 2 ^ 31 by omega)]; exact s1) (br_f (by decide) (br_f (by decide) (br_f (by decide) (br_f (by decide) (br_f (by decide) (br_f (by decide) (br_f (by decide) (br_f (by decide) (br_f (by decide) (br_f (by decide) (br_t (by decide) (⟨vp_in_nI (show h < 96 by omega) (by decide), jr_xch0 hn HN rfl (by rw [nI_clamp (show h < 2 ^ 31 by omega), (L h (Or.inl rfl)).2.1, nI_1]) (by omega) c w⟩))))))))))))⟩,
      fun post w => ⟨vp_in_nI (show h < 96 by omega) (by decide), nm_r (e' := 8) (by rw [nI_clamp (show h < 2 ^ 31 by omega)]; exact s1) (br_f (by decide) (br_f (by decide) (br_f (by decide) (jr_yc0 hn HN (by omega) c (br_f (by decide) (br_t rfl (br_t rfl (jr_ypa (r := m) hN ht (Or.inl ⟨s1, s2, s3⟩) q1 q2 (Or.inl rfl) (Or.inr (Or.inl ⟨s2.symm, rfl⟩)) (jr_cv (post := post) (nI_1 m) w)))))))))⟩⟩
  · exact ⟨0, nI (h + 1), nI (h + 1), jr_vn n st nk na nb nv (la h), Or.inl ⟨rfl, rfl, nI_pos' (by omega)⟩,
      fun post w => ⟨vp_in_nI (show h < 96 by omega) (by decide), nm_r (e' := 8) (by rw [nI_clamp (show h < 2 ^ 31 by omega)]; exact s1) (br_f (by decide) (br_f (by decide) (br_f (by decide) (br_f (by decide) (br_f (by decide) (br_f (by decide) (br_f (by decide) (br_f (by decide) (br_f (by decide) (br_f (by decide) (br_t (by decide) (⟨vp_in_nI (show h < 96 by omega) (by decide), jr_xch1 hn HN rfl (nI_1 h) (by omega) c w⟩))))))))))))⟩,
      fun post w => ⟨vp_in_nI (show h < 96 by omega) (by decide), nm_r (e' := 8) (by rw [nI_clamp (show h < 2 ^ 31 by omega)]; exact s1) (br_f (by decide) (br_f (by decide) (br_f (by decide) (jr_yc1 hn HN (by omega) c (br_f (by decide) (br_t rfl (br_f (by decide) (jr_cv (post := post) (nI_1 h) w))))))))⟩⟩
theorem jr_evd9 (hN : N ≤ 96) (hn : n ≤ 32) (HN : jr_Nd n nk na nb nm) (l1 : h < m) (l2 : m < t) (ht : t < N) (s1 : lk h = 8) (s2 : lk m = 9) (s3 : lk t = 10)
    (q1 : jr_Sq lk (jr_Lk ho mo tl) (h + 1) m) (q2 : jr_Sq lk (jr_Lk ho mo tl) (m + 1) t) (L : jr_Lk ho mo tl h m t) :
    ∃ (r y g : Int32) (nv' : Nat → Int32), jr_O r y g ∧
      (∀ post : Int32 → SX → Prop, post r (vl, ll, nl, fl, (nI n), (nI N), pc, oc, rd, gp, fc, se, ck, pl, g, pm, st, nk, na, nb, nm, nv', lk, la, lb, ho, mo, tl, ph, pt, oi, tg, sm, wk, wa, wb, fr) → wpX_planDown post (vl, ll, nl, fl, (nI n), (nI N), pc, oc, rd, gp, fc, se, ck, pl, pg, pm, st, nk, na, nb, nm, nv, lk, la, lb, ho, mo, tl, ph, pt, oi, tg, sm, wk, wa, wb, fr) (nI m)) ∧
      (∀ post : Int32 → SY → Prop, post y (vl, ll, nl, fl, rd, (nI n), (nI N), fc, gy, ck, st, nk, na, nb, lk, la, lb, fr, nv', me, po, wk, wa, wb) → wpY_cross post (vl, ll, nl, fl, rd, (nI n), (nI N), fc, gy, ck, st, nk, na, nb, lk, la, lb, fr, nv, me, po, wk, wa, wb) (nI m) 1) := by
  by_cases c : jr_vr n st nk na nb nv (la t) = 0
  · exact ⟨2, -2, pg, jr_vn n st nk na nb nv (la t), Or.inr ⟨by decide, by decide, by decide⟩,
      fun post w => ⟨vp_in_nI (show m < 96 by omega) (by decide), nm_r (e' := 9) (by rw [nI_clamp (show m < 2 ^ 31 by omega)]; exact s2) (br_f (by decide) (br_f (by decide) (br_f (by decide) (br_f (by decide) (br_f (by decide) (br_f (by decide) (br_f (by decide) (br_f (by decide) (br_f (by decide) (br_f (by decide) (br_f (by decide) (br_t (by decide) (⟨vp_in_nI (show m < 96 by omega) (by decide), vp_in_nI (show m < 96 by omega) (by decide), jr_xwt0 hn HN (by rw [nI_clamp (show m < 2 ^ 31 by omega)]; exact (L m (Or.inr (Or.inl rfl))).2.2) (by omega) c w⟩)))))))))))))⟩,
      fun post w => ⟨vp_in_nI (show m < 96 by omega) (by decide), nm_r (e' := 9) (by rw [nI_clamp (show m < 2 ^ 31 by omega)]; exact s2) (br_t rfl (br_f (by decide) (jr_ypa (r := t) hN ht (Or.inl ⟨s1, s2, s3⟩) q1 q2 (Or.inr (Or.inl rfl)) (Or.inr (Or.inr ⟨s3.symm, rfl⟩)) (br_f (by decide) (br_f (by decide) (jr_yc0 hn HN (by omega) c (br_f (by decide) (br_f (by decide) (br_t rfl (br_t rfl (w)))))))))))⟩⟩
  · exact ⟨0, nI (t + 1), nI (t + 1), jr_vn n st nk na nb nv (la t), Or.inl ⟨rfl, rfl, nI_pos' (by omega)⟩,
      fun post w => ⟨vp_in_nI (show m < 96 by omega) (by decide), nm_r (e' := 9) (by rw [nI_clamp (show m < 2 ^ 31 by omega)]; exact s2) (br_f (by decide) (br_f (by decide) (br_f (by decide) (br_f (by decide) (br_f (by decide) (br_f (by decide) (br_f (by decide) (br_f (by decide) (br_f (by decide) (br_f (by decide) (br_f (by decide) (br_t (by decide) (⟨vp_in_nI (show m < 96 by omega) (by decide), vp_in_nI (show m < 96 by omega) (by decide), jr_xwt1 hn HN (by rw [nI_clamp (show m < 2 ^ 31 by omega)]; exact (L m (Or.inr (Or.inl rfl))).2.2) (by rw [nI_clamp (show m < 2 ^ 31 by omega), (L m (Or.inr (Or.inl rfl))).2.2, nI_1]) (by omega) c w⟩)))))))))))))⟩,
      fun post w => ⟨vp_in_nI (show m < 96 by omega) (by decide), nm_r (e' := 9) (by rw [nI_clamp (show m < 2 ^ 31 by omega)]; exact s2) (br_t rfl (br_f (by decide) (jr_ypa (r := t) hN ht (Or.inl ⟨s1, s2, s3⟩) q1 q2 (Or.inr (Or.inl rfl)) (Or.inr (Or.inr ⟨s3.symm, rfl⟩)) (br_f (by decide) (br_f (by decide) (jr_yc1 hn HN (by omega) c (br_f (by decide) (br_f (by decide) (br_t rfl (br_f (by decide) (jr_cv (post := post) (nI_1 t) w)))))))))))⟩⟩
theorem jr_evd10 (hN : N ≤ 96) (hn : n ≤ 32) (HN : jr_Nd n nk na nb nm) (l1 : h < m) (l2 : m < t) (ht : t < N) (s1 : lk h = 8) (s2 : lk m = 9) (s3 : lk t = 10)
    (q1 : jr_Sq lk (jr_Lk ho mo tl) (h + 1) m) (q2 : jr_Sq lk (jr_Lk ho mo tl) (m + 1) t) (L : jr_Lk ho mo tl h m t) :
    ∃ (r y g : Int32) (nv' : Nat → Int32), jr_O r y g ∧
      (∀ post : Int32 → SX → Prop, post r (vl, ll, nl, fl, (nI n), (nI N), pc, oc, rd, gp, fc, se, ck, pl, g, pm, st, nk, na, nb, nm, nv', lk, la, lb, ho, mo, tl, ph, pt, oi, tg, sm, wk, wa, wb, fr) → wpX_planDown post (vl, ll, nl, fl, (nI n), (nI N), pc, oc, rd, gp, fc, se, ck, pl, pg, pm, st, nk, na, nb, nm, nv, lk, la, lb, ho, mo, tl, ph, pt, oi, tg, sm, wk, wa, wb, fr) (nI t)) ∧
      (∀ post : Int32 → SY → Prop, post y (vl, ll, nl, fl, rd, (nI n), (nI N), fc, gy, ck, st, nk, na, nb, lk, la, lb, fr, nv', me, po, wk, wa, wb) → wpY_cross post (vl, ll, nl, fl, rd, (nI n), (nI N), fc, gy, ck, st, nk, na, nb, lk, la, lb, fr, nv, me, po, wk, wa, wb) (nI t) 1) := by
  by_cases c : jr_vr n st nk na nb nv (la t) = 0
  · exact ⟨0, nI (t + 1), nI (t + 1), jr_vn n st nk na nb nv (la t), Or.inl ⟨rfl, rfl, nI_pos' (by omega)⟩,
      fun post w => ⟨vp_in_nI (show t < 96 by omega) (by decide), nm_r (e' := 10) (by rw [nI_clamp (show t < 2 ^ 31 by omega)]; exact s3) (br_f (by decide) (br_f (by decide) (br_f (by decide) (br_f (by decide) (br_f (by decide) (br_f (by decide) (br_f (by decide) (br_f (by decide) (br_f (by decide) (br_f (by decide) (br_f (by decide) (br_f (by decide) (br_t (by decide) (jr_xwf0 hn HN rfl (nI_1 t) (by omega) c w))))))))))))))⟩,
      fun post w => ⟨vp_in_nI (show t < 96 by omega) (by decide), nm_r (e' := 10) (by rw [nI_clamp (show t < 2 ^ 31 by omega)]; exact s3) (br_f (by decide) (br_f (by decide) (br_f (by decide) (jr_yc0 hn HN (by omega) c (br_f (by decide) (br_f (by decide) (br_f (by decide) (br_t rfl (br_t rfl (jr_cv (post := post) (nI_1 t) w))))))))))⟩⟩
  · exact ⟨3, -3, pg, jr_vn n st nk na nb nv (la t), Or.inr ⟨by decide, by decide, by decide⟩,
      fun post w => ⟨vp_in_nI (show t < 96 by omega) (by decide), nm_r (e' := 10) (by rw [nI_clamp (show t < 2 ^ 31 by omega)]; exact s3) (br_f (by decide) (br_f (by decide) (br_f (by decide) (br_f (by decide) (br_f (by decide) (br_f (by decide) (br_f (by decide) (br_f (by decide) (br_f (by decide) (br_f (by decide) (br_f (by decide) (br_f (by decide) (br_t (by decide) (jr_xwf1 hn HN rfl (by omega) c w))))))))))))))⟩,
      fun post w => ⟨vp_in_nI (show t < 96 by omega) (by decide), nm_r (e' := 10) (by rw [nI_clamp (show t < 2 ^ 31 by omega)]; exact s3) (br_f (by decide) (br_f (by decide) (br_f (by decide) (jr_yc1 hn HN (by omega) c (br_f (by decide) (br_f (by decide) (br_f (by decide) (br_t rfl (br_f (by decide) (w))))))))))⟩⟩
theorem jr_evd11 (hN : N ≤ 96) (hn : n ≤ 32) (HN : jr_Nd n nk na nb nm) (l1 : h < m) (l2 : m < t) (ht : t < N) (s1 : lk h = 11) (s2 : lk m = 12) (s3 : lk t = 13)
    (q1 : jr_Sq lk (jr_Lk ho mo tl) (h + 1) m) (q2 : jr_Sq lk (jr_Lk ho mo tl) (m + 1) t) (L : jr_Lk ho mo tl h m t) :
    ∃ (r y g : Int32) (nv' : Nat → Int32), jr_O r y g ∧
      (∀ post : Int32 → SX → Prop, post r (vl, ll, nl, fl, (nI n), (nI N), pc, oc, rd, gp, fc, se, ck, pl, g, pm, st, nk, na, nb, nm, nv', lk, la, lb, ho, mo, tl, ph, pt, oi, tg, sm, wk, wa, wb, fr) → wpX_planDown post (vl, ll, nl, fl, (nI n), (nI N), pc, oc, rd, gp, fc, se, ck, pl, pg, pm, st, nk, na, nb, nm, nv, lk, la, lb, ho, mo, tl, ph, pt, oi, tg, sm, wk, wa, wb, fr) (nI h)) ∧
      (∀ post : Int32 → SY → Prop, post y (vl, ll, nl, fl, rd, (nI n), (nI N), fc, gy, ck, st, nk, na, nb, lk, la, lb, fr, nv', me, po, wk, wa, wb) → wpY_cross post (vl, ll, nl, fl, rd, (nI n), (nI N), fc, gy, ck, st, nk, na, nb, lk, la, lb, fr, nv, me, po, wk, wa, wb) (nI h) 1) := by
  by_cases c : jr_vr n st nk na nb nv (la h) = 0
  · exact ⟨2, -2, pg, jr_vn n st nk na nb nv (la h), Or.inr ⟨by decide, by decide, by decide⟩,
      fun post w => ⟨vp_in_nI (show h < 96 by omega) (by decide), nm_r (e' := 11) (by rw [nI_clamp (show h < 2 ^ 31 by omega)]; exact s1) (br_f (by decide) (br_f (by decide) (br_f (by decide) (br_f (by decide) (br_f (by decide) (br_f (by decide) (br_f (by decide) (br_f (by decide) (br_f (by decide) (br_f (by decide) (br_f (by decide) (br_f (by decide) (br_f (by decide) (br_t (by decide) (jr_xwt0 hn HN rfl (by omega) c w)))))))))))))))⟩,
      fun post w => ⟨vp_in_nI (show h < 96 by omega) (by decide), nm_r (e' := 11) (by rw [nI_clamp (show h < 2 ^ 31 by omega)]; exact s1) (br_f (by decide) (br_f (by decide) (br_f (by decide) (jr_yc0 hn HN (by omega) c (br_f (by decide) (br_f (by decide) (br_f (by decide) (br_f (by decide) (br_t rfl (br_t rfl (w)))))))))))⟩⟩
  · exact ⟨0, nI (h + 1), nI (h + 1), jr_vn n st nk na nb nv (la h), Or.inl ⟨rfl, rfl, nI_pos' (by omega)⟩,
      fun post w => ⟨vp_in_nI (show h < 96 by omega) (by decide), nm_r (e' := 11) (by rw [nI_clamp (show h < 2 ^ 31 by omega)]; exact s1) (br_f (by decide) (br_f (by decide) (br_f (by decide) (br_f (by decide) (br_f (by decide) (br_f (by decide) (br_f (by decide) (br_f (by decide) (br_f (by decide) (br_f (by decide) (br_f (by decide) (br_f (by decide) (br_f (by decide) (br_t (by decide) (jr_xwt1 hn HN rfl (nI_1 h) (by omega) c w)))))))))))))))⟩,
      fun post w => ⟨vp_in_nI (show h < 96 by omega) (by decide), nm_r (e' := 11) (by rw [nI_clamp (show h < 2 ^ 31 by omega)]; exact s1) (br_f (by decide) (br_f (by decide) (br_f (by decide) (jr_yc1 hn HN (by omega) c (br_f (by decide) (br_f (by decide) (br_f (by decide) (br_f (by decide) (br_t rfl (br_f (by decide) (jr_cv (post := post) (nI_1 h) w)))))))))))⟩⟩
theorem jr_evd12 (hN : N ≤ 96) (hn : n ≤ 32) (HN : jr_Nd n nk na nb nm) (l1 : h < m) (l2 : m < t) (ht : t < N) (s1 : lk h = 11) (s2 : lk m = 12) (s3 : lk t = 13)
    (q1 : jr_Sq lk (jr_Lk ho mo tl) (h + 1) m) (q2 : jr_Sq lk (jr_Lk ho mo tl) (m + 1) t) (L : jr_Lk ho mo tl h m t) :
    ∃ (r y g : Int32) (nv' : Nat → Int32), jr_O r y g ∧
      (∀ post : Int32 → SX → Prop, post r (vl, ll, nl, fl, (nI n), (nI N), pc, oc, rd, gp, fc, se, ck, pl, g, pm, st, nk, na, nb, nm, nv', lk, la, lb, ho, mo, tl, ph, pt, oi, tg, sm, wk, wa, wb, fr) → wpX_planDown post (vl, ll, nl, fl, (nI n), (nI N), pc, oc, rd, gp, fc, se, ck, pl, pg, pm, st, nk, na, nb, nm, nv, lk, la, lb, ho, mo, tl, ph, pt, oi, tg, sm, wk, wa, wb, fr) (nI m)) ∧
      (∀ post : Int32 → SY → Prop, post y (vl, ll, nl, fl, rd, (nI n), (nI N), fc, gy, ck, st, nk, na, nb, lk, la, lb, fr, nv', me, po, wk, wa, wb) → wpY_cross post (vl, ll, nl, fl, rd, (nI n), (nI N), fc, gy, ck, st, nk, na, nb, lk, la, lb, fr, nv, me, po, wk, wa, wb) (nI m) 1) := by
  by_cases c : jr_vr n st nk na nb nv (la t) = 0
  · exact ⟨0, nI (m + 1), nI (m + 1), jr_vn n st nk na nb nv (la t), Or.inl ⟨rfl, rfl, nI_pos' (by omega)⟩,
      fun post w => ⟨vp_in_nI (show m < 96 by omega) (by decide), nm_r (e' := 12) (by rw [nI_clamp (show m < 2 ^ 31 by omega)]; exact s2) (br_f (by decide) (br_f (by decide) (br_f (by decide) (br_f (by decide) (br_f (by decide) (br_f (by decide) (br_f (by decide) (br_f (by decide) (br_f (by decide) (br_f (by decide) (br_f (by decide) (br_f (by decide) (br_f (by decide) (br_f (by decide) (br_t (by decide) (⟨vp_in_nI (show m < 96 by omega) (by decide), vp_in_nI (show m < 96 by omega) (by decide), jr_xch0 hn HN (by rw [nI_clamp (show m < 2 ^ 31 by omega)]; exact (L m (Or.inr (Or.inl rfl))).2.2) (nI_1 m) (by omega) c w⟩))))))))))))))))⟩,
      fun post w => ⟨vp_in_nI (show m < 96 by omega) (by decide), nm_r (e' := 12) (by rw [nI_clamp (show m < 2 ^ 31 by omega)]; exact s2) (br_f (by decide) (br_t rfl (jr_ypa (r := t) hN ht (Or.inr ⟨s1, s2, s3⟩) q1 q2 (Or.inr (Or.inl rfl)) (Or.inr (Or.inr ⟨s3.symm, rfl⟩)) (br_f (by decide) (jr_yc0 hn HN (by omega) c (br_f (by decide) (br_f (by decide) (br_f (by decide) (br_f (by decide) (br_f (by decide) (br_t rfl (br_t rfl (jr_cv (post := post) (nI_1 m) w)))))))))))))⟩⟩
  · exact ⟨0, nI (t + 1), nI (t + 1), jr_vn n st nk na nb nv (la t), Or.inl ⟨rfl, rfl, nI_pos' (by omega)⟩,
      fun post w => ⟨vp_in_nI (show m < 96 by omega) (by decide), nm_r (e' := 12) (by rw [nI_clamp (show m < 2 ^ 31 by omega)]; exact s2) (br_f (by decide) (br_f (by decide) (br_f (by decide) (br_f (by decide) (br_f (by decide) (br_f (by decide) (br_f (by decide) (br_f (by decide) (br_f (by decide) (br_f (by decide) (br_f (by decide) (br_f (by decide) (br_f (by decide) (br_f (by decide) (br_t (by decide) (⟨vp_in_nI (show m < 96 by omega) (by decide), vp_in_nI (show m < 96 by omega) (by decide), jr_xch1 hn HN (by rw [nI_clamp (show m < 2 ^ 31 by omega)]; exact (L m (Or.inr (Or.inl rfl))).2.2) (by rw [nI_clamp (show m < 2 ^ 31 by omega), (L m (Or.inr (Or.inl rfl))).2.2, nI_1]) (by omega) c w⟩))))))))))))))))⟩,
      fun post w => ⟨vp_in_nI (show m < 96 by omega) (by decide), nm_r (e' := 12) (by rw [nI_clamp (show m < 2 ^ 31 by omega)]; exact s2) (br_f (by decide) (br_t rfl (jr_ypa (r := t) hN ht (Or.inr ⟨s1, s2, s3⟩) q1 q2 (Or.inr (Or.inl rfl)) (Or.inr (Or.inr ⟨s3.symm, rfl⟩)) (br_f (by decide) (jr_yc1 hn HN (by omega) c (br_f (by decide) (br_f (by decide) (br_f (by decide) (br_f (by decide) (br_f (by decide) (br_t rfl (br_f (by decide) (jr_cv (post := post) (nI_1 t) w)))))))))))))⟩⟩
theorem jr_evd13 (hN : N ≤ 96) (hn : n ≤ 32) (HN : jr_Nd n nk na nb nm) (l1 : h < m) (l2 : m < t) (ht : t < N) (s1 : lk h = 11) (s2 : lk m = 12) (s3 : lk t = 13)
    (q1 : jr_Sq lk (jr_Lk ho mo tl) (h + 1) m) (q2 : jr_Sq lk (jr_Lk ho mo tl) (m + 1) t) (L : jr_Lk ho mo tl h m t) :
    ∃ (r y g : Int32) (nv' : Nat → Int32), jr_O r y g ∧
      (∀ post : Int32 → SX → Prop, post r (vl, ll, nl, fl, (nI n), (nI N), pc, oc, rd, gp, fc, se, ck, pl, g, pm, st, nk, na, nb, nm, nv', lk, la, lb, ho, mo, tl, ph, pt, oi, tg, sm, wk, wa, wb, fr) → wpX_planDown post (vl, ll, nl, fl, (nI n), (nI N), pc, oc, rd, gp, fc, se, ck, pl, pg, pm, st, nk, na, nb, nm, nv, lk, la, lb, ho, mo, tl, ph, pt, oi, tg, sm, wk, wa, wb, fr) (nI t)) ∧
      (∀ post : Int32 → SY → Prop, post y (vl, ll, nl, fl, rd, (nI n), (nI N), fc, gy, ck, st, nk, na, nb, lk, la, lb, fr, nv', me, po, wk, wa, wb) → wpY_cross post (vl, ll, nl, fl, rd, (nI n), (nI N), fc, gy, ck, st, nk, na, nb, lk, la, lb, fr, nv, me, po, wk, wa, wb) (nI t) 1) := by
  by_cases c : jr_vr n st nk na nb nv (la h) = 0
  · exact ⟨0, nI (h + 1), nI (h + 1), jr_vn n st nk na nb nv (la h), Or.inl ⟨rfl, rfl, nI_pos' (by omega)⟩,
      fun post w => ⟨vp_in_nI (show t < 96 by omega) (by decide), nm_r (e' := 13) (by rw [nI_clamp (show t < 2 ^ 31 by omega)]; exact s3) (br_f (by decide) (br_f (by decide) (br_f (by decide) (br_f (by decide) (br_f (by decide) (br_f (by decide) (br_f (by decide) (br_f (by decide) (br_f (by decide) (br_f (by decide) (br_f (by decide) (br_f (by decide) (br_f (by decide) (br_f (by decide) (br_f (by decide) (br_t (by decide) (⟨vp_in_nI (show t < 96 by omega) (by decide), vp_in_nI (show t < 96 by omega) (by decide), jr_xwf0 hn HN (by rw [nI_clamp (show t < 2 ^ 31 by omega)]; exact (L t (Or.inr (Or.inr rfl))).1) (by rw [nI_clamp (show t < 2 ^ 31 by omega), (L t (Or.inr (Or.inr rfl))).1, nI_1]) (by omega) c w⟩)))))))))))))))))⟩,
      fun post w => ⟨vp_in_nI (show t < 96 by omega) (by decide), nm_r (e' := 13) (by rw [nI_clamp (show t < 2 ^ 31 by omega)]; exact s3) (br_f (by decide) (br_f (by decide) (br_t rfl (br_f (by decide) (jr_ypa (r := h) hN ht (Or.inr ⟨s1, s2, s3⟩) q1 q2 (Or.inr (Or.inr rfl)) (Or.inl ⟨s1.symm, rfl⟩) (jr_yc0 hn HN (by omega) c (br_f (by decide) (br_f (by decide) (br_f (by decide) (br_f (by decide) (br_f (by decide) (br_f (by decide) (br_t rfl (jr_cv (post := post) (nI_1 h) w))))))))))))))⟩⟩
  · exact ⟨3, -3, pg, jr_vn n st nk na nb nv (la h), Or.inr ⟨by decide, by decide, by decide⟩,
      fun post w => ⟨vp_in_nI (show t < 96 by omega) (by decide), nm_r (e' := 13) (by rw [nI_clamp (show t < 2 ^ 31 by omega)]; exact s3) (br_f (by decide) (br_f (by decide) (br_f (by decide) (br_f (by decide) (br_f (by decide) (br_f (by decide) (br_f (by decide) (br_f (by decide) (br_f (by decide) (br_f (by decide) (br_f (by decide) (br_f (by decide) (br_f (by decide) (br_f (by decide) (br_f (by decide) (br_t (by decide) (⟨vp_in_nI (show t < 96 by omega) (by decide), vp_in_nI (show t < 96 by omega) (by decide), jr_xwf1 hn HN (by rw [nI_clamp (show t < 2 ^ 31 by omega)]; exact (L t (Or.inr (Or.inr rfl))).1) (by omega) c w⟩)))))))))))))))))⟩,
      fun post w => ⟨vp_in_nI (show t < 96 by omega) (by decide), nm_r (e' := 13) (by rw [nI_clamp (show t < 2 ^ 31 by omega)]; exact s3) (br_f (by decide) (br_f (by decide) (br_t rfl (br_f (by decide) (jr_ypa (r := h) hN ht (Or.inr ⟨s1, s2, s3⟩) q1 q2 (Or.inr (Or.inr rfl)) (Or.inl ⟨s1.symm, rfl⟩) (jr_yc1 hn HN (by omega) c (br_f (by decide) (br_f (by decide) (br_f (by decide) (br_f (by decide) (br_f (by decide) (br_f (by decide) (br_f (by decide) (w))))))))))))))⟩⟩
theorem jr_evu8 (hN : N ≤ 96) (hn : n ≤ 32) (HN : jr_Nd n nk na nb nm) (l1 : h < m) (l2 : m < t) (ht : t < N) (s1 : lk h = 8) (s2 : lk m = 9) (s3 : lk t = 10)
    (q1 : jr_Sq lk (jr_Lk ho mo tl) (h + 1) m) (q2 : jr_Sq lk (jr_Lk ho mo tl) (m + 1) t) (L : jr_Lk ho mo tl h m t) :
    ∃ (r y g : Int32) (nv' : Nat → Int32), jr_O r y g ∧
      (∀ post : Int32 → SX → Prop, post r (vl, ll, nl, fl, (nI n), (nI N), pc, oc, rd, gp, fc, se, ck, pl, g, pm, st, nk, na, nb, nm, nv', lk, la, lb, ho, mo, tl, ph, pt, oi, tg, sm, wk, wa, wb, fr) → wpX_planUp post (vl, ll, nl, fl, (nI n), (nI N), pc, oc, rd, gp, fc, se, ck, pl, pg, pm, st, nk, na, nb, nm, nv, lk, la, lb, ho, mo, tl, ph, pt, oi, tg, sm, wk, wa, wb, fr) (nI h)) ∧
      (∀ post : Int32 → SY → Prop, post y (vl, ll, nl, fl, rd, (nI n), (nI N), fc, gy, ck, st, nk, na, nb, lk, la, lb, fr, nv', me, po, wk, wa, wb) → wpY_cross post (vl, ll, nl, fl, rd, (nI n), (nI N), fc, gy, ck, st, nk, na, nb, lk, la, lb, fr, nv, me, po, wk, wa, wb) (nI h) (-1)) := by
  by_cases c : jr_vr n st nk na nb nv (la h) = 0
  · exact ⟨2, -2, pg, jr_vn n st nk na nb nv (la h), Or.inr ⟨by decide, by decide, by decide⟩,
      fun post w => ⟨vp_in_nI (show h < 96 by omega) (by decide), nm_r (e' := 8) (by rw [nI_clamp (show h < 2 ^ 31 by omega)]; exact s1) (br_f (by decide) (br_f (by decide) (br_f (by decide) (br_f (by decide) (br_f (by decide) (br_f (by decide) (br_f (by decide) (br_f (by decide) (br_f (by decide) (br_f (by decide) (br_t (by decide) (jr_xwt0 hn HN rfl (by omega) c w))))))))))))⟩,
      fun post w => ⟨vp_in_nI (show h < 96 by omega) (by decide), nm_r (e' := 8) (by rw [nI_clamp (show h < 2 ^ 31 by omega)]; exact s1) (br_f (by decide) (br_f (by decide) (br_f (by decide) (jr_yc0 hn HN (by omega) c (br_t (by decide) (br_f (by decide) (br_f (by decide) (br_t rfl (br_t rfl (w))))))))))⟩⟩
  · exact ⟨0, nI (h), nI (h), jr_vn n st nk na nb nv (la h), Or.inl ⟨rfl, rfl, nI_pos' (by omega)⟩,
      fun post w => ⟨vp_in_nI (show h < 96 by omega) (by decide), nm_r (e' := 8) (by rw [nI_clamp (show h < 2 ^ 31 by omega)]; exact s1) (br_f (by decide) (br_f (by decide) (br_f (by decide) (br_f (by decide) (br_f (by decide) (br_f (by decide) (br_f (by decide) (br_f (by decide) (br_f (by decide) (br_f (by decide) (br_t (by decide) (jr_xwt1 hn HN rfl rfl (by omega) c w))))))))))))⟩,
      fun post w => ⟨vp_in_nI (show h < 96 by omega) (by decide), nm_r (e' := 8) (by rw [nI_clamp (show h < 2 ^ 31 by omega)]; exact s1) (br_f (by decide) (br_f (by decide) (br_f (by decide) (jr_yc1 hn HN (by omega) c (br_t (by decide) (br_f (by decide) (br_f (by decide) (br_t rfl (br_f (by decide) (w))))))))))⟩⟩
theorem jr_evu9 (hN : N ≤ 96) (hn : n ≤ 32) (HN : jr_Nd n nk na nb nm) (l1 : h < m) (l2 : m < t) (ht : t < N) (s1 : lk h = 8) (s2 : lk m = 9) (s3 : lk t = 10)
    (q1 : jr_Sq lk (jr_Lk ho mo tl) (h + 1) m) (q2 : jr_Sq lk (jr_Lk ho mo tl) (m + 1) t) (L : jr_Lk ho mo tl h m t) :
    ∃ (r y g : Int32) (nv' : Nat → Int32), jr_O r y g ∧
      (∀ post : Int32 → SX → Prop, post r (vl, ll, nl, fl, (nI n), (nI N), pc, oc, rd, gp, fc, se, ck, pl, g, pm, st, nk, na, nb, nm, nv', lk, la, lb, ho, mo, tl, ph, pt, oi, tg, sm, wk, wa, wb, fr) → wpX_planUp post (vl, ll, nl, fl, (nI n), (nI N), pc, oc, rd, gp, fc, se, ck, pl, pg, pm, st, nk, na, nb, nm, nv, lk, la, lb, ho, mo, tl, ph, pt, oi, tg, sm, wk, wa, wb, fr) (nI m)) ∧
      (∀ post : Int32 → SY → Prop, post y (vl, ll, nl, fl, rd, (nI n), (nI N), fc, gy, ck, st, nk, na, nb, lk, la, lb, fr, nv', me, po, wk, wa, wb) → wpY_cross post (vl, ll, nl, fl, rd, (nI n), (nI N), fc, gy, ck, st, nk, na, nb, lk, la, lb, fr, nv, me, po, wk, wa, wb) (nI m) (-1)) := by
  by_cases c : jr_vr n st nk na nb nv (la h) = 0
  · exact ⟨0, nI (h), nI (h), jr_vn n st nk na nb nv (la h), Or.inl ⟨rfl, rfl, nI_pos' (by omega)⟩,
      fun post w => ⟨vp_in_nI (show m < 96 by omega) (by decide), nm_r (e' := 9) (by rw [nI_clamp (show m < 2 ^ 31 by omega)]; exact s2) (br_f (by decide) (br_f (by decide) (br_f (by decide) (br_f (by decide) (br_f (by decide) (br_f (by decide) (br_f (by decide) (br_f (by decide) (br_f (by decide) (br_f (by decide) (br_f (by decide) (br_t (by decide) (⟨vp_in_nI (show m < 96 by omega) (by decide), vp_in_nI (show m < 96 by omega) (by decide), jr_xwf0 hn HN (by rw [nI_clamp (show m < 2 ^ 31 by omega)]; exact (L m (Or.inr (Or.inl rfl))).1) (by rw [nI_clamp (show m < 2 ^ 31 by omega)]; exact (L m (Or.inr (Or.inl rfl))).1) (by omega) c w⟩)))))))))))))⟩,
      fun post w => ⟨vp_in_nI (show m < 96 by omega) (by decide), nm_r (e' := 9) (by rw [nI_clamp (show m < 2 ^ 31 by omega)]; exact s2) (br_t rfl (br_t (by decide) (jr_ypa (r := h) hN ht (Or.inl ⟨s1, s2, s3⟩) q1 q2 (Or.inr (Or.inl rfl)) (Or.inl ⟨s1.symm, rfl⟩) (br_f (by decide) (br_f (by decide) (jr_yc0 hn HN (by omega) c (br_t (by decide) (br_f (by decide) (br_t rfl (br_t rfl (w)))))))))))⟩⟩
  · exact ⟨3, -3, pg, jr_vn n st nk na nb nv (la h), Or.inr ⟨by decide, by decide, by decide⟩,
      fun post w => ⟨vp_in_nI (show m < 96 by omega) (by decide), nm_r (e' := 9) (by rw [nI_clamp (show m < 2 ^ 31 by omega)]; exact s2) (br_f (by decide) (br_f (by decide) (br_f (by decide) (br_f (by decide) (br_f (by decide) (br_f (by decide) (br_f (by decide) (br_f (by decide) (br_f (by decide) (br_f (by decide) (br_f (by decide) (br_t (by decide) (⟨vp_in_nI (show m < 96 by omega) (by decide), vp_in_nI (show m < 96 by omega) (by decide), jr_xwf1 hn HN (by rw [nI_clamp (show m < 2 ^ 31 by omega)]; exact (L m (Or.inr (Or.inl rfl))).1) (by omega) c w⟩)))))))))))))⟩,
      fun post w => ⟨vp_in_nI (show m < 96 by omega) (by decide), nm_r (e' := 9) (by rw [nI_clamp (show m < 2 ^ 31 by omega)]; exact s2) (br_t rfl (br_t (by decide) (jr_ypa (r := h) hN ht (Or.inl ⟨s1, s2, s3⟩) q1 q2 (Or.inr (Or.inl rfl)) (Or.inl ⟨s1.symm, rfl⟩) (br_f (by decide) (br_f (by decide) (jr_yc1 hn HN (by omega) c (br_t (by decide) (br_f (by decide) (br_t rfl (br_f (by decide) (w)))))))))))⟩⟩
theorem jr_evu10 (hN : N ≤ 96) (hn : n ≤ 32) (HN : jr_Nd n nk na nb nm) (l1 : h < m) (l2 : m < t) (ht : t < N) (s1 : lk h = 8) (s2 : lk m = 9) (s3 : lk t = 10)
    (q1 : jr_Sq lk (jr_Lk ho mo tl) (h + 1) m) (q2 : jr_Sq lk (jr_Lk ho mo tl) (m + 1) t) (L : jr_Lk ho mo tl h m t) :
    ∃ (r y g : Int32) (nv' : Nat → Int32), jr_O r y g ∧
      (∀ post : Int32 → SX → Prop, post r (vl, ll, nl, fl, (nI n), (nI N), pc, oc, rd, gp, fc, se, ck, pl, g, pm, st, nk, na, nb, nm, nv', lk, la, lb, ho, mo, tl, ph, pt, oi, tg, sm, wk, wa, wb, fr) → wpX_planUp post (vl, ll, nl, fl, (nI n), (nI N), pc, oc, rd, gp, fc, se, ck, pl, pg, pm, st, nk, na, nb, nm, nv, lk, la, lb, ho, mo, tl, ph, pt, oi, tg, sm, wk, wa, wb, fr) (nI t)) ∧
      (∀ post : Int32 → SY → Prop, post y (vl, ll, nl, fl, rd, (nI n), (nI N), fc, gy, ck, st, nk, na, nb, lk, la, lb, fr, nv', me, po, wk, wa, wb) → wpY_cross post (vl, ll, nl, fl, rd, (nI n), (nI N), fc, gy, ck, st, nk, na, nb, lk, la, lb, fr, nv, me, po, wk, wa, wb) (nI t) (-1)) := by
  by_cases c : jr_vr n st nk na nb nv (la t) = 0
  · exact ⟨0, nI (t), nI (t), jr_vn n st nk na nb nv (la t), Or.inl ⟨rfl, rfl, nI_pos' (by omega)⟩,
      fun post w => ⟨vp_in_nI (show t < 96 by omega) (by decide), nm_r (e' := 10) (by rw [nI_clamp (show t < 2 ^ 31 by omega)]; exact s3) (br_f (by decide) (br_f (by decide) (br_f (by decide) (br_f (by decide) (br_f (by decide) (br_f (by decide) (br_f (by decide) (br_f (by decide) (br_f (by decide) (br_f (by decide) (br_f (by decide) (br_f (by decide) (br_t (by decide) (⟨vp_in_nI (show t < 96 by omega) (by decide), jr_xch0 hn HN rfl rfl (by omega) c w⟩))))))))))))))⟩,
      fun post w => ⟨vp_in_nI (show t < 96 by omega) (by decide), nm_r (e' := 10) (by rw [nI_clamp (show t < 2 ^ 31 by omega)]; exact s3) (br_f (by decide) (br_f (by decide) (br_f (by decide) (jr_yc0 hn HN (by omega) c (br_t (by decide) (br_t rfl (br_t rfl (w))))))))⟩⟩
  · exact ⟨0, nI (m), nI (m), jr_vn n st nk na nb nv (la t), Or.inl ⟨rfl, rfl, nI_pos' (by omega)⟩,
      fun post w => ⟨vp_in_nI (show t < 96 by omega) (by decide), nm_r (e' := 10) (by rw [nI_clamp (show t < 2 ^ 31 by omega)]; exact s3) (br_f (by decide) (br_f (by decide) (br_f (by decide) (br_f (by decide) (br_f (by decide) (br_f (by decide) (br_f (by decide) (br_f (by decide) (br_f (by decide) (br_f (by decide) (br_f (by decide) (br_f (by decide) (br_t (by decide) (⟨vp_in_nI (show t < 96 by omega) (by decide), jr_xch1 hn HN rfl (by rw [nI_clamp (show t < 2 ^ 31 by omega)]; exact (L t (Or.inr (Or.inr rfl))).2.1) (by omega) c w⟩))))))))))))))⟩,
      fun post w => ⟨vp_in_nI (show t < 96 by omega) (by decide), nm_r (e' := 10) (by rw [nI_clamp (show t < 2 ^ 31 by omega)]; exact s3) (br_f (by decide) (br_f (by decide) (br_f (by decide) (jr_yc1 hn HN (by omega) c (br_t (by decide) (br_t rfl (br_f (by decide) (jr_ypa (r := m) hN ht (Or.inl ⟨s1, s2, s3⟩) q1 q2 (Or.inr (Or.inr rfl)) (Or.inr (Or.inl ⟨s2.symm, rfl⟩)) w))))))))⟩⟩
theorem jr_evu11 (hN : N ≤ 96) (hn : n ≤ 32) (HN : jr_Nd n nk na nb nm) (l1 : h < m) (l2 : m < t) (ht : t < N) (s1 : lk h = 11) (s2 : lk m = 12) (s3 : lk t = 13)
    (q1 : jr_Sq lk (jr_Lk ho mo tl) (h + 1) m) (q2 : jr_Sq lk (jr_Lk ho mo tl) (m + 1) t) (L : jr_Lk ho mo tl h m t) :
    ∃ (r y g : Int32) (nv' : Nat → Int32), jr_O r y g ∧
      (∀ post : Int32 → SX → Prop, post r (vl, ll, nl, fl, (nI n), (nI N), pc, oc, rd, gp, fc, se, ck, pl, g, pm, st, nk, na, nb, nm, nv', lk, la, lb, ho, mo, tl, ph, pt, oi, tg, sm, wk, wa, wb, fr) → wpX_planUp post (vl, ll, nl, fl, (nI n), (nI N), pc, oc, rd, gp, fc, se, ck, pl, pg, pm, st, nk, na, nb, nm, nv, lk, la, lb, ho, mo, tl, ph, pt, oi, tg, sm, wk, wa, wb, fr) (nI h)) ∧
      (∀ post : Int32 → SY → Prop, post y (vl, ll, nl, fl, rd, (nI n), (nI N), fc, gy, ck, st, nk, na, nb, lk, la, lb, fr, nv', me, po, wk, wa, wb) → wpY_cross post (vl, ll, nl, fl, rd, (nI n), (nI N), fc, gy, ck, st, nk, na, nb, lk, la, lb, fr, nv, me, po, wk, wa, wb) (nI h) (-1)) := by
  by_cases c : jr_vr n st nk na nb nv (la h) = 0
  · exact ⟨0, nI (t), nI (t), jr_vn n st nk na nb nv (la h), Or.inl ⟨rfl, rfl, nI_pos' (by omega)⟩,
      fun post w => ⟨vp_in_nI (show h < 96 by omega) (by decide), nm_r (e' := 11) (by rw [nI_clamp (show h < 2 ^ 31 by omega)]; exact s1) (br_f (by decide) (br_f (by decide) (br_f (by decide) (br_f (by decide) (br_f (by decide) (br_f (by decide) (br_f (by decide) (br_f (by decide) (br_f (by decide) (br_f (by decide) (br_f (by decide) (br_f (by decide) (br_f (by decide) (br_t (by decide) (⟨vp_in_nI (show h < 96 by omega) (by decide), jr_xch0 hn HN rfl (by rw [nI_clamp (show h < 2 ^ 31 by omega)]; exact (L h (Or.inl rfl)).2.2) (by omega) c w⟩)))))))))))))))⟩,
      fun post w => ⟨vp_in_nI (show h < 96 by omega) (by decide), nm_r (e' := 11) (by rw [nI_clamp (show h < 2 ^ 31 by omega)]; exact s1) (br_f (by decide) (br_f (by decide) (br_f (by decide) (jr_yc0 hn HN (by omega) c (br_t (by decide) (br_f (by decide) (br_f (by decide) (br_f (by decide) (br_f (by decide) (br_f (by decide) (br_t rfl (jr_ypa (r := t) hN ht (Or.inr ⟨s1, s2, s3⟩) q1 q2 (Or.inl rfl) (Or.inr (Or.inr ⟨s3.symm, rfl⟩)) w))))))))))))⟩⟩
  · exact ⟨0, nI (h), nI (h), jr_vn n st nk na nb nv (la h), Or.inl ⟨rfl, rfl, nI_pos' (by omega)⟩,
      fun post w => ⟨vp_in_nI (show h < 96 by omega) (by decide), nm_r (e' := 11) (by rw [nI_clamp (show h < 2 ^ 31 by omega)]; exact s1) (br_f (by decide) (br_f (by decide) (br_f (by decide) (br_f (by decide) (br_f (by decide) (br_f (by decide) (br_f (by decide) (br_f (by decide) (br_f (by decide) (br_f (by decide) (br_f (by decide) (br_f (by decide) (br_f (by decide) (br_t (by decide) (⟨vp_in_nI (show h < 96 by omega) (by decide), jr_xch1 hn HN rfl rfl (by omega) c w⟩)))))))))))))))⟩,
      fun post w => ⟨vp_in_nI (show h < 96 by omega) (by decide), nm_r (e' := 11) (by rw [nI_clamp (show h < 2 ^ 31 by omega)]; exact s1) (br_f (by decide) (br_f (by decide) (br_f (by decide) (jr_yc1 hn HN (by omega) c (br_t (by decide) (br_f (by decide) (br_f (by decide) (br_f (by decide) (br_f (by decide) (br_f (by decide) (br_f (by decide) (w))))))))))))⟩⟩
theorem jr_evu12 (hN : N ≤ 96) (hn : n ≤ 32) (HN : jr_Nd n nk na nb nm) (l1 : h < m) (l2 : m < t) (ht : t < N) (s1 : lk h = 11) (s2 : lk m = 12) (s3 : lk t = 13)
    (q1 : jr_Sq lk (jr_Lk ho mo tl) (h + 1) m) (q2 : jr_Sq lk (jr_Lk ho mo tl) (m + 1) t) (L : jr_Lk ho mo tl h m t) :
    ∃ (r y g : Int32) (nv' : Nat → Int32), jr_O r y g ∧
      (∀ post : Int32 → SX → Prop, post r (vl, ll, nl, fl, (nI n), (nI N), pc, oc, rd, gp, fc, se, ck, pl, g, pm, st, nk, na, nb, nm, nv', lk, la, lb, ho, mo, tl, ph, pt, oi, tg, sm, wk, wa, wb, fr) → wpX_planUp post (vl, ll, nl, fl, (nI n), (nI N), pc, oc, rd, gp, fc, se, ck, pl, pg, pm, st, nk, na, nb, nm, nv, lk, la, lb, ho, mo, tl, ph, pt, oi, tg, sm, wk, wa, wb, fr) (nI m)) ∧
      (∀ post : Int32 → SY → Prop, post y (vl, ll, nl, fl, rd, (nI n), (nI N), fc, gy, ck, st, nk, na, nb, lk, la, lb, fr, nv', me, po, wk, wa, wb) → wpY_cross post (vl, ll, nl, fl, rd, (nI n), (nI N), fc, gy, ck, st, nk, na, nb, lk, la, lb, fr, nv, me, po, wk, wa, wb) (nI m) (-1)) := by
  by_cases c : jr_vr n st nk na nb nv (la t) = 0
  · exact ⟨0, nI (m), nI (m), jr_vn n st nk na nb nv (la t), Or.inl ⟨rfl, rfl, nI_pos' (by omega)⟩,
      fun post w => ⟨vp_in_nI (show m < 96 by omega) (by decide), nm_r (e' := 12) (by rw [nI_clamp (show m < 2 ^ 31 by omega)]; exact s2) (br_f (by decide) (br_f (by decide) (br_f (by decide) (br_f (by decide) (br_f (by decide) (br_f (by decide) (br_f (by decide) (br_f (by decide) (br_f (by decide) (br_f (by decide) (br_f (by decide) (br_f (by decide) (br_f (by decide) (br_f (by decide) (br_t (by decide) (⟨vp_in_nI (show m < 96 by omega) (by decide), jr_xwf0 hn HN (by rw [nI_clamp (show m < 2 ^ 31 by omega)]; exact (L m (Or.inr (Or.inl rfl))).2.2) rfl (by omega) c w⟩))))))))))))))))⟩,
      fun post w => ⟨vp_in_nI (show m < 96 by omega) (by decide), nm_r (e' := 12) (by rw [nI_clamp (show m < 2 ^ 31 by omega)]; exact s2) (br_f (by decide) (br_t rfl (jr_ypa (r := t) hN ht (Or.inr ⟨s1, s2, s3⟩) q1 q2 (Or.inr (Or.inl rfl)) (Or.inr (Or.inr ⟨s3.symm, rfl⟩)) (br_f (by decide) (jr_yc0 hn HN (by omega) c (br_t (by decide) (br_f (by decide) (br_f (by decide) (br_f (by decide) (br_f (by decide) (br_t rfl (br_t rfl (w)))))))))))))⟩⟩
  · exact ⟨3, -3, pg, jr_vn n st nk na nb nv (la t), Or.inr ⟨by decide, by decide, by decide⟩,
      fun post w => ⟨vp_in_nI (show m < 96 by omega) (by decide), nm_r (e' := 12) (by rw [nI_clamp (show m < 2 ^ 31 by omega)]; exact s2) (br_f (by decide) (br_f (by decide) (br_f (by decide) (br_f (by decide) (br_f (by decide) (br_f (by decide) (br_f (by decide) (br_f (by decide) (br_f (by decide) (br_f (by decide) (br_f (by decide) (br_f (by decide) (br_f (by decide) (br_f (by decide) (br_t (by decide) (⟨vp_in_nI (show m < 96 by omega) (by decide), jr_xwf1 hn HN (by rw [nI_clamp (show m < 2 ^ 31 by omega)]; exact (L m (Or.inr (Or.inl rfl))).2.2) (by omega) c w⟩))))))))))))))))⟩,
      fun post w => ⟨vp_in_nI (show m < 96 by omega) (by decide), nm_r (e' := 12) (by rw [nI_clamp (show m < 2 ^ 31 by omega)]; exact s2) (br_f (by decide) (br_t rfl (jr_ypa (r := t) hN ht (Or.inr ⟨s1, s2, s3⟩) q1 q2 (Or.inr (Or.inl rfl)) (Or.inr (Or.inr ⟨s3.symm, rfl⟩)) (br_f (by decide) (jr_yc1 hn HN (by omega) c (br_t (by decide) (br_f (by decide) (br_f (by decide) (br_f (by decide) (br_f (by decide) (br_t rfl (br_f (by decide) (w)))))))))))))⟩⟩
theorem jr_evu13 (hN : N ≤ 96) (hn : n ≤ 32) (HN : jr_Nd n nk na nb nm) (l1 : h < m) (l2 : m < t) (ht : t < N) (s1 : lk h = 11) (s2 : lk m = 12) (s3 : lk t = 13)
    (q1 : jr_Sq lk (jr_Lk ho mo tl) (h + 1) m) (q2 : jr_Sq lk (jr_Lk ho mo tl) (m + 1) t) (L : jr_Lk ho mo tl h m t) :
    ∃ (r y g : Int32) (nv' : Nat → Int32), jr_O r y g ∧
      (∀ post : Int32 → SX → Prop, post r (vl, ll, nl, fl, (nI n), (nI N), pc, oc, rd, gp, fc, se, ck, pl, g, pm, st, nk, na, nb, nm, nv', lk, la, lb, ho, mo, tl, ph, pt, oi, tg, sm, wk, wa, wb, fr) → wpX_planUp post (vl, ll, nl, fl, (nI n), (nI N), pc, oc, rd, gp, fc, se, ck, pl, pg, pm, st, nk, na, nb, nm, nv, lk, la, lb, ho, mo, tl, ph, pt, oi, tg, sm, wk, wa, wb, fr) (nI t)) ∧
      (∀ post : Int32 → SY → Prop, post y (vl, ll, nl, fl, rd, (nI n), (nI N), fc, gy, ck, st, nk, na, nb, lk, la, lb, fr, nv', me, po, wk, wa, wb) → wpY_cross post (vl, ll, nl, fl, rd, (nI n), (nI N), fc, gy, ck, st, nk, na, nb, lk, la, lb, fr, nv, me, po, wk, wa, wb) (nI t) (-1)) := by
  by_cases c : jr_vr n st nk na nb nv (la t) = 0
  · exact ⟨2, -2, pg, jr_vn n st nk na nb nv (la t), Or.inr ⟨by decide, by decide, by decide⟩,
      fun post w => ⟨vp_in_nI (show t < 96 by omega) (by decide), nm_r (e' := 13) (by rw [nI_clamp (show t < 2 ^ 31 by omega)]; exact s3) (br_f (by decide) (br_f (by decide) (br_f (by decide) (br_f (by decide) (br_f (by decide) (br_f (by decide) (br_f (by decide) (br_f (by decide) (br_f (by decide) (br_f (by decide) (br_f (by decide) (br_f (by decide) (br_f (by decide) (br_f (by decide) (br_f (by decide) (br_t (by decide) (⟨vp_in_nI (show t < 96 by omega) (by decide), jr_xwt0 hn HN rfl (by omega) c w⟩)))))))))))))))))⟩,
      fun post w => ⟨vp_in_nI (show t < 96 by omega) (by decide), nm_r (e' := 13) (by rw [nI_clamp (show t < 2 ^ 31 by omega)]; exact s3) (br_f (by decide) (br_f (by decide) (br_t rfl (br_t (by decide) (jr_yc0 hn HN (by omega) c (br_t (by decide) (br_f (by decide) (br_f (by decide) (br_f (by decide) (br_t rfl (br_t rfl (w))))))))))))⟩⟩
  · exact ⟨0, nI (m), nI (m), jr_vn n st nk na nb nv (la t), Or.inl ⟨rfl, rfl, nI_pos' (by omega)⟩,
      fun post w => ⟨vp_in_nI (show t < 96 by omega) (by decide), nm_r (e' := 13) (by rw [nI_clamp (show t < 2 ^ 31 by omega)]; exact s3) (br_f (by decide) (br_f (by decide) (br_f (by decide) (br_f (by decide) (br_f (by decide) (br_f (by decide) (br_f (by decide) (br_f (by decide) (br_f (by decide) (br_f (by decide) (br_f (by decide) (br_f (by decide) (br_f (by decide) (br_f (by decide) (br_f (by decide) (br_t (by decide) (⟨vp_in_nI (show t < 96 by omega) (by decide), jr_xwt1 hn HN rfl (by rw [nI_clamp (show t < 2 ^ 31 by omega)]; exact (L t (Or.inr (Or.inr rfl))).2.1) (by omega) c w⟩)))))))))))))))))⟩,
      fun post w => ⟨vp_in_nI (show t < 96 by omega) (by decide), nm_r (e' := 13) (by rw [nI_clamp (show t < 2 ^ 31 by omega)]; exact s3) (br_f (by decide) (br_f (by decide) (br_t rfl (br_t (by decide) (jr_yc1 hn HN (by omega) c (br_t (by decide) (br_f (by decide) (br_f (by decide) (br_f (by decide) (br_t rfl (br_f (by decide) (jr_ypa (r := m) hN ht (Or.inr ⟨s1, s2, s3⟩) q1 q2 (Or.inr (Or.inr rfl)) (Or.inr (Or.inl ⟨s2.symm, rfl⟩)) w))))))))))))⟩⟩
theorem jr_crd {l : Nat} (hN : N ≤ 96) (hn : n ≤ 32) (HN : jr_Nd n nk na nb nm) (A : jr_At lk (jr_Lk ho mo tl) 0 N l) :
    ∃ (r y g : Int32) (nv' : Nat → Int32), jr_O r y g ∧
      (∀ post : Int32 → SX → Prop, post r (vl, ll, nl, fl, (nI n), (nI N), pc, oc, rd, gp, fc, se, ck, pl, g, pm, st, nk, na, nb, nm, nv', lk, la, lb, ho, mo, tl, ph, pt, oi, tg, sm, wk, wa, wb, fr) → wpX_planDown post (vl, ll, nl, fl, (nI n), (nI N), pc, oc, rd, gp, fc, se, ck, pl, pg, pm, st, nk, na, nb, nm, nv, lk, la, lb, ho, mo, tl, ph, pt, oi, tg, sm, wk, wa, wb, fr) (nI l)) ∧
      (∀ post : Int32 → SY → Prop, post y (vl, ll, nl, fl, rd, (nI n), (nI N), fc, gy, ck, st, nk, na, nb, lk, la, lb, fr, nv', me, po, wk, wa, wb) → wpY_cross post (vl, ll, nl, fl, rd, (nI n), (nI N), fc, gy, ck, st, nk, na, nb, lk, la, lb, fr, nv, me, po, wk, wa, wb) (nI l) 1) := by
  obtain ⟨h, m, t, _, l1, l2, ht, s, L, q1, q2, e⟩ := A
  rcases s with ⟨s1, s2, s3⟩ | ⟨s1, s2, s3⟩ <;> rcases e with rfl | rfl | rfl
  · exact jr_evd8 hN hn HN l1 l2 ht s1 s2 s3 q1 q2 L
  · exact jr_evd9 hN hn HN l1 l2 ht s1 s2 s3 q1 q2 L
  · exact jr_evd10 hN hn HN l1 l2 ht s1 s2 s3 q1 q2 L
  · exact jr_evd11 hN hn HN l1 l2 ht s1 s2 s3 q1 q2 L
  · exact jr_evd12 hN hn HN l1 l2 ht s1 s2 s3 q1 q2 L
  · exact jr_evd13 hN hn HN l1 l2 ht s1 s2 s3 q1 q2 L
theorem jr_cru {l : Nat} (hN : N ≤ 96) (hn : n ≤ 32) (HN : jr_Nd n nk na nb nm) (A : jr_At lk (jr_Lk ho mo tl) 0 N l) :
    ∃ (r y g : Int32) (nv' : Nat → Int32), jr_O r y g ∧
      (∀ post : Int32 → SX → Prop, post r (vl, ll, nl, fl, (nI n), (nI N), pc, oc, rd, gp, fc, se, ck, pl, g, pm, st, nk, na, nb, nm, nv', lk, la, lb, ho, mo, tl, ph, pt, oi, tg, sm, wk, wa, wb, fr) → wpX_planUp post (vl, ll, nl, fl, (nI n), (nI N), pc, oc, rd, gp, fc, se, ck, pl, pg, pm, st, nk, na, nb, nm, nv, lk, la, lb, ho, mo, tl, ph, pt, oi, tg, sm, wk, wa, wb, fr) (nI l)) ∧
      (∀ post : Int32 → SY → Prop, post y (vl, ll, nl, fl, rd, (nI n), (nI N), fc, gy, ck, st, nk, na, nb, lk, la, lb, fr, nv', me, po, wk, wa, wb) → wpY_cross post (vl, ll, nl, fl, rd, (nI n), (nI N), fc, gy, ck, st, nk, na, nb, lk, la, lb, fr, nv, me, po, wk, wa, wb) (nI l) (-1)) := by
  obtain ⟨h, m, t, _, l1, l2, ht, s, L, q1, q2, e⟩ := A
  rcases s with ⟨s1, s2, s3⟩ | ⟨s1, s2, s3⟩ <;> rcases e with rfl | rfl | rfl
  · exact jr_evu8 hN hn HN l1 l2 ht s1 s2 s3 q1 q2 L
  · exact jr_evu9 hN hn HN l1 l2 ht s1 s2 s3 q1 q2 L
  · exact jr_evu10 hN hn HN l1 l2 ht s1 s2 s3 q1 q2 L
  · exact jr_evu11 hN hn HN l1 l2 ht s1 s2 s3 q1 q2 L
  · exact jr_evu12 hN hn HN l1 l2 ht s1 s2 s3 q1 q2 L
  · exact jr_evu13 hN hn HN l1 l2 ht s1 s2 s3 q1 q2 L
end JRK3
end
section
section JRL
variable {vl ll nl fl nc lc pc oc rd gp fc se ck pl pg pm gy : Int32} {st nk na nb nm nv lk la lb ho mo tl ph pt oi tg sm wk wa wb fr me po : Nat → Int32}
variable {N n : Nat}
/-! sense -/
def jr_sg (lk fr : Nat → Int32) : Nat → Int32
  | 0 => 1
  | i + 1 => if lk (fr i).toNatClampNeg = 7 then -jr_sg lk fr i else jr_sg lk fr i
theorem jr_sg1 {i : Nat} (h : lk (fr i).toNatClampNeg = 7) : jr_sg lk fr (i + 1) = -jr_sg lk fr i := if_pos h
theorem jr_sg0 {i : Nat} (h : ¬ lk (fr i).toNatClampNeg = 7) : jr_sg lk fr (i + 1) = jr_sg lk fr i := if_neg h
theorem jr_sg01 (i : Nat) : jr_sg lk fr i = 1 ∨ jr_sg lk fr i = -1 := by
  induction i with
  | zero => exact Or.inl rfl
  | succ i ih =>
    by_cases h : lk (fr i).toNatClampNeg = 7
    · rw [jr_sg1 h]
      rcases ih with e | e <;> rw [e]
      · exact Or.inr rfl
      · exact Or.inl (by decide)
    · rw [jr_sg0 h]; exact ih
theorem jr_sgcg {fr' : Nat → Int32} (k : Nat) : (∀ i, i < k → fr' i = fr i) → jr_sg lk fr' k = jr_sg lk fr k := by
  induction k with
  | zero => intro _; rfl
  | succ k ih =>
    intro z
    have e := ih (fun i h => z i (by omega))
    have ek := z k (by omega)
    by_cases h : lk (fr k).toNatClampNeg = 7
    · rw [jr_sg1 h, jr_sg1 (by rw [ek]; exact h), e]
    · rw [jr_sg0 h, jr_sg0 (by rw [ek]; exact h), e]
def jr_Fr (N : Nat) (fr : Nat → Int32) (k : Nat) : Prop := ∀ i, i < k → ∃ l, l < N ∧ fr i = nI l
theorem jr_ysn {post : Int32 → Prop} {k : Nat} (hN : N ≤ 96) (hk : k ≤ 16) (F : jr_Fr N fr k) (h : post (jr_sg lk fr k)) : wpY_sense post (vl, ll, nl, fl, rd, nc, lc, fc, gy, ck, st, nk, na, nb, lk, la, lb, fr, nv, me, po, wk, wa, wb) (nI k) := by
  have A : ∀ d i, i + d = k → wY_sense_4 post (nI k) vl ll nl fl rd nc lc fc gy ck st nk na nb lk la lb fr nv me po wk wa wb (d + 1) (jr_sg lk fr i) (nI i) := by
    intro d
    induction d with
    | zero =>
      intro i e
      have e : i = k := by omega
      subst e
      exact br_t (nI_le (by omega) (by omega)) h
    | succ d ih =>
      intro i e
      have Z := ih (i + 1) (by omega)
      obtain ⟨l, hl, el⟩ := F i (by omega)
      refine br_f (nI_ge (by omega) (by omega)) ⟨vp_in_nI (by omega) (by decide), ?_⟩
      rw [nI_clamp (show i < 2 ^ 31 by omega)]
      refine ⟨by rw [el]; exact vp_in_nI (by omega) (by decide), ?_⟩
      by_cases c : lk (fr i).toNatClampNeg = 7
      · rw [jr_sg1 c] at Z
        exact br_t c (nm_e (nm_r (nI_1 i) Z))
      · rw [jr_sg0 c] at Z
        exact br_f c (nm_r (nI_1 i) Z)
  exact ⟨_, A k 0 (by omega)⟩
theorem jr_nn (x : Int32) : -(-x) = x := Int32.neg_neg
/-- X's move, Y's frames left -/
def jr_Mv (f F : Nat) (k mv left : Int32) : Prop :=
  (mv = 0 ∧ left = nI f ∧ ¬ k = 0 ∧ ¬ k = 1 ∧ ¬ k = 6 ∧ ¬ k = 7) ∨ (mv = 1 ∧ left = nI (f + 1) ∧ f < F ∧ (k = 6 ∨ k = 7)) ∨
  (mv = -1 ∧ ∃ f', f = f' + 1 ∧ left = nI f' ∧ (k = 0 ∨ k = 1))
end JRL
section JRL2
variable {vl ll nl fl nc lc pc oc rd gp fc se ck pl pg pm gy : Int32} {st nk na nb nm nv lk la lb ho mo tl ph pt oi tg sm wk wa wb fr me po : Nat → Int32}
variable {N n f F l : Nat} {w : Int32}
theorem jr_pld_s (hN : N ≤ 96) (hl : l < N) (s : lk l = 2 ∨ lk l = 3 ∨ lk l = 4 ∨ lk l = 5) :
    ∃ (r g mv : Int32) (nv' : Nat → Int32),
      (∀ post : Int32 → SX → Prop, post r (vl, ll, nl, (nI F), (nI n), (nI N), pc, oc, rd, gp, (nI f), se, ck, pl, g, mv, st, nk, na, nb, nm, nv', lk, la, lb, ho, mo, tl, ph, pt, oi, tg, sm, wk, wa, wb, fr) → wpX_planDown post (vl, ll, nl, (nI F), (nI n), (nI N), pc, oc, rd, gp, (nI f), se, ck, pl, pg, 0, st, nk, na, nb, nm, nv, lk, la, lb, ho, mo, tl, ph, pt, oi, tg, sm, wk, wa, wb, fr) (nI l)) ∧
      ((¬ r = 0 ∧ ∀ (post : Int32 → SY → Prop) (rl : Int32), post r (vl, ll, nl, (nI F), rd, (nI n), (nI N), (nI f), gy, ck, st, nk, na, nb, lk, la, lb, fr, nv', me, po, wk, wa, wb) → wY_event_68 post w rl 1 (nI l) (lk l) (nI (l + 1)) vl ll nl (nI F) rd (nI n) (nI N) (nI f) gy ck st nk na nb lk la lb fr nv me po wk wa wb) ∨
       (r = 0 ∧ ∃ left : Int32, jr_Mv f F (lk l) mv left ∧ ∀ (post : Int32 → SY → Prop) (rl : Int32),
          wY_event_253 post w rl 1 (nI l) (lk l) g left vl ll nl (nI F) rd (nI n) (nI N) (nI f) gy ck st nk na nb lk la lb fr nv' me po wk wa wb → wY_event_68 post w rl 1 (nI l) (lk l) (nI (l + 1)) vl ll nl (nI F) rd (nI n) (nI N) (nI f) gy ck st nk na nb lk la lb fr nv me po wk wa wb)) := by
  have yT : ∀ (k : Int32) (post : Int32 → SY → Prop) (rl : Int32), (¬ k = 6 ∧ ¬ k = 7 ∧ ¬ k = 0 ∧ ¬ k = 1 ∧ k < 8) →
      wY_event_253 post w rl 1 (nI l) k (nI (l + 1)) (nI f) vl ll nl (nI F) rd (nI n) (nI N) (nI f) gy ck st nk na nb lk la lb fr nv me po wk wa wb → wY_event_68 post w rl 1 (nI l) k (nI (l + 1)) vl ll nl (nI F) rd (nI n) (nI N) (nI f) gy ck st nk na nb lk la lb fr nv me po wk wa wb := by
    intro k post rl c h
    exact br_f c.1 (br_f c.2.1 (br_f c.2.2.1 (br_f c.2.2.2.1 (br_t c.2.2.2.2 h))))
  refine ⟨0, nI (l + 1), 0, nv, fun post h => ?_, Or.inr ⟨rfl, nI f, Or.inl ⟨rfl, rfl, ?_⟩, fun post rl h => yT (lk l) post rl ?_ h⟩⟩
  · refine ⟨vp_in_nI (show l < 96 by omega) (by decide), ?_⟩
    rcases s with e | e | e | e
    · exact nm_r (e' := 2) (by rw [nI_clamp (show l < 2 ^ 31 by omega)]; exact e) (br_f (by decide) (br_f (by decide) (br_f (by decide) (br_f (by decide) (br_t (by decide) (nm_r (nI_1 l) h))))))
    · exact nm_r (e' := 3) (by rw [nI_clamp (show l < 2 ^ 31 by omega)]; exact e) (br_f (by decide) (br_f (by decide) (br_f (by decide) (br_f (by decide) (br_f (by decide) (br_t (by decide) (nm_r (nI_1 l) h)))))))
    · exact nm_r (e' := 4) (by rw [nI_clamp (show l < 2 ^ 31 by omega)]; exact e) (br_f (by decide) (br_f (by decide) (br_f (by decide) (br_f (by decide) (br_f (by decide) (br_f (by decide) (br_t (by decide) (nm_r (nI_1 l) h))))))))
    · exact nm_r (e' := 5) (by rw [nI_clamp (show l < 2 ^ 31 by omega)]; exact e) (br_f (by decide) (br_f (by decide) (br_f (by decide) (br_f (by decide) (br_f (by decide) (br_f (by decide) (br_f (by decide) (br_t (by decide) (nm_r (nI_1 l) h)))))))))
  · rcases s with e | e | e | e <;> rw [e] <;> decide
  · rcases s with e | e | e | e <;> rw [e] <;> decide
theorem jr_pld_6 (hN : N ≤ 96) (hF : F ≤ 16) (hf : f ≤ F) (hl : l < N) (e : lk l = 6) (CT : jr_Ct lk la N N) (tab : ∀ p, p < jr_cp lk N → jr_Pt lk jr_T3 N ph pt p) :
    ∃ (r g mv : Int32) (nv' : Nat → Int32),
      (∀ post : Int32 → SX → Prop, post r (vl, ll, nl, (nI F), (nI n), (nI N), pc, oc, rd, gp, (nI f), se, ck, pl, g, mv, st, nk, na, nb, nm, nv', lk, la, lb, ho, mo, tl, ph, pt, oi, tg, sm, wk, wa, wb, fr) → wpX_planDown post (vl, ll, nl, (nI F), (nI n), (nI N), pc, oc, rd, gp, (nI f), se, ck, pl, pg, 0, st, nk, na, nb, nm, nv, lk, la, lb, ho, mo, tl, ph, pt, oi, tg, sm, wk, wa, wb, fr) (nI l)) ∧
      ((¬ r = 0 ∧ ∀ (post : Int32 → SY → Prop) (rl : Int32), post r (vl, ll, nl, (nI F), rd, (nI n), (nI N), (nI f), gy, ck, st, nk, na, nb, lk, la, lb, fr, nv', me, po, wk, wa, wb) → wY_event_68 post w rl 1 (nI l) (lk l) (nI (l + 1)) vl ll nl (nI F) rd (nI n) (nI N) (nI f) gy ck st nk na nb lk la lb fr nv me po wk wa wb) ∨
       (r = 0 ∧ ∃ left : Int32, jr_Mv f F (lk l) mv left ∧ ∀ (post : Int32 → SY → Prop) (rl : Int32),
          wY_event_253 post w rl 1 (nI l) (lk l) g left vl ll nl (nI F) rd (nI n) (nI N) (nI f) gy ck st nk na nb lk la lb fr nv' me po wk wa wb → wY_event_68 post w rl 1 (nI l) (lk l) (nI (l + 1)) vl ll nl (nI F) rd (nI n) (nI N) (nI f) gy ck st nk na nb lk la lb fr nv me po wk wa wb)) := by
  obtain ⟨a, ha, ea⟩ := CT l hl (Or.inl e)
  have bN := jr_cple (K := lk) N
  obtain ⟨i, e0, ie, eN, k0, c0, q, k1, hph, hpt⟩ := tab a ha
  by_cases c : f < F
  · refine ⟨0, nI (i + 1), 1, nv, fun post h => ⟨vp_in_nI (show l < 96 by omega) (by decide), nm_r (e' := 6) (by rw [nI_clamp (show l < 2 ^ 31 by omega)]; exact e) (br_f (by decide) (br_f (by decide) (br_f (by decide) (br_f (by decide) (br_f (by decide) (br_f (by decide) (br_f (by decide) (br_f (by decide) (br_t (by decide) (?_))))))))))⟩, Or.inr ⟨rfl, nI (f + 1), Or.inr (Or.inl ⟨rfl, rfl, c, Or.inl e⟩), fun post rl h => ?_⟩⟩
    · show wpX_planEnter _ _ (nI l) 1
      refine br_t (nI_lt c (by omega)) ⟨vp_in_nI (show l < 96 by omega) (by decide), nm_r (e' := nI a) (by rw [nI_clamp (show l < 2 ^ 31 by omega)]; exact ea) ⟨vp_in_nI (show l < 96 by omega) (by decide), br_t (by rw [nI_clamp (show l < 2 ^ 31 by omega)]; exact e) ?_⟩⟩
      exact br_f (by decide) (br_t rfl ⟨vp_in_nI (show a < 96 by omega) (by decide), nm_r (e' := nI (i + 1)) (by rw [nI_clamp (show a < 2 ^ 31 by omega), hph, nI_1]) h⟩)
    · rw [e] at h ⊢
      refine br_t rfl (?_)
      refine br_t (nI_lt c (by omega)) (br_t rfl (br_f (by decide) ?_))
      exact br_t rfl ⟨vp_in_nI (show l < 96 by omega) (by decide), by rw [nI_clamp (show l < 2 ^ 31 by omega), ea]; exact jr_yfg hN (by omega) k0 c0 (nm_r (nI_1 f) h)⟩
  · refine ⟨4, pg, 0, nv, fun post h => ⟨vp_in_nI (show l < 96 by omega) (by decide), nm_r (e' := 6) (by rw [nI_clamp (show l < 2 ^ 31 by omega)]; exact e) (br_f (by decide) (br_f (by decide) (br_f (by decide) (br_f (by decide) (br_f (by decide) (br_f (by decide) (br_f (by decide) (br_f (by decide) (br_t (by decide) (?_))))))))))⟩, Or.inl ⟨by decide, fun post rl h => ?_⟩⟩
    · show wpX_planEnter _ _ (nI l) 1
      exact br_f (nI_nlt (by omega) (by omega)) h
    · rw [e]
      refine br_t rfl (?_)
      exact br_f (nI_nlt (by omega) (by omega)) h
theorem jr_pld_7 (hN : N ≤ 96) (hF : F ≤ 16) (hf : f ≤ F) (hl : l < N) (e : lk l = 7) (CT : jr_Ct lk la N N) (tab : ∀ p, p < jr_cp lk N → jr_Pt lk jr_T3 N ph pt p) :
    ∃ (r g mv : Int32) (nv' : Nat → Int32),
      (∀ post : Int32 → SX → Prop, post r (vl, ll, nl, (nI F), (nI n), (nI N), pc, oc, rd, gp, (nI f), se, ck, pl, g, mv, st, nk, na, nb, nm, nv', lk, la, lb, ho, mo, tl, ph, pt, oi, tg, sm, wk, wa, wb, fr) → wpX_planDown post (vl, ll, nl, (nI F), (nI n), (nI N), pc, oc, rd, gp, (nI f), se, ck, pl, pg, 0, st, nk, na, nb, nm, nv, lk, la, lb, ho, mo, tl, ph, pt, oi, tg, sm, wk, wa, wb, fr) (nI l)) ∧
      ((¬ r = 0 ∧ ∀ (post : Int32 → SY → Prop) (rl : Int32), post r (vl, ll, nl, (nI F), rd, (nI n), (nI N), (nI f), gy, ck, st, nk, na, nb, lk, la, lb, fr, nv', me, po, wk, wa, wb) → wY_event_68 post w rl 1 (nI l) (lk l) (nI (l + 1)) vl ll nl (nI F) rd (nI n) (nI N) (nI f) gy ck st nk na nb lk la lb fr nv me po wk wa wb) ∨
       (r = 0 ∧ ∃ left : Int32, jr_Mv f F (lk l) mv left ∧ ∀ (post : Int32 → SY → Prop) (rl : Int32),
          wY_event_253 post w rl 1 (nI l) (lk l) g left vl ll nl (nI F) rd (nI n) (nI N) (nI f) gy ck st nk na nb lk la lb fr nv' me po wk wa wb → wY_event_68 post w rl 1 (nI l) (lk l) (nI (l + 1)) vl ll nl (nI F) rd (nI n) (nI N) (nI f) gy ck st nk na nb lk la lb fr nv me po wk wa wb)) := by
  obtain ⟨a, ha, ea⟩ := CT l hl (Or.inr e)
  have bN := jr_cple (K := lk) N
  obtain ⟨i, e0, ie, eN, k0, c0, q, k1, hph, hpt⟩ := tab a ha
  by_cases c : f < F
  · refine ⟨0, nI e0, 1, nv, fun post h => ⟨vp_in_nI (show l < 96 by omega) (by decide), nm_r (e' := 7) (by rw [nI_clamp (show l < 2 ^ 31 by omega)]; exact e) (br_f (by decide) (br_f (by decide) (br_f (by decide) (br_f (by decide) (br_f (by decide) (br_f (by decide) (br_f (by decide) (br_f (by decide) (br_f (by decide) (br_t (by decide) (?_)))))))))))⟩, Or.inr ⟨rfl, nI (f + 1), Or.inr (Or.inl ⟨rfl, rfl, c, Or.inr e⟩), fun post rl h => ?_⟩⟩
    · show wpX_planEnter _ _ (nI l) 1
      refine br_t (nI_lt c (by omega)) ⟨vp_in_nI (show l < 96 by omega) (by decide), nm_r (e' := nI a) (by rw [nI_clamp (show l < 2 ^ 31 by omega)]; exact ea) ⟨vp_in_nI (show l < 96 by omega) (by decide), br_f (by rw [nI_clamp (show l < 2 ^ 31 by omega), e]; decide) ?_⟩⟩
      exact br_f (by decide) (br_f (by decide) ⟨vp_in_nI (show a < 96 by omega) (by decide), nm_r (e' := nI e0) (by rw [nI_clamp (show a < 2 ^ 31 by omega)]; exact hpt) h⟩)
    · rw [e] at h ⊢
      refine br_f (by decide) (br_t rfl (?_))
      refine br_t (nI_lt c (by omega)) (br_f (by decide) (br_f (by decide) ?_))
      exact br_f (by decide) ⟨vp_in_nI (show l < 96 by omega) (by decide), by rw [nI_clamp (show l < 2 ^ 31 by omega), ea]; exact jr_ylg hN eN k0 c0 q k1 (nm_r (nI_1 f) h)⟩
  · refine ⟨4, pg, 0, nv, fun post h => ⟨vp_in_nI (show l < 96 by omega) (by decide), nm_r (e' := 7) (by rw [nI_clamp (show l < 2 ^ 31 by omega)]; exact e) (br_f (by decide) (br_f (by decide) (br_f (by decide) (br_f (by decide) (br_f (by decide) (br_f (by decide) (br_f (by decide) (br_f (by decide) (br_f (by decide) (br_t (by decide) (?_)))))))))))⟩, Or.inl ⟨by decide, fun post rl h => ?_⟩⟩
    · show wpX_planEnter _ _ (nI l) 1
      exact br_f (nI_nlt (by omega) (by omega)) h
    · rw [e]
      refine br_f (by decide) (br_t rfl (?_))
      exact br_f (nI_nlt (by omega) (by omega)) h
theorem jr_pld_r (hN : N ≤ 96) (hF : F ≤ 16) (hf : f ≤ F) (hl : l < N) (e : lk l = 0 ∨ lk l = 1) (Fr : jr_Fr N fr f) (hv : w * jr_sg lk fr f = 1) :
    ∃ (r g mv : Int32) (nv' : Nat → Int32),
      (∀ post : Int32 → SX → Prop, post r (vl, ll, nl, (nI F), (nI n), (nI N), pc, oc, rd, gp, (nI f), se, ck, pl, g, mv, st, nk, na, nb, nm, nv', lk, la, lb, ho, mo, tl, ph, pt, oi, tg, sm, wk, wa, wb, fr) → wpX_planDown post (vl, ll, nl, (nI F), (nI n), (nI N), pc, oc, rd, gp, (nI f), se, ck, pl, pg, 0, st, nk, na, nb, nm, nv, lk, la, lb, ho, mo, tl, ph, pt, oi, tg, sm, wk, wa, wb, fr) (nI l)) ∧
      ((¬ r = 0 ∧ ∀ (post : Int32 → SY → Prop) (rl : Int32), post r (vl, ll, nl, (nI F), rd, (nI n), (nI N), (nI f), gy, ck, st, nk, na, nb, lk, la, lb, fr, nv', me, po, wk, wa, wb) → wY_event_68 post w rl 1 (nI l) (lk l) (nI (l + 1)) vl ll nl (nI F) rd (nI n) (nI N) (nI f) gy ck st nk na nb lk la lb fr nv me po wk wa wb) ∨
       (r = 0 ∧ ∃ left : Int32, jr_Mv f F (lk l) mv left ∧ ∀ (post : Int32 → SY → Prop) (rl : Int32),
          wY_event_253 post w rl 1 (nI l) (lk l) g left vl ll nl (nI F) rd (nI n) (nI N) (nI f) gy ck st nk na nb lk la lb fr nv' me po wk wa wb → wY_event_68 post w rl 1 (nI l) (lk l) (nI (l + 1)) vl ll nl (nI F) rd (nI n) (nI N) (nI f) gy ck st nk na nb lk la lb fr nv me po wk wa wb)) := by
  have X : ∀ post : Int32 → SX → Prop, wpX_planLeave post (vl, ll, nl, (nI F), (nI n), (nI N), pc, oc, rd, gp, (nI f), se, ck, pl, pg, 0, st, nk, na, nb, nm, nv, lk, la, lb, ho, mo, tl, ph, pt, oi, tg, sm, wk, wa, wb, fr) 1 → wpX_planDown post (vl, ll, nl, (nI F), (nI n), (nI N), pc, oc, rd, gp, (nI f), se, ck, pl, pg, 0, st, nk, na, nb, nm, nv, lk, la, lb, ho, mo, tl, ph, pt, oi, tg, sm, wk, wa, wb, fr) (nI l) := by
    intro post h
    refine ⟨vp_in_nI (show l < 96 by omega) (by decide), ?_⟩
    rcases e with e | e
    · exact nm_r (e' := 0) (by rw [nI_clamp (show l < 2 ^ 31 by omega)]; exact e) (br_f (by decide) (br_f (by decide) (br_t (by decide) (h))))
    · exact nm_r (e' := 1) (by rw [nI_clamp (show l < 2 ^ 31 by omega)]; exact e) (br_f (by decide) (br_f (by decide) (br_f (by decide) (br_t (by decide) (h)))))
  have Y : ∀ (post : Int32 → SY → Prop) (rl : Int32), (∀ k, k = lk l → wY_event_176 post w rl 1 (nI l) k vl ll nl (nI F) rd (nI n) (nI N) (nI f) gy ck st nk na nb lk la lb fr nv me po wk wa wb) → wY_event_68 post w rl 1 (nI l) (lk l) (nI (l + 1)) vl ll nl (nI F) rd (nI n) (nI N) (nI f) gy ck st nk na nb lk la lb fr nv me po wk wa wb := by
    intro post rl h
    rcases e with e | e
    · have h := h 0 e.symm
      rw [e]
      exact br_f (by decide) (br_f (by decide) (br_t rfl (h)))
    · have h := h 1 e.symm
      rw [e]
      exact br_f (by decide) (br_f (by decide) (br_f (by decide) (br_t rfl (h))))
  by_cases c : f = 0
  · subst c
    exact ⟨1, pg, 0, nv, fun post h => X post (br_t rfl h), Or.inl ⟨by decide, fun post rl h => Y post rl (fun k _ => br_t rfl h)⟩⟩
  · obtain ⟨f', rfl⟩ : ∃ f', f = f' + 1 := ⟨f - 1, by omega⟩
    obtain ⟨cn, hcn, ecn⟩ := Fr f' (by omega)
    have cf : (nI f').toNatClampNeg = f' := nI_clamp (by omega)
    have cc : (nI cn).toNatClampNeg = cn := nI_clamp (by omega)
    have Fr' : jr_Fr N fr f' := fun i hi => Fr i (by omega)
    have vf : vp_in (nI f') 16 := vp_in_nI (by omega) (by decide)
    have vc : vp_in (nI cn) 96 := vp_in_nI (by omega) (by decide)
    by_cases c7 : lk cn = 7
    · have c7' : lk (fr f').toNatClampNeg = 7 := by rw [ecn, cc]; exact c7
      have hu : w * jr_sg lk fr f' = (-1) := by
        have z := hv
        rw [jr_sg1 c7', Int32.mul_neg] at z
        exact (jr_nn (w * jr_sg lk fr f')).symm.trans ((congrArg (fun q : Int32 => -q) z).trans (by decide))
      refine ⟨0, nI cn, -1, nv, fun post h => X post ?_, Or.inr ⟨rfl, nI f', Or.inr (Or.inr ⟨rfl, f', rfl, rfl, e⟩), fun post rl h => Y post rl (fun k ek => ?_)⟩⟩
      · refine br_f (nI_ne0 (by omega) (by omega)) ?_
        rw [nI_pred f']
        refine ⟨vf, nm_r (e' := nI cn) (by rw [cf]; exact ecn) ⟨vc, br_t (by rw [cc]; exact c7) ?_⟩⟩
        unfold wX_planLeave_38
        exact br_t (by decide) h
      · subst ek
        refine br_f (nI_ne0 (by omega) (by omega)) (nm_r (nI_pred f') (jr_ysn hN (by omega) Fr' ?_))
        rw [hu, cf, ecn]
        exact br_t (by decide) ⟨vf, h⟩
    · have c7' : ¬ lk (fr f').toNatClampNeg = 7 := by rw [ecn, cc]; exact c7
      have hu : w * jr_sg lk fr f' = 1 := by
        have z := hv
        rw [jr_sg0 c7'] at z
        exact z
      refine ⟨0, nI (cn + 1), -1, nv, fun post h => X post ?_, Or.inr ⟨rfl, nI f', Or.inr (Or.inr ⟨rfl, f', rfl, rfl, e⟩), fun post rl h => Y post rl (fun k ek => ?_)⟩⟩
      · refine br_f (nI_ne0 (by omega) (by omega)) ?_
        rw [nI_pred f']
        refine ⟨vf, nm_r (e' := nI cn) (by rw [cf]; exact ecn) ⟨vc, br_f (by rw [cc]; exact c7) ?_⟩⟩
        unfold wX_planLeave_38
        exact br_f (by decide) (nm_r (nI_1 cn) h)
      · subst ek
        refine br_f (nI_ne0 (by omega) (by omega)) (nm_r (nI_pred f') (jr_ysn hN (by omega) Fr' ?_))
        rw [hu, cf, ecn]
        rw [nI_1 cn]
        exact br_f (by decide) ⟨vf, h⟩
theorem jr_pld_t (hN : N ≤ 96) (hn : n ≤ 32) (HN : jr_Nd n nk na nb nm) (hl : l < N) (A : jr_At lk (jr_Lk ho mo tl) 0 N l) :
    ∃ (r g mv : Int32) (nv' : Nat → Int32),
      (∀ post : Int32 → SX → Prop, post r (vl, ll, nl, (nI F), (nI n), (nI N), pc, oc, rd, gp, (nI f), se, ck, pl, g, mv, st, nk, na, nb, nm, nv', lk, la, lb, ho, mo, tl, ph, pt, oi, tg, sm, wk, wa, wb, fr) → wpX_planDown post (vl, ll, nl, (nI F), (nI n), (nI N), pc, oc, rd, gp, (nI f), se, ck, pl, pg, 0, st, nk, na, nb, nm, nv, lk, la, lb, ho, mo, tl, ph, pt, oi, tg, sm, wk, wa, wb, fr) (nI l)) ∧
      ((¬ r = 0 ∧ ∀ (post : Int32 → SY → Prop) (rl : Int32), post r (vl, ll, nl, (nI F), rd, (nI n), (nI N), (nI f), gy, ck, st, nk, na, nb, lk, la, lb, fr, nv', me, po, wk, wa, wb) → wY_event_68 post w rl 1 (nI l) (lk l) (nI (l + 1)) vl ll nl (nI F) rd (nI n) (nI N) (nI f) gy ck st nk na nb lk la lb fr nv me po wk wa wb) ∨
       (r = 0 ∧ ∃ left : Int32, jr_Mv f F (lk l) mv left ∧ ∀ (post : Int32 → SY → Prop) (rl : Int32),
          wY_event_253 post w rl 1 (nI l) (lk l) g left vl ll nl (nI F) rd (nI n) (nI N) (nI f) gy ck st nk na nb lk la lb fr nv' me po wk wa wb → wY_event_68 post w rl 1 (nI l) (lk l) (nI (l + 1)) vl ll nl (nI F) rd (nI n) (nI N) (nI f) gy ck st nk na nb lk la lb fr nv me po wk wa wb)) := by
  obtain ⟨r, y, g, nv', O, hX, hY⟩ := jr_crd (vl := vl) (ll := ll) (nl := nl) (fl := nI F) (pc := pc) (oc := oc) (rd := rd) (gp := gp) (fc := nI f) (se := se) (ck := ck) (pl := pl) (pg := pg) (pm := 0) (gy := gy) (st := st) (nv := nv) (la := la) (lb := lb) (ph := ph) (pt := pt) (oi := oi) (tg := tg) (sm := sm) (wk := wk) (wa := wa) (wb := wb) (fr := fr) (me := me) (po := po) hN hn HN A
  have k : ¬ lk l = 6 ∧ ¬ lk l = 7 ∧ ¬ lk l = 0 ∧ ¬ lk l = 1 ∧ ¬ lk l < 8 := by
    obtain ⟨h, m, t, _, _, _, _, s, _, _, _, e⟩ := A
    rcases s with ⟨s1, s2, s3⟩ | ⟨s1, s2, s3⟩ <;> rcases e with rfl | rfl | rfl
    · rw [s1]; decide
    · rw [s2]; decide
    · rw [s3]; decide
    · rw [s1]; decide
    · rw [s2]; decide
    · rw [s3]; decide
  rcases O with ⟨r0, yg, y0⟩ | ⟨r0, yr, y0⟩
  · refine ⟨r, g, 0, nv', hX, Or.inr ⟨r0, nI f, Or.inl ⟨rfl, rfl, k.2.2.1, k.2.2.2.1, k.1, k.2.1⟩, fun post rl h => ?_⟩⟩
    refine br_f k.1 (br_f k.2.1 (br_f k.2.2.1 (br_f k.2.2.2.1 (br_f k.2.2.2.2 (hY _ (br_t y0 ?_))))))
    rw [yg]; exact h
  · refine ⟨r, g, 0, nv', hX, Or.inl ⟨r0, fun post rl h => ?_⟩⟩
    refine br_f k.1 (br_f k.2.1 (br_f k.2.2.1 (br_f k.2.2.2.1 (br_f k.2.2.2.2 (hY _ (br_f y0 ?_))))))
    rw [yr]; exact h
theorem jr_pld (hN : N ≤ 96) (hn : n ≤ 32) (HN : jr_Nd n nk na nb nm) (hF : F ≤ 16) (hf : f ≤ F) (hl : l < N) (CT : jr_Ct lk la N N) (pg0 : jr_Pg lk (jr_Lk ho mo tl) 0 N)
    (tab : ∀ p, p < jr_cp lk N → jr_Pt lk jr_T3 N ph pt p) (Fr : jr_Fr N fr f) (hv : w * jr_sg lk fr f = 1) :
    ∃ (r g mv : Int32) (nv' : Nat → Int32),
      (∀ post : Int32 → SX → Prop, post r (vl, ll, nl, (nI F), (nI n), (nI N), pc, oc, rd, gp, (nI f), se, ck, pl, g, mv, st, nk, na, nb, nm, nv', lk, la, lb, ho, mo, tl, ph, pt, oi, tg, sm, wk, wa, wb, fr) → wpX_planDown post (vl, ll, nl, (nI F), (nI n), (nI N), pc, oc, rd, gp, (nI f), se, ck, pl, pg, 0, st, nk, na, nb, nm, nv, lk, la, lb, ho, mo, tl, ph, pt, oi, tg, sm, wk, wa, wb, fr) (nI l)) ∧
      ((¬ r = 0 ∧ ∀ (post : Int32 → SY → Prop) (rl : Int32), post r (vl, ll, nl, (nI F), rd, (nI n), (nI N), (nI f), gy, ck, st, nk, na, nb, lk, la, lb, fr, nv', me, po, wk, wa, wb) → wY_event_68 post w rl 1 (nI l) (lk l) (nI (l + 1)) vl ll nl (nI F) rd (nI n) (nI N) (nI f) gy ck st nk na nb lk la lb fr nv me po wk wa wb) ∨
       (r = 0 ∧ ∃ left : Int32, jr_Mv f F (lk l) mv left ∧ ∀ (post : Int32 → SY → Prop) (rl : Int32),
          wY_event_253 post w rl 1 (nI l) (lk l) g left vl ll nl (nI F) rd (nI n) (nI N) (nI f) gy ck st nk na nb lk la lb fr nv' me po wk wa wb → wY_event_68 post w rl 1 (nI l) (lk l) (nI (l + 1)) vl ll nl (nI F) rd (nI n) (nI N) (nI f) gy ck st nk na nb lk la lb fr nv me po wk wa wb)) := by
  rcases jr_pgfl pg0 l (by omega) hl with e | e | e | A
  · exact jr_pld_r hN hF hf hl (Or.inl e) Fr hv
  · exact jr_pld_r hN hF hf hl (Or.inr e) Fr hv
  · rcases e with e | e | e | e | e | e
    · exact jr_pld_s hN hl (Or.inl e)
    · exact jr_pld_s hN hl (Or.inr (Or.inl e))
    · exact jr_pld_s hN hl (Or.inr (Or.inr (Or.inl e)))
    · exact jr_pld_s hN hl (Or.inr (Or.inr (Or.inr e)))
    · exact jr_pld_6 hN hF hf hl e CT tab
    · exact jr_pld_7 hN hF hf hl e CT tab
  · exact jr_pld_t hN hn HN hl A
theorem jr_plu_s (hN : N ≤ 96) (hl : l < N) (s : lk l = 2 ∨ lk l = 3 ∨ lk l = 4 ∨ lk l = 5) :
    ∃ (r g mv : Int32) (nv' : Nat → Int32),
      (∀ post : Int32 → SX → Prop, post r (vl, ll, nl, (nI F), (nI n), (nI N), pc, oc, rd, gp, (nI f), se, ck, pl, g, mv, st, nk, na, nb, nm, nv', lk, la, lb, ho, mo, tl, ph, pt, oi, tg, sm, wk, wa, wb, fr) → wpX_planUp post (vl, ll, nl, (nI F), (nI n), (nI N), pc, oc, rd, gp, (nI f), se, ck, pl, pg, 0, st, nk, na, nb, nm, nv, lk, la, lb, ho, mo, tl, ph, pt, oi, tg, sm, wk, wa, wb, fr) (nI l)) ∧
      ((¬ r = 0 ∧ ∀ (post : Int32 → SY → Prop) (rl : Int32), post r (vl, ll, nl, (nI F), rd, (nI n), (nI N), (nI f), gy, ck, st, nk, na, nb, lk, la, lb, fr, nv', me, po, wk, wa, wb) → wY_event_68 post w rl (-1) (nI l) (lk l) (nI l) vl ll nl (nI F) rd (nI n) (nI N) (nI f) gy ck st nk na nb lk la lb fr nv me po wk wa wb) ∨
       (r = 0 ∧ ∃ left : Int32, jr_Mv f F (lk l) mv left ∧ ∀ (post : Int32 → SY → Prop) (rl : Int32),
          wY_event_253 post w rl (-1) (nI l) (lk l) g left vl ll nl (nI F) rd (nI n) (nI N) (nI f) gy ck st nk na nb lk la lb fr nv' me po wk wa wb → wY_event_68 post w rl (-1) (nI l) (lk l) (nI l) vl ll nl (nI F) rd (nI n) (nI N) (nI f) gy ck st nk na nb lk la lb fr nv me po wk wa wb)) := by
  have yT : ∀ (k : Int32) (post : Int32 → SY → Prop) (rl : Int32), (¬ k = 6 ∧ ¬ k = 7 ∧ ¬ k = 0 ∧ ¬ k = 1 ∧ k < 8) →
      wY_event_253 post w rl (-1) (nI l) k (nI l) (nI f) vl ll nl (nI F) rd (nI n) (nI N) (nI f) gy ck st nk na nb lk la lb fr nv me po wk wa wb → wY_event_68 post w rl (-1) (nI l) k (nI l) vl ll nl (nI F) rd (nI n) (nI N) (nI f) gy ck st nk na nb lk la lb fr nv me po wk wa wb := by
    intro k post rl c h
    exact br_f c.1 (br_f c.2.1 (br_f c.2.2.1 (br_f c.2.2.2.1 (br_t c.2.2.2.2 h))))
  refine ⟨0, nI l, 0, nv, fun post h => ?_, Or.inr ⟨rfl, nI f, Or.inl ⟨rfl, rfl, ?_⟩, fun post rl h => yT (lk l) post rl ?_ h⟩⟩
  · refine ⟨vp_in_nI (show l < 96 by omega) (by decide), ?_⟩
    rcases s with e | e | e | e
    · exact nm_r (e' := 2) (by rw [nI_clamp (show l < 2 ^ 31 by omega)]; exact e) (br_f (by decide) (br_f (by decide) (br_f (by decide) (br_f (by decide) (br_t (by decide) (h))))))
    · exact nm_r (e' := 3) (by rw [nI_clamp (show l < 2 ^ 31 by omega)]; exact e) (br_f (by decide) (br_f (by decide) (br_f (by decide) (br_f (by decide) (br_f (by decide) (br_t (by decide) (h)))))))
    · exact nm_r (e' := 4) (by rw [nI_clamp (show l < 2 ^ 31 by omega)]; exact e) (br_f (by decide) (br_f (by decide) (br_f (by decide) (br_f (by decide) (br_f (by decide) (br_f (by decide) (br_t (by decide) (h))))))))
    · exact nm_r (e' := 5) (by rw [nI_clamp (show l < 2 ^ 31 by omega)]; exact e) (br_f (by decide) (br_f (by decide) (br_f (by decide) (br_f (by decide) (br_f (by decide) (br_f (by decide) (br_f (by decide) (br_t (by decide) (h)))))))))
  · rcases s with e | e | e | e <;> rw [e] <;> decide
  · rcases s with e | e | e | e <;> rw [e] <;> decide
theorem jr_plu_6 (hN : N ≤ 96) (hF : F ≤ 16) (hf : f ≤ F) (hl : l < N) (e : lk l = 6) (CT : jr_Ct lk la N N) (tab : ∀ p, p < jr_cp lk N → jr_Pt lk jr_T3 N ph pt p) :
    ∃ (r g mv : Int32) (nv' : Nat → Int32),
      (∀ post : Int32 → SX → Prop, post r (vl, ll, nl, (nI F), (nI n), (nI N), pc, oc, rd, gp, (nI f), se, ck, pl, g, mv, st, nk, na, nb, nm, nv', lk, la, lb, ho, mo, tl, ph, pt, oi, tg, sm, wk, wa, wb, fr) → wpX_planUp post (vl, ll, nl, (nI F), (nI n), (nI N), pc, oc, rd, gp, (nI f), se, ck, pl, pg, 0, st, nk, na, nb, nm, nv, lk, la, lb, ho, mo, tl, ph, pt, oi, tg, sm, wk, wa, wb, fr) (nI l)) ∧
      ((¬ r = 0 ∧ ∀ (post : Int32 → SY → Prop) (rl : Int32), post r (vl, ll, nl, (nI F), rd, (nI n), (nI N), (nI f), gy, ck, st, nk, na, nb, lk, la, lb, fr, nv', me, po, wk, wa, wb) → wY_event_68 post w rl (-1) (nI l) (lk l) (nI l) vl ll nl (nI F) rd (nI n) (nI N) (nI f) gy ck st nk na nb lk la lb fr nv me po wk wa wb) ∨
       (r = 0 ∧ ∃ left : Int32, jr_Mv f F (lk l) mv left ∧ ∀ (post : Int32 → SY → Prop) (rl : Int32),
          wY_event_253 post w rl (-1) (nI l) (lk l) g left vl ll nl (nI F) rd (nI n) (nI N) (nI f) gy ck st nk na nb lk la lb fr nv' me po wk wa wb → wY_event_68 post w rl (-1) (nI l) (lk l) (nI l) vl ll nl (nI F) rd (nI n) (nI N) (nI f) gy ck st nk na nb lk la lb fr nv me po wk wa wb)) := by
  obtain ⟨a, ha, ea⟩ := CT l hl (Or.inl e)
  have bN := jr_cple (K := lk) N
  obtain ⟨i, e0, ie, eN, k0, c0, q, k1, hph, hpt⟩ := tab a ha
  by_cases c : f < F
  · refine ⟨0, nI e0, 1, nv, fun post h => ⟨vp_in_nI (show l < 96 by omega) (by decide), nm_r (e' := 6) (by rw [nI_clamp (show l < 2 ^ 31 by omega)]; exact e) (br_f (by decide) (br_f (by decide) (br_f (by decide) (br_f (by decide) (br_f (by decide) (br_f (by decide) (br_f (by decide) (br_f (by decide) (br_t (by decide) (?_))))))))))⟩, Or.inr ⟨rfl, nI (f + 1), Or.inr (Or.inl ⟨rfl, rfl, c, Or.inl e⟩), fun post rl h => ?_⟩⟩
    · show wpX_planEnter _ _ (nI l) (-1)
      refine br_t (nI_lt c (by omega)) ⟨vp_in_nI (show l < 96 by omega) (by decide), nm_r (e' := nI a) (by rw [nI_clamp (show l < 2 ^ 31 by omega)]; exact ea) ⟨vp_in_nI (show l < 96 by omega) (by decide), br_t (by rw [nI_clamp (show l < 2 ^ 31 by omega)]; exact e) ?_⟩⟩
      exact br_t (by decide) (br_f (by decide) ⟨vp_in_nI (show a < 96 by omega) (by decide), nm_r (e' := nI e0) (by rw [nI_clamp (show a < 2 ^ 31 by omega)]; exact hpt) h⟩)
    · rw [e] at h ⊢
      refine br_t rfl (?_)
      refine br_t (nI_lt c (by omega)) (br_t rfl (br_t (by decide) ?_))
      exact br_f (by decide) ⟨vp_in_nI (show l < 96 by omega) (by decide), by rw [nI_clamp (show l < 2 ^ 31 by omega), ea]; exact jr_ylg hN eN k0 c0 q k1 (nm_r (nI_1 f) h)⟩
  · refine ⟨4, pg, 0, nv, fun post h => ⟨vp_in_nI (show l < 96 by omega) (by decide), nm_r (e' := 6) (by rw [nI_clamp (show l < 2 ^ 31 by omega)]; exact e) (br_f (by decide) (br_f (by decide) (br_f (by decide) (br_f (by decide) (br_f (by decide) (br_f (by decide) (br_f (by decide) (br_f (by decide) (br_t (by decide) (?_))))))))))⟩, Or.inl ⟨by decide, fun post rl h => ?_⟩⟩
    · show wpX_planEnter _ _ (nI l) (-1)
      exact br_f (nI_nlt (by omega) (by omega)) h
    · rw [e]
      refine br_t rfl (?_)
      exact br_f (nI_nlt (by omega) (by omega)) h
theorem jr_plu_7 (hN : N ≤ 96) (hF : F ≤ 16) (hf : f ≤ F) (hl : l < N) (e : lk l = 7) (CT : jr_Ct lk la N N) (tab : ∀ p, p < jr_cp lk N → jr_Pt lk jr_T3 N ph pt p) :
    ∃ (r g mv : Int32) (nv' : Nat → Int32),
      (∀ post : Int32 → SX → Prop, post r (vl, ll, nl, (nI F), (nI n), (nI N), pc, oc, rd, gp, (nI f), se, ck, pl, g, mv, st, nk, na, nb, nm, nv', lk, la, lb, ho, mo, tl, ph, pt, oi, tg, sm, wk, wa, wb, fr) → wpX_planUp post (vl, ll, nl, (nI F), (nI n), (nI N), pc, oc, rd, gp, (nI f), se, ck, pl, pg, 0, st, nk, na, nb, nm, nv, lk, la, lb, ho, mo, tl, ph, pt, oi, tg, sm, wk, wa, wb, fr) (nI l)) ∧
      ((¬ r = 0 ∧ ∀ (post : Int32 → SY → Prop) (rl : Int32), post r (vl, ll, nl, (nI F), rd, (nI n), (nI N), (nI f), gy, ck, st, nk, na, nb, lk, la, lb, fr, nv', me, po, wk, wa, wb) → wY_event_68 post w rl (-1) (nI l) (lk l) (nI l) vl ll nl (nI F) rd (nI n) (nI N) (nI f) gy ck st nk na nb lk la lb fr nv me po wk wa wb) ∨
       (r = 0 ∧ ∃ left : Int32, jr_Mv f F (lk l) mv left ∧ ∀ (post : Int32 → SY → Prop) (rl : Int32),
          wY_event_253 post w rl (-1) (nI l) (lk l) g left vl ll nl (nI F) rd (nI n) (nI N) (nI f) gy ck st nk na nb lk la lb fr nv' me po wk wa wb → wY_event_68 post w rl (-1) (nI l) (lk l) (nI l) vl ll nl (nI F) rd (nI n) (nI N) (nI f) gy ck st nk na nb lk la lb fr nv me po wk wa wb)) := by
  obtain ⟨a, ha, ea⟩ := CT l hl (Or.inr e)
  have bN := jr_cple (K := lk) N
  obtain ⟨i, e0, ie, eN, k0, c0, q, k1, hph, hpt⟩ := tab a ha
  by_cases c : f < F
  · refine ⟨0, nI (i + 1), 1, nv, fun post h => ⟨vp_in_nI (show l < 96 by omega) (by decide), nm_r (e' := 7) (by rw [nI_clamp (show l < 2 ^ 31 by omega)]; exact e) (br_f (by decide) (br_f (by decide) (br_f (by decide) (br_f (by decide) (br_f (by decide) (br_f (by decide) (br_f (by decide) (br_f (by decide) (br_f (by decide) (br_t (by decide) (?_)))))))))))⟩, Or.inr ⟨rfl, nI (f + 1), Or.inr (Or.inl ⟨rfl, rfl, c, Or.inr e⟩), fun post rl h => ?_⟩⟩
    · show wpX_planEnter _ _ (nI l) (-1)
      refine br_t (nI_lt c (by omega)) ⟨vp_in_nI (show l < 96 by omega) (by decide), nm_r (e' := nI a) (by rw [nI_clamp (show l < 2 ^ 31 by omega)]; exact ea) ⟨vp_in_nI (show l < 96 by omega) (by decide), br_f (by rw [nI_clamp (show l < 2 ^ 31 by omega), e]; decide) ?_⟩⟩
      exact br_t (by decide) (br_t rfl ⟨vp_in_nI (show a < 96 by omega) (by decide), nm_r (e' := nI (i + 1)) (by rw [nI_clamp (show a < 2 ^ 31 by omega), hph, nI_1]) h⟩)
    · rw [e] at h ⊢
      refine br_f (by decide) (br_t rfl (?_))
      refine br_t (nI_lt c (by omega)) (br_f (by decide) (br_t (by decide) ?_))
      exact br_t rfl ⟨vp_in_nI (show l < 96 by omega) (by decide), by rw [nI_clamp (show l < 2 ^ 31 by omega), ea]; exact jr_yfg hN (by omega) k0 c0 (nm_r (nI_1 f) h)⟩
  · refine ⟨4, pg, 0, nv, fun post h => ⟨vp_in_nI (show l < 96 by omega) (by decide), nm_r (e' := 7) (by rw [nI_clamp (show l < 2 ^ 31 by omega)]; exact e) (br_f (by decide) (br_f (by decide) (br_f (by decide) (br_f (by decide) (br_f (by decide) (br_f (by decide) (br_f (by decide) (br_f (by decide) (br_f (by decide) (br_t (by decide) (?_)))))))))))⟩, Or.inl ⟨by decide, fun post rl h => ?_⟩⟩
    · show wpX_planEnter _ _ (nI l) (-1)
      exact br_f (nI_nlt (by omega) (by omega)) h
    · rw [e]
      refine br_f (by decide) (br_t rfl (?_))
      exact br_f (nI_nlt (by omega) (by omega)) h
theorem jr_plu_r (hN : N ≤ 96) (hF : F ≤ 16) (hf : f ≤ F) (hl : l < N) (e : lk l = 0 ∨ lk l = 1) (Fr : jr_Fr N fr f) (hv : w * jr_sg lk fr f = (-1)) :
    ∃ (r g mv : Int32) (nv' : Nat → Int32),
      (∀ post : Int32 → SX → Prop, post r (vl, ll, nl, (nI F), (nI n), (nI N), pc, oc, rd, gp, (nI f), se, ck, pl, g, mv, st, nk, na, nb, nm, nv', lk, la, lb, ho, mo, tl, ph, pt, oi, tg, sm, wk, wa, wb, fr) → wpX_planUp post (vl, ll, nl, (nI F), (nI n), (nI N), pc, oc, rd, gp, (nI f), se, ck, pl, pg, 0, st, nk, na, nb, nm, nv, lk, la, lb, ho, mo, tl, ph, pt, oi, tg, sm, wk, wa, wb, fr) (nI l)) ∧
      ((¬ r = 0 ∧ ∀ (post : Int32 → SY → Prop) (rl : Int32), post r (vl, ll, nl, (nI F), rd, (nI n), (nI N), (nI f), gy, ck, st, nk, na, nb, lk, la, lb, fr, nv', me, po, wk, wa, wb) → wY_event_68 post w rl (-1) (nI l) (lk l) (nI l) vl ll nl (nI F) rd (nI n) (nI N) (nI f) gy ck st nk na nb lk la lb fr nv me po wk wa wb) ∨
       (r = 0 ∧ ∃ left : Int32, jr_Mv f F (lk l) mv left ∧ ∀ (post : Int32 → SY → Prop) (rl : Int32),
          wY_event_253 post w rl (-1) (nI l) (lk l) g left vl ll nl (nI F) rd (nI n) (nI N) (nI f) gy ck st nk na nb lk la lb fr nv' me po wk wa wb → wY_event_68 post w rl (-1) (nI l) (lk l) (nI l) vl ll nl (nI F) rd (nI n) (nI N) (nI f) gy ck st nk na nb lk la lb fr nv me po wk wa wb)) := by
  have X : ∀ post : Int32 → SX → Prop, wpX_planLeave post (vl, ll, nl, (nI F), (nI n), (nI N), pc, oc, rd, gp, (nI f), se, ck, pl, pg, 0, st, nk, na, nb, nm, nv, lk, la, lb, ho, mo, tl, ph, pt, oi, tg, sm, wk, wa, wb, fr) (-1) → wpX_planUp post (vl, ll, nl, (nI F), (nI n), (nI N), pc, oc, rd, gp, (nI f), se, ck, pl, pg, 0, st, nk, na, nb, nm, nv, lk, la, lb, ho, mo, tl, ph, pt, oi, tg, sm, wk, wa, wb, fr) (nI l) := by
    intro post h
    refine ⟨vp_in_nI (show l < 96 by omega) (by decide), ?_⟩
    rcases e with e | e
    · exact nm_r (e' := 0) (by rw [nI_clamp (show l < 2 ^ 31 by omega)]; exact e) (br_f (by decide) (br_f (by decide) (br_t (by decide) (h))))
    · exact nm_r (e' := 1) (by rw [nI_clamp (show l < 2 ^ 31 by omega)]; exact e) (br_f (by decide) (br_f (by decide) (br_f (by decide) (br_t (by decide) (h)))))
  have Y : ∀ (post : Int32 → SY → Prop) (rl : Int32), (∀ k, k = lk l → wY_event_176 post w rl (-1) (nI l) k vl ll nl (nI F) rd (nI n) (nI N) (nI f) gy ck st nk na nb lk la lb fr nv me po wk wa wb) → wY_event_68 post w rl (-1) (nI l) (lk l) (nI l) vl ll nl (nI F) rd (nI n) (nI N) (nI f) gy ck st nk na nb lk la lb fr nv me po wk wa wb := by
    intro post rl h
    rcases e with e | e
    · have h := h 0 e.symm
      rw [e]
      exact br_f (by decide) (br_f (by decide) (br_t rfl (h)))
    · have h := h 1 e.symm
      rw [e]
      exact br_f (by decide) (br_f (by decide) (br_f (by decide) (br_t rfl (h))))
  by_cases c : f = 0
  · subst c
    exact ⟨1, pg, 0, nv, fun post h => X post (br_t rfl h), Or.inl ⟨by decide, fun post rl h => Y post rl (fun k _ => br_t rfl h)⟩⟩
  · obtain ⟨f', rfl⟩ : ∃ f', f = f' + 1 := ⟨f - 1, by omega⟩
    obtain ⟨cn, hcn, ecn⟩ := Fr f' (by omega)
    have cf : (nI f').toNatClampNeg = f' := nI_clamp (by omega)
    have cc : (nI cn).toNatClampNeg = cn := nI_clamp (by omega)
    have Fr' : jr_Fr N fr f' := fun i hi => Fr i (by omega)
    have vf : vp_in (nI f') 16 := vp_in_nI (by omega) (by decide)
    have vc : vp_in (nI cn) 96 := vp_in_nI (by omega) (by decide)
    by_cases c7 : lk cn = 7
    · have c7' : lk (fr f').toNatClampNeg = 7 := by rw [ecn, cc]; exact c7
      have hu : w * jr_sg lk fr f' = 1 := by
        have z := hv
        rw [jr_sg1 c7', Int32.mul_neg] at z
        exact (jr_nn (w * jr_sg lk fr f')).symm.trans ((congrArg (fun q : Int32 => -q) z).trans (by decide))
      refine ⟨0, nI (cn + 1), -1, nv, fun post h => X post ?_, Or.inr ⟨rfl, nI f', Or.inr (Or.inr ⟨rfl, f', rfl, rfl, e⟩), fun post rl h => Y post rl (fun k ek => ?_)⟩⟩
      · refine br_f (nI_ne0 (by omega) (by omega)) ?_
        rw [nI_pred f']
        refine ⟨vf, nm_r (e' := nI cn) (by rw [cf]; exact ecn) ⟨vc, br_t (by rw [cc]; exact c7) ?_⟩⟩
        unfold wX_planLeave_38
        exact br_f (by decide) (nm_r (nI_1 cn) h)
      · subst ek
        refine br_f (nI_ne0 (by omega) (by omega)) (nm_r (nI_pred f') (jr_ysn hN (by omega) Fr' ?_))
        rw [hu, cf, ecn]
        rw [nI_1 cn]
        exact br_f (by decide) ⟨vf, h⟩
    · have c7' : ¬ lk (fr f').toNatClampNeg = 7 := by rw [ecn, cc]; exact c7
      have hu : w * jr_sg lk fr f' = (-1) := by
        have z := hv
        rw [jr_sg0 c7'] at z
        exact z
      refine ⟨0, nI cn, -1, nv, fun post h => X post ?_, Or.inr ⟨rfl, nI f', Or.inr (Or.inr ⟨rfl, f', rfl, rfl, e⟩), fun post rl h => Y post rl (fun k ek => ?_)⟩⟩
      · refine br_f (nI_ne0 (by omega) (by omega)) ?_
        rw [nI_pred f']
        refine ⟨vf, nm_r (e' := nI cn) (by rw [cf]; exact ecn) ⟨vc, br_f (by rw [cc]; exact c7) ?_⟩⟩
        unfold wX_planLeave_38
        exact br_t (by decide) h
      · subst ek
        refine br_f (nI_ne0 (by omega) (by omega)) (nm_r (nI_pred f') (jr_ysn hN (by omega) Fr' ?_))
        rw [hu, cf, ecn]
        exact br_t (by decide) ⟨vf, h⟩
theorem jr_plu_t (hN : N ≤ 96) (hn : n ≤ 32) (HN : jr_Nd n nk na nb nm) (hl : l < N) (A : jr_At lk (jr_Lk ho mo tl) 0 N l) :
    ∃ (r g mv : Int32) (nv' : Nat → Int32),
      (∀ post : Int32 → SX → Prop, post r (vl, ll, nl, (nI F), (nI n), (nI N), pc, oc, rd, gp, (nI f), se, ck, pl, g, mv, st, nk, na, nb, nm, nv', lk, la, lb, ho, mo, tl, ph, pt, oi, tg, sm, wk, wa, wb, fr) → wpX_planUp post (vl, ll, nl, (nI F), (nI n), (nI N), pc, oc, rd, gp, (nI f), se, ck, pl, pg, 0, st, nk, na, nb, nm, nv, lk, la, lb, ho, mo, tl, ph, pt, oi, tg, sm, wk, wa, wb, fr) (nI l)) ∧
      ((¬ r = 0 ∧ ∀ (post : Int32 → SY → Prop) (rl : Int32), post r (vl, ll, nl, (nI F), rd, (nI n), (nI N), (nI f), gy, ck, st, nk, na, nb, lk, la, lb, fr, nv', me, po, wk, wa, wb) → wY_event_68 post w rl (-1) (nI l) (lk l) (nI l) vl ll nl (nI F) rd (nI n) (nI N) (nI f) gy ck st nk na nb lk la lb fr nv me po wk wa wb) ∨
       (r = 0 ∧ ∃ left : Int32, jr_Mv f F (lk l) mv left ∧ ∀ (post : Int32 → SY → Prop) (rl : Int32),
          wY_event_253 post w rl (-1) (nI l) (lk l) g left vl ll nl (nI F) rd (nI n) (nI N) (nI f) gy ck st nk na nb lk la lb fr nv' me po wk wa wb → wY_event_68 post w rl (-1) (nI l) (lk l) (nI l) vl ll nl (nI F) rd (nI n) (nI N) (nI f) gy ck st nk na nb lk la lb fr nv me po wk wa wb)) := by
  obtain ⟨r, y, g, nv', O, hX, hY⟩ := jr_cru (vl := vl) (ll := ll) (nl := nl) (fl := nI F) (pc := pc) (oc := oc) (rd := rd) (gp := gp) (fc := nI f) (se := se) (ck := ck) (pl := pl) (pg := pg) (pm := 0) (gy := gy) (st := st) (nv := nv) (la := la) (lb := lb) (ph := ph) (pt := pt) (oi := oi) (tg := tg) (sm := sm) (wk := wk) (wa := wa) (wb := wb) (fr := fr) (me := me) (po := po) hN hn HN A
  have k : ¬ lk l = 6 ∧ ¬ lk l = 7 ∧ ¬ lk l = 0 ∧ ¬ lk l = 1 ∧ ¬ lk l < 8 := by
    obtain ⟨h, m, t, _, _, _, _, s, _, _, _, e⟩ := A
    rcases s with ⟨s1, s2, s3⟩ | ⟨s1, s2, s3⟩ <;> rcases e with rfl | rfl | rfl
    · rw [s1]; decide
    · rw [s2]; decide
    · rw [s3]; decide
    · rw [s1]; decide
    · rw [s2]; decide
    · rw [s3]; decide
  rcases O with ⟨r0, yg, y0⟩ | ⟨r0, yr, y0⟩
  · refine ⟨r, g, 0, nv', hX, Or.inr ⟨r0, nI f, Or.inl ⟨rfl, rfl, k.2.2.1, k.2.2.2.1, k.1, k.2.1⟩, fun post rl h => ?_⟩⟩
    refine br_f k.1 (br_f k.2.1 (br_f k.2.2.1 (br_f k.2.2.2.1 (br_f k.2.2.2.2 (hY _ (br_t y0 ?_))))))
    rw [yg]; exact h
  · refine ⟨r, g, 0, nv', hX, Or.inl ⟨r0, fun post rl h => ?_⟩⟩
    refine br_f k.1 (br_f k.2.1 (br_f k.2.2.1 (br_f k.2.2.2.1 (br_f k.2.2.2.2 (hY _ (br_f y0 ?_))))))
    rw [yr]; exact h
theorem jr_plu (hN : N ≤ 96) (hn : n ≤ 32) (HN : jr_Nd n nk na nb nm) (hF : F ≤ 16) (hf : f ≤ F) (hl : l < N) (CT : jr_Ct lk la N N) (pg0 : jr_Pg lk (jr_Lk ho mo tl) 0 N)
    (tab : ∀ p, p < jr_cp lk N → jr_Pt lk jr_T3 N ph pt p) (Fr : jr_Fr N fr f) (hv : w * jr_sg lk fr f = (-1)) :
    ∃ (r g mv : Int32) (nv' : Nat → Int32),
      (∀ post : Int32 → SX → Prop, post r (vl, ll, nl, (nI F), (nI n), (nI N), pc, oc, rd, gp, (nI f), se, ck, pl, g, mv, st, nk, na, nb, nm, nv', lk, la, lb, ho, mo, tl, ph, pt, oi, tg, sm, wk, wa, wb, fr) → wpX_planUp post (vl, ll, nl, (nI F), (nI n), (nI N), pc, oc, rd, gp, (nI f), se, ck, pl, pg, 0, st, nk, na, nb, nm, nv, lk, la, lb, ho, mo, tl, ph, pt, oi, tg, sm, wk, wa, wb, fr) (nI l)) ∧
      ((¬ r = 0 ∧ ∀ (post : Int32 → SY → Prop) (rl : Int32), post r (vl, ll, nl, (nI F), rd, (nI n), (nI N), (nI f), gy, ck, st, nk, na, nb, lk, la, lb, fr, nv', me, po, wk, wa, wb) → wY_event_68 post w rl (-1) (nI l) (lk l) (nI l) vl ll nl (nI F) rd (nI n) (nI N) (nI f) gy ck st nk na nb lk la lb fr nv me po wk wa wb) ∨
       (r = 0 ∧ ∃ left : Int32, jr_Mv f F (lk l) mv left ∧ ∀ (post : Int32 → SY → Prop) (rl : Int32),
          wY_event_253 post w rl (-1) (nI l) (lk l) g left vl ll nl (nI F) rd (nI n) (nI N) (nI f) gy ck st nk na nb lk la lb fr nv' me po wk wa wb → wY_event_68 post w rl (-1) (nI l) (lk l) (nI l) vl ll nl (nI F) rd (nI n) (nI N) (nI f) gy ck st nk na nb lk la lb fr nv me po wk wa wb)) := by
  rcases jr_pgfl pg0 l (by omega) hl with e | e | e | A
  · exact jr_plu_r hN hF hf hl (Or.inl e) Fr hv
  · exact jr_plu_r hN hF hf hl (Or.inr e) Fr hv
  · rcases e with e | e | e | e | e | e
    · exact jr_plu_s hN hl (Or.inl e)
    · exact jr_plu_s hN hl (Or.inr (Or.inl e))
    · exact jr_plu_s hN hl (Or.inr (Or.inr (Or.inl e)))
    · exact jr_plu_s hN hl (Or.inr (Or.inr (Or.inr e)))
    · exact jr_plu_6 hN hF hf hl e CT tab
    · exact jr_plu_7 hN hF hf hl e CT tab
  · exact jr_plu_t hN hn HN hl A
end JRL2
end
section
section JRM
variable {vl ll nl fl nc lc pc oc rd gp fc se ck pl pg pm gy : Int32} {st nk na nb nm nv lk la lb ho mo tl ph pt oi tg sm wk wa wb fr me po : Nat → Int32}
variable {N n l x y : Nat}
/-! updates -/
theorem jr_upd2 (hl : l < 96) (hn : n ≤ 32) (HN : jr_Nd n nk na nb nm) (e : lk l = 2) (hx : x < 8) (hy : y < n) (ea : la l = nI x) (eb : lb l = nI y) :
    ∃ st' nv' : Nat → Int32, (∀ post : SX → Prop, post (vl, ll, nl, fl, (nI n), lc, pc, oc, rd, gp, fc, se, ck, pl, pg, pm, st', nk, na, nb, nm, nv', lk, la, lb, ho, mo, tl, ph, pt, oi, tg, sm, wk, wa, wb, fr) → wpX_update post (vl, ll, nl, fl, (nI n), lc, pc, oc, rd, gp, fc, se, ck, pl, pg, pm, st, nk, na, nb, nm, nv, lk, la, lb, ho, mo, tl, ph, pt, oi, tg, sm, wk, wa, wb, fr) (nI l) 1) ∧
      (∀ post : SY → Prop, post (vl, ll, nl, fl, rd, (nI n), lc, fc, gy, ck, st', nk, na, nb, lk, la, lb, fr, nv', me, po, wk, wa, wb) → wpY_update post (vl, ll, nl, fl, rd, (nI n), lc, fc, gy, ck, st, nk, na, nb, lk, la, lb, fr, nv, me, po, wk, wa, wb) (lk l) (la l) (lb l) 1) := by
  have cx : (nI x).toNatClampNeg = x := nI_clamp (by omega)
  have cy : (nI y).toNatClampNeg = y := nI_clamp (by omega)
  have cl : (nI l).toNatClampNeg = l := nI_clamp (by omega)
  refine ⟨upd st x (st x + jr_vr n st nk na nb nv (nI y)), jr_vn n st nk na nb nv (nI y), fun post h => ⟨vp_in_nI (show l < 96 by omega) (by decide), nm_r (e' := 2) (by rw [cl]; exact e) (br_f (by decide) (br_t (by decide) ⟨vp_in_nI (show l < 96 by omega) (by decide), nm_r (e' := nI x) (by rw [cl]; exact ea) ⟨vp_in_nI (show l < 96 by omega) (by decide), nm_r (e' := nI y) (by rw [cl]; exact eb) ?_⟩⟩))⟩, fun post h => ?_⟩
  · exact br_f (by decide) (jr_xvo hn HN (br_f (by decide) (br_t rfl (br_f (by decide) (br_t rfl ⟨vp_in_nI hx (by decide), vp_in_nI hx (by decide), nm_r (e' := upd st x (st x + jr_vr n st nk na nb nv (nI y))) (by rw [cx]) h⟩)))))
  · rw [e, ea, eb]
    exact br_f (by decide) (jr_yvo hn HN (br_f (by decide) (br_t rfl (br_f (by decide) (br_t rfl ⟨vp_in_nI hx (by decide), vp_in_nI hx (by decide), nm_r (e' := upd st x (st x + jr_vr n st nk na nb nv (nI y))) (by rw [cx]) h⟩)))))
theorem jr_upd3 (hl : l < 96) (hn : n ≤ 32) (HN : jr_Nd n nk na nb nm) (e : lk l = 3) (hx : x < 8) (hy : y < n) (ea : la l = nI x) (eb : lb l = nI y) :
    ∃ st' nv' : Nat → Int32, (∀ post : SX → Prop, post (vl, ll, nl, fl, (nI n), lc, pc, oc, rd, gp, fc, se, ck, pl, pg, pm, st', nk, na, nb, nm, nv', lk, la, lb, ho, mo, tl, ph, pt, oi, tg, sm, wk, wa, wb, fr) → wpX_update post (vl, ll, nl, fl, (nI n), lc, pc, oc, rd, gp, fc, se, ck, pl, pg, pm, st, nk, na, nb, nm, nv, lk, la, lb, ho, mo, tl, ph, pt, oi, tg, sm, wk, wa, wb, fr) (nI l) 1) ∧
      (∀ post : SY → Prop, post (vl, ll, nl, fl, rd, (nI n), lc, fc, gy, ck, st', nk, na, nb, lk, la, lb, fr, nv', me, po, wk, wa, wb) → wpY_update post (vl, ll, nl, fl, rd, (nI n), lc, fc, gy, ck, st, nk, na, nb, lk, la, lb, fr, nv, me, po, wk, wa, wb) (lk l) (la l) (lb l) 1) := by
  have cx : (nI x).toNatClampNeg = x := nI_clamp (by omega)
  have cy : (nI y).toNatClampNeg = y := nI_clamp (by omega)
  have cl : (nI l).toNatClampNeg = l := nI_clamp (by omega)
  refine ⟨upd st x (st x - jr_vr n st nk na nb nv (nI y)), jr_vn n st nk na nb nv (nI y), fun post h => ⟨vp_in_nI (show l < 96 by omega) (by decide), nm_r (e' := 3) (by rw [cl]; exact e) (br_f (by decide) (br_t (by decide) ⟨vp_in_nI (show l < 96 by omega) (by decide), nm_r (e' := nI x) (by rw [cl]; exact ea) ⟨vp_in_nI (show l < 96 by omega) (by decide), nm_r (e' := nI y) (by rw [cl]; exact eb) ?_⟩⟩))⟩, fun post h => ?_⟩
  · exact br_f (by decide) (jr_xvo hn HN (br_f (by decide) (br_f (by decide) (br_f (by decide) (br_f (by decide) ⟨vp_in_nI hx (by decide), vp_in_nI hx (by decide), nm_r (e' := upd st x (st x - jr_vr n st nk na nb nv (nI y))) (by rw [cx]) h⟩)))))
  · rw [e, ea, eb]
    exact br_f (by decide) (jr_yvo hn HN (br_f (by decide) (br_f (by decide) (br_f (by decide) (br_f (by decide) ⟨vp_in_nI hx (by decide), vp_in_nI hx (by decide), nm_r (e' := upd st x (st x - jr_vr n st nk na nb nv (nI y))) (by rw [cx]) h⟩)))))
theorem jr_upd4 (hl : l < 96) (hn : n ≤ 32) (HN : jr_Nd n nk na nb nm) (e : lk l = 4) (hx : x < 8) (hy : y < n) (ea : la l = nI x) (eb : lb l = nI y) :
    ∃ st' nv' : Nat → Int32, (∀ post : SX → Prop, post (vl, ll, nl, fl, (nI n), lc, pc, oc, rd, gp, fc, se, ck, pl, pg, pm, st', nk, na, nb, nm, nv', lk, la, lb, ho, mo, tl, ph, pt, oi, tg, sm, wk, wa, wb, fr) → wpX_update post (vl, ll, nl, fl, (nI n), lc, pc, oc, rd, gp, fc, se, ck, pl, pg, pm, st, nk, na, nb, nm, nv, lk, la, lb, ho, mo, tl, ph, pt, oi, tg, sm, wk, wa, wb, fr) (nI l) 1) ∧
      (∀ post : SY → Prop, post (vl, ll, nl, fl, rd, (nI n), lc, fc, gy, ck, st', nk, na, nb, lk, la, lb, fr, nv', me, po, wk, wa, wb) → wpY_update post (vl, ll, nl, fl, rd, (nI n), lc, fc, gy, ck, st, nk, na, nb, lk, la, lb, fr, nv, me, po, wk, wa, wb) (lk l) (la l) (lb l) 1) := by
  have cx : (nI x).toNatClampNeg = x := nI_clamp (by omega)
  have cy : (nI y).toNatClampNeg = y := nI_clamp (by omega)
  have cl : (nI l).toNatClampNeg = l := nI_clamp (by omega)
  refine ⟨upd st x (st x ^^^ jr_vr n st nk na nb nv (nI y)), jr_vn n st nk na nb nv (nI y), fun post h => ⟨vp_in_nI (show l < 96 by omega) (by decide), nm_r (e' := 4) (by rw [cl]; exact e) (br_f (by decide) (br_t (by decide) ⟨vp_in_nI (show l < 96 by omega) (by decide), nm_r (e' := nI x) (by rw [cl]; exact ea) ⟨vp_in_nI (show l < 96 by omega) (by decide), nm_r (e' := nI y) (by rw [cl]; exact eb) ?_⟩⟩))⟩, fun post h => ?_⟩
  · exact br_f (by decide) (jr_xvo hn HN (br_t rfl ⟨vp_in_nI hx (by decide), vp_in_nI hx (by decide), nm_r (e' := upd st x (st x ^^^ jr_vr n st nk na nb nv (nI y))) (by rw [cx]) h⟩))
  · rw [e, ea, eb]
    exact br_f (by decide) (jr_yvo hn HN (br_t rfl ⟨vp_in_nI hx (by decide), vp_in_nI hx (by decide), nm_r (e' := upd st x (st x ^^^ jr_vr n st nk na nb nv (nI y))) (by rw [cx]) h⟩))
theorem jr_upd5 (hl : l < 96) (hn : n ≤ 32) (HN : jr_Nd n nk na nb nm) (e : lk l = 5) (hx : x < 8) (hy : y < 8) (ea : la l = nI x) (eb : lb l = nI y) :
    ∃ st' nv' : Nat → Int32, (∀ post : SX → Prop, post (vl, ll, nl, fl, (nI n), lc, pc, oc, rd, gp, fc, se, ck, pl, pg, pm, st', nk, na, nb, nm, nv', lk, la, lb, ho, mo, tl, ph, pt, oi, tg, sm, wk, wa, wb, fr) → wpX_update post (vl, ll, nl, fl, (nI n), lc, pc, oc, rd, gp, fc, se, ck, pl, pg, pm, st, nk, na, nb, nm, nv, lk, la, lb, ho, mo, tl, ph, pt, oi, tg, sm, wk, wa, wb, fr) (nI l) 1) ∧
      (∀ post : SY → Prop, post (vl, ll, nl, fl, rd, (nI n), lc, fc, gy, ck, st', nk, na, nb, lk, la, lb, fr, nv', me, po, wk, wa, wb) → wpY_update post (vl, ll, nl, fl, rd, (nI n), lc, fc, gy, ck, st, nk, na, nb, lk, la, lb, fr, nv, me, po, wk, wa, wb) (lk l) (la l) (lb l) 1) := by
  have cx : (nI x).toNatClampNeg = x := nI_clamp (by omega)
  have cy : (nI y).toNatClampNeg = y := nI_clamp (by omega)
  have cl : (nI l).toNatClampNeg = l := nI_clamp (by omega)
  refine ⟨upd (upd st x (st y)) y (st x), nv, fun post h => ⟨vp_in_nI (show l < 96 by omega) (by decide), nm_r (e' := 5) (by rw [cl]; exact e) (br_f (by decide) (br_t (by decide) ⟨vp_in_nI (show l < 96 by omega) (by decide), nm_r (e' := nI x) (by rw [cl]; exact ea) ⟨vp_in_nI (show l < 96 by omega) (by decide), nm_r (e' := nI y) (by rw [cl]; exact eb) ?_⟩⟩))⟩, fun post h => ?_⟩
  · exact br_t rfl ⟨vp_in_nI hx (by decide), nm_r (e' := st x) (by rw [cx]) ⟨vp_in_nI hy (by decide), vp_in_nI hx (by decide), nm_r (e' := upd st x (st y)) (by rw [cx, cy]) ⟨vp_in_nI hy (by decide), nm_r (e' := upd (upd st x (st y)) y (st x)) (by rw [cy]) h⟩⟩⟩
  · rw [e, ea, eb]
    exact br_t rfl ⟨vp_in_nI hx (by decide), nm_r (e' := st x) (by rw [cx]) ⟨vp_in_nI hy (by decide), vp_in_nI hx (by decide), nm_r (e' := upd st x (st y)) (by rw [cx, cy]) ⟨vp_in_nI hy (by decide), nm_r (e' := upd (upd st x (st y)) y (st x)) (by rw [cy]) h⟩⟩⟩
theorem jr_udd (hl : l < 96) (hn : n ≤ 32) (HN : jr_Nd n nk na nb nm) (L : jr_L1 n (lk l) (la l) (lb l)) (k : lk l = 2 ∨ lk l = 3 ∨ lk l = 4 ∨ lk l = 5) :
    ∃ st' nv' : Nat → Int32, (∀ post : SX → Prop, post (vl, ll, nl, fl, (nI n), lc, pc, oc, rd, gp, fc, se, ck, pl, pg, pm, st', nk, na, nb, nm, nv', lk, la, lb, ho, mo, tl, ph, pt, oi, tg, sm, wk, wa, wb, fr) → wpX_update post (vl, ll, nl, fl, (nI n), lc, pc, oc, rd, gp, fc, se, ck, pl, pg, pm, st, nk, na, nb, nm, nv, lk, la, lb, ho, mo, tl, ph, pt, oi, tg, sm, wk, wa, wb, fr) (nI l) 1) ∧
      (∀ post : SY → Prop, post (vl, ll, nl, fl, rd, (nI n), lc, fc, gy, ck, st', nk, na, nb, lk, la, lb, fr, nv', me, po, wk, wa, wb) → wpY_update post (vl, ll, nl, fl, rd, (nI n), lc, fc, gy, ck, st, nk, na, nb, lk, la, lb, fr, nv, me, po, wk, wa, wb) (lk l) (la l) (lb l) 1) := by
  rcases k with k | k | k | k
  · obtain ⟨x, y, hx, hy, ea, eb⟩ := L.2.1 (Or.inl k)
    exact jr_upd2 hl hn HN k hx hy ea eb
  · obtain ⟨x, y, hx, hy, ea, eb⟩ := L.2.1 (Or.inr (Or.inl k))
    exact jr_upd3 hl hn HN k hx hy ea eb
  · obtain ⟨x, y, hx, hy, ea, eb⟩ := L.2.1 (Or.inr (Or.inr k))
    exact jr_upd4 hl hn HN k hx hy ea eb
  · obtain ⟨x, y, hx, hy, ea, eb⟩ := L.2.2.1 k
    exact jr_upd5 hl hn HN k hx hy ea eb
theorem jr_upu2 (hl : l < 96) (hn : n ≤ 32) (HN : jr_Nd n nk na nb nm) (e : lk l = 2) (hx : x < 8) (hy : y < n) (ea : la l = nI x) (eb : lb l = nI y) :
    ∃ st' nv' : Nat → Int32, (∀ post : SX → Prop, post (vl, ll, nl, fl, (nI n), lc, pc, oc, rd, gp, fc, se, ck, pl, pg, pm, st', nk, na, nb, nm, nv', lk, la, lb, ho, mo, tl, ph, pt, oi, tg, sm, wk, wa, wb, fr) → wpX_update post (vl, ll, nl, fl, (nI n), lc, pc, oc, rd, gp, fc, se, ck, pl, pg, pm, st, nk, na, nb, nm, nv, lk, la, lb, ho, mo, tl, ph, pt, oi, tg, sm, wk, wa, wb, fr) (nI l) (-1)) ∧
      (∀ post : SY → Prop, post (vl, ll, nl, fl, rd, (nI n), lc, fc, gy, ck, st', nk, na, nb, lk, la, lb, fr, nv', me, po, wk, wa, wb) → wpY_update post (vl, ll, nl, fl, rd, (nI n), lc, fc, gy, ck, st, nk, na, nb, lk, la, lb, fr, nv, me, po, wk, wa, wb) (lk l) (la l) (lb l) (-1)) := by
  have cx : (nI x).toNatClampNeg = x := nI_clamp (by omega)
  have cy : (nI y).toNatClampNeg = y := nI_clamp (by omega)
  have cl : (nI l).toNatClampNeg = l := nI_clamp (by omega)
  refine ⟨upd st x (st x - jr_vr n st nk na nb nv (nI y)), jr_vn n st nk na nb nv (nI y), fun post h => ⟨vp_in_nI (show l < 96 by omega) (by decide), nm_r (e' := 2) (by rw [cl]; exact e) (br_f (by decide) (br_t (by decide) ⟨vp_in_nI (show l < 96 by omega) (by decide), nm_r (e' := nI x) (by rw [cl]; exact ea) ⟨vp_in_nI (show l < 96 by omega) (by decide), nm_r (e' := nI y) (by rw [cl]; exact eb) ?_⟩⟩))⟩, fun post h => ?_⟩
  · exact br_f (by decide) (jr_xvo hn HN (br_f (by decide) (br_t rfl (br_t (by decide) (br_f (by decide) ⟨vp_in_nI hx (by decide), vp_in_nI hx (by decide), nm_r (e' := upd st x (st x - jr_vr n st nk na nb nv (nI y))) (by rw [cx]) h⟩)))))
  · rw [e, ea, eb]
    exact br_f (by decide) (jr_yvo hn HN (br_f (by decide) (br_t rfl (br_t (by decide) (br_f (by decide) ⟨vp_in_nI hx (by decide), vp_in_nI hx (by decide), nm_r (e' := upd st x (st x - jr_vr n st nk na nb nv (nI y))) (by rw [cx]) h⟩)))))
theorem jr_upu3 (hl : l < 96) (hn : n ≤ 32) (HN : jr_Nd n nk na nb nm) (e : lk l = 3) (hx : x < 8) (hy : y < n) (ea : la l = nI x) (eb : lb l = nI y) :
    ∃ st' nv' : Nat → Int32, (∀ post : SX → Prop, post (vl, ll, nl, fl, (nI n), lc, pc, oc, rd, gp, fc, se, ck, pl, pg, pm, st', nk, na, nb, nm, nv', lk, la, lb, ho, mo, tl, ph, pt, oi, tg, sm, wk, wa, wb, fr) → wpX_update post (vl, ll, nl, fl, (nI n), lc, pc, oc, rd, gp, fc, se, ck, pl, pg, pm, st, nk, na, nb, nm, nv, lk, la, lb, ho, mo, tl, ph, pt, oi, tg, sm, wk, wa, wb, fr) (nI l) (-1)) ∧
      (∀ post : SY → Prop, post (vl, ll, nl, fl, rd, (nI n), lc, fc, gy, ck, st', nk, na, nb, lk, la, lb, fr, nv', me, po, wk, wa, wb) → wpY_update post (vl, ll, nl, fl, rd, (nI n), lc, fc, gy, ck, st, nk, na, nb, lk, la, lb, fr, nv, me, po, wk, wa, wb) (lk l) (la l) (lb l) (-1)) := by
  have cx : (nI x).toNatClampNeg = x := nI_clamp (by omega)
  have cy : (nI y).toNatClampNeg = y := nI_clamp (by omega)
  have cl : (nI l).toNatClampNeg = l := nI_clamp (by omega)
  refine ⟨upd st x (st x + jr_vr n st nk na nb nv (nI y)), jr_vn n st nk na nb nv (nI y), fun post h => ⟨vp_in_nI (show l < 96 by omega) (by decide), nm_r (e' := 3) (by rw [cl]; exact e) (br_f (by decide) (br_t (by decide) ⟨vp_in_nI (show l < 96 by omega) (by decide), nm_r (e' := nI x) (by rw [cl]; exact ea) ⟨vp_in_nI (show l < 96 by omega) (by decide), nm_r (e' := nI y) (by rw [cl]; exact eb) ?_⟩⟩))⟩, fun post h => ?_⟩
  · exact br_f (by decide) (jr_xvo hn HN (br_f (by decide) (br_f (by decide) (br_t (by decide) (br_t rfl ⟨vp_in_nI hx (by decide), vp_in_nI hx (by decide), nm_r (e' := upd st x (st x + jr_vr n st nk na nb nv (nI y))) (by rw [cx]) h⟩)))))
  · rw [e, ea, eb]
    exact br_f (by decide) (jr_yvo hn HN (br_f (by decide) (br_f (by decide) (br_t (by decide) (br_t rfl ⟨vp_in_nI hx (by decide), vp_in_nI hx (by decide), nm_r (e' := upd st x (st x + jr_vr n st nk na nb nv (nI y))) (by rw [cx]) h⟩)))))
theorem jr_upu4 (hl : l < 96) (hn : n ≤ 32) (HN : jr_Nd n nk na nb nm) (e : lk l = 4) (hx : x < 8) (hy : y < n) (ea : la l = nI x) (eb : lb l = nI y) :
    ∃ st' nv' : Nat → Int32, (∀ post : SX → Prop, post (vl, ll, nl, fl, (nI n), lc, pc, oc, rd, gp, fc, se, ck, pl, pg, pm, st', nk, na, nb, nm, nv', lk, la, lb, ho, mo, tl, ph, pt, oi, tg, sm, wk, wa, wb, fr) → wpX_update post (vl, ll, nl, fl, (nI n), lc, pc, oc, rd, gp, fc, se, ck, pl, pg, pm, st, nk, na, nb, nm, nv, lk, la, lb, ho, mo, tl, ph, pt, oi, tg, sm, wk, wa, wb, fr) (nI l) (-1)) ∧
      (∀ post : SY → Prop, post (vl, ll, nl, fl, rd, (nI n), lc, fc, gy, ck, st', nk, na, nb, lk, la, lb, fr, nv', me, po, wk, wa, wb) → wpY_update post (vl, ll, nl, fl, rd, (nI n), lc, fc, gy, ck, st, nk, na, nb, lk, la, lb, fr, nv, me, po, wk, wa, wb) (lk l) (la l) (lb l) (-1)) := by
  have cx : (nI x).toNatClampNeg = x := nI_clamp (by omega)
  have cy : (nI y).toNatClampNeg = y := nI_clamp (by omega)
  have cl : (nI l).toNatClampNeg = l := nI_clamp (by omega)
  refine ⟨upd st x (st x ^^^ jr_vr n st nk na nb nv (nI y)), jr_vn n st nk na nb nv (nI y), fun post h => ⟨vp_in_nI (show l < 96 by omega) (by decide), nm_r (e' := 4) (by rw [cl]; exact e) (br_f (by decide) (br_t (by decide) ⟨vp_in_nI (show l < 96 by omega) (by decide), nm_r (e' := nI x) (by rw [cl]; exact ea) ⟨vp_in_nI (show l < 96 by omega) (by decide), nm_r (e' := nI y) (by rw [cl]; exact eb) ?_⟩⟩))⟩, fun post h => ?_⟩
  · exact br_f (by decide) (jr_xvo hn HN (br_t rfl ⟨vp_in_nI hx (by decide), vp_in_nI hx (by decide), nm_r (e' := upd st x (st x ^^^ jr_vr n st nk na nb nv (nI y))) (by rw [cx]) h⟩))
  · rw [e, ea, eb]
    exact br_f (by decide) (jr_yvo hn HN (br_t rfl ⟨vp_in_nI hx (by decide), vp_in_nI hx (by decide), nm_r (e' := upd st x (st x ^^^ jr_vr n st nk na nb nv (nI y))) (by rw [cx]) h⟩))
theorem jr_upu5 (hl : l < 96) (hn : n ≤ 32) (HN : jr_Nd n nk na nb nm) (e : lk l = 5) (hx : x < 8) (hy : y < 8) (ea : la l = nI x) (eb : lb l = nI y) :
    ∃ st' nv' : Nat → Int32, (∀ post : SX → Prop, post (vl, ll, nl, fl, (nI n), lc, pc, oc, rd, gp, fc, se, ck, pl, pg, pm, st', nk, na, nb, nm, nv', lk, la, lb, ho, mo, tl, ph, pt, oi, tg, sm, wk, wa, wb, fr) → wpX_update post (vl, ll, nl, fl, (nI n), lc, pc, oc, rd, gp, fc, se, ck, pl, pg, pm, st, nk, na, nb, nm, nv, lk, la, lb, ho, mo, tl, ph, pt, oi, tg, sm, wk, wa, wb, fr) (nI l) (-1)) ∧
      (∀ post : SY → Prop, post (vl, ll, nl, fl, rd, (nI n), lc, fc, gy, ck, st', nk, na, nb, lk, la, lb, fr, nv', me, po, wk, wa, wb) → wpY_update post (vl, ll, nl, fl, rd, (nI n), lc, fc, gy, ck, st, nk, na, nb, lk, la, lb, fr, nv, me, po, wk, wa, wb) (lk l) (la l) (lb l) (-1)) := by
  have cx : (nI x).toNatClampNeg = x := nI_clamp (by omega)
  have cy : (nI y).toNatClampNeg = y := nI_clamp (by omega)
  have cl : (nI l).toNatClampNeg = l := nI_clamp (by omega)
  refine ⟨upd (upd st x (st y)) y (st x), nv, fun post h => ⟨vp_in_nI (show l < 96 by omega) (by decide), nm_r (e' := 5) (by rw [cl]; exact e) (br_f (by decide) (br_t (by decide) ⟨vp_in_nI (show l < 96 by omega) (by decide), nm_r (e' := nI x) (by rw [cl]; exact ea) ⟨vp_in_nI (show l < 96 by omega) (by decide), nm_r (e' := nI y) (by rw [cl]; exact eb) ?_⟩⟩))⟩, fun post h => ?_⟩
  · exact br_t rfl ⟨vp_in_nI hx (by decide), nm_r (e' := st x) (by rw [cx]) ⟨vp_in_nI hy (by decide), vp_in_nI hx (by decide), nm_r (e' := upd st x (st y)) (by rw [cx, cy]) ⟨vp_in_nI hy (by decide), nm_r (e' := upd (upd st x (st y)) y (st x)) (by rw [cy]) h⟩⟩⟩
  · rw [e, ea, eb]
    exact br_t rfl ⟨vp_in_nI hx (by decide), nm_r (e' := st x) (by rw [cx]) ⟨vp_in_nI hy (by decide), vp_in_nI hx (by decide), nm_r (e' := upd st x (st y)) (by rw [cx, cy]) ⟨vp_in_nI hy (by decide), nm_r (e' := upd (upd st x (st y)) y (st x)) (by rw [cy]) h⟩⟩⟩
theorem jr_udu (hl : l < 96) (hn : n ≤ 32) (HN : jr_Nd n nk na nb nm) (L : jr_L1 n (lk l) (la l) (lb l)) (k : lk l = 2 ∨ lk l = 3 ∨ lk l = 4 ∨ lk l = 5) :
    ∃ st' nv' : Nat → Int32, (∀ post : SX → Prop, post (vl, ll, nl, fl, (nI n), lc, pc, oc, rd, gp, fc, se, ck, pl, pg, pm, st', nk, na, nb, nm, nv', lk, la, lb, ho, mo, tl, ph, pt, oi, tg, sm, wk, wa, wb, fr) → wpX_update post (vl, ll, nl, fl, (nI n), lc, pc, oc, rd, gp, fc, se, ck, pl, pg, pm, st, nk, na, nb, nm, nv, lk, la, lb, ho, mo, tl, ph, pt, oi, tg, sm, wk, wa, wb, fr) (nI l) (-1)) ∧
      (∀ post : SY → Prop, post (vl, ll, nl, fl, rd, (nI n), lc, fc, gy, ck, st', nk, na, nb, lk, la, lb, fr, nv', me, po, wk, wa, wb) → wpY_update post (vl, ll, nl, fl, rd, (nI n), lc, fc, gy, ck, st, nk, na, nb, lk, la, lb, fr, nv, me, po, wk, wa, wb) (lk l) (la l) (lb l) (-1)) := by
  rcases k with k | k | k | k
  · obtain ⟨x, y, hx, hy, ea, eb⟩ := L.2.1 (Or.inl k)
    exact jr_upu2 hl hn HN k hx hy ea eb
  · obtain ⟨x, y, hx, hy, ea, eb⟩ := L.2.1 (Or.inr (Or.inl k))
    exact jr_upu3 hl hn HN k hx hy ea eb
  · obtain ⟨x, y, hx, hy, ea, eb⟩ := L.2.1 (Or.inr (Or.inr k))
    exact jr_upu4 hl hn HN k hx hy ea eb
  · obtain ⟨x, y, hx, hy, ea, eb⟩ := L.2.2.1 k
    exact jr_upu5 hl hn HN k hx hy ea eb
end JRM
section JRM2
variable {vl ll nl fl nc lc pc oc rd gp fc se ck pl pg pm gy : Int32} {st nk na nb nm nv lk la lb ho mo tl ph pt oi tg sm wk wa wb fr me po : Nat → Int32}
variable {N n f F l : Nat} {w : Int32}
/-! a possible event done -/
theorem jr_frp {i : Nat} (F0 : jr_Fr N fr f) (hl : l < N) : jr_Fr N (upd fr f (nI l)) (f + 1) := by
  intro i hi
  by_cases e : i = f
  · exact ⟨l, hl, by rw [e, jr_us]⟩
  · rw [jr_un e]; exact F0 i (by omega)
theorem jr_pfd {g mv left : Int32} (hN : N ≤ 96) (hn : n ≤ 32) (HN : jr_Nd n nk na nb nm) (HL : jr_Li N n lk la lb) (hF : F ≤ 16) (hf : f ≤ F) (hl : l < N) (F0 : jr_Fr N fr f)
    (hv : w * jr_sg lk fr f = 1) (M : jr_Mv f F (lk l) mv left) :
    ∃ (f2 : Nat) (st2 nv2 fr2 : Nat → Int32), f2 ≤ F ∧ jr_Fr N fr2 f2 ∧
      (∀ post : SX → Prop, post (vl, ll, nl, (nI F), (nI n), (nI N), pc, oc, rd, g, (nI f2), (jr_sg lk fr2 f2), (ck + w), (nI l), g, mv, st2, nk, na, nb, nm, nv2, lk, la, lb, ho, mo, tl, ph, pt, oi, tg, sm, wk, wa, wb, fr2) → wpX_perform post (vl, ll, nl, (nI F), (nI n), (nI N), pc, oc, rd, gp, (nI f), (jr_sg lk fr f), ck, (nI l), g, mv, st, nk, na, nb, nm, nv, lk, la, lb, ho, mo, tl, ph, pt, oi, tg, sm, wk, wa, wb, fr) w) ∧
      (∀ post : Int32 → SY → Prop, post 0 (vl, ll, nl, (nI F), rd, (nI n), (nI N), (nI f2), g, (ck + w), st2, nk, na, nb, lk, la, lb, fr2, nv2, me, po, wk, wa, wb) → wY_event_253 post w 1 1 (nI l) (lk l) g left vl ll nl (nI F) rd (nI n) (nI N) (nI f) gy ck st nk na nb lk la lb fr nv me po wk wa wb) := by
  have cl : (nI l).toNatClampNeg = l := nI_clamp (by omega)
  have vi : vp_in (nI l) 96 := vp_in_nI (by omega) (by decide)
  have le : nI f ≤ nI f := nI_le (Nat.le_refl f) (by omega)
  rcases M with ⟨rfl, rfl, k0, k1, k6, k7⟩ | ⟨rfl, rfl, c, k⟩ | ⟨rfl, f', rfl, rfl, k⟩
  · have L := HL l hl
    by_cases k : lk l = 2 ∨ lk l = 3 ∨ lk l = 4 ∨ lk l = 5
    · obtain ⟨st2, nv2, hX, hY⟩ := jr_udd (vl := vl) (ll := ll) (nl := nl) (fl := nI F) (lc := nI N) (pc := pc) (oc := oc) (rd := rd) (gp := gp) (fc := nI f) (se := jr_sg lk fr f) (ck := ck) (pl := nI l) (pg := g) (pm := 0) (gy := gy) (st := st) (nv := nv) (ho := ho) (mo := mo) (tl := tl) (ph := ph) (pt := pt) (oi := oi) (tg := tg) (sm := sm) (wk := wk) (wa := wa) (wb := wb) (fr := fr) (me := me) (po := po) (by omega) hn HN L k
      have kk : ¬ lk l < 2 ∧ ¬ 5 < lk l := by rcases k with k | k | k | k <;> rw [k] <;> decide
      refine ⟨f, st2, nv2, fr, hf, F0, fun post h => br_t (by decide) (br_t (by decide) ?_), fun post h => br_f (by decide) (br_f kk.1 (br_f kk.2 ⟨vi, vi, ?_⟩))⟩
      · rw [hv]
        exact hX _ (nm_e h)
      · rw [cl]
        exact hY _ (br_t le (nm_e h))
    · have kk : ¬ lk l < 2 ∧ ¬ lk l ≤ 5 ∧ 5 < lk l := by
        rcases L.1 with q | q | q | q | q | q | q | q | q | q | q | q | q | q
        · exact absurd q k0
        · exact absurd q k1
        · exact absurd (Or.inl q) k
        · exact absurd (Or.inr (Or.inl q)) k
        · exact absurd (Or.inr (Or.inr (Or.inl q))) k
        · exact absurd (Or.inr (Or.inr (Or.inr q))) k
        · rw [q]; decide
        · rw [q]; decide
        · rw [q]; decide
        · rw [q]; decide
        · rw [q]; decide
        · rw [q]; decide
        · rw [q]; decide
        · rw [q]; decide
      refine ⟨f, st, nv, fr, hf, F0, fun post h => br_t (by decide) (br_t (by decide) ?_), fun post h => br_f (by decide) (br_f kk.1 (br_t kk.2.2 (br_t le (nm_e h))))⟩
      exact ⟨vi, nm_r (e' := lk l) (by rw [cl]) (br_f kk.1 (br_f kk.2.1 (nm_e h)))⟩
  · have kk : ¬ lk l < 2 ∧ 5 < lk l := by rcases k with k | k <;> rw [k] <;> decide
    have cf : (nI f).toNatClampNeg = f := nI_clamp (by omega)
    have vf : vp_in (nI f) 16 := vp_in_nI (by omega) (by decide)
    have e0 : jr_sg lk (upd fr f (nI l)) f = jr_sg lk fr f := jr_sgcg f (fun i hi => jr_un (by omega))
    have ge : ¬ nI (f + 1) ≤ nI f := nI_ge (by omega) (by omega)
    refine ⟨f + 1, st, nv, upd fr f (nI l), by omega, jr_frp (i := 0) F0 hl, fun post h => br_f (by decide) ?_, fun post h => br_f (by decide) (br_f kk.1 (br_t kk.2 (br_f ge ⟨vf, nm_r (e' := upd fr f (nI l)) (by rw [cf]) (nm_e h)⟩)))⟩
    refine br_t (nI_lt (b := 16) (by omega) (by decide)) ⟨vf, nm_r (e' := upd fr f (nI l)) (by rw [cf]) (nm_r (nI_1 f) ⟨vi, ?_⟩)⟩
    rw [cl]
    by_cases c7 : lk l = 7
    · have e1 : jr_sg lk (upd fr f (nI l)) (f + 1) = -jr_sg lk fr f := by
        rw [jr_sg1 (by rw [jr_us, cl]; exact c7), e0]
      rw [e1] at h
      exact br_t c7 (nm_e (nm_e h))
    · have e1 : jr_sg lk (upd fr f (nI l)) (f + 1) = jr_sg lk fr f := by
        rw [jr_sg0 (by rw [jr_us, cl]; exact c7), e0]
      rw [e1] at h
      exact br_f c7 (nm_e h)
  · have kk : lk l < 2 := by rcases k with k | k <;> rw [k] <;> decide
    have cf : (nI f').toNatClampNeg = f' := nI_clamp (by omega)
    have vf : vp_in (nI f') 16 := vp_in_nI (by omega) (by decide)
    obtain ⟨cn, hcn, ecn⟩ := F0 f' (by omega)
    have cc : (nI cn).toNatClampNeg = cn := nI_clamp (by omega)
    refine ⟨f', st, nv, fr, by omega, fun i hi => F0 i (by omega), fun post h => br_t (by decide) (br_f (by decide) ?_), fun post h => br_f (by decide) (br_t kk (br_t (nI_le (by omega) (by omega)) (nm_e h)))⟩
    refine br_f (nI_ne0 (by omega) (by omega)) (nm_r (nI_pred f') ⟨vf, ?_⟩)
    rw [cf]
    refine ⟨by rw [ecn]; exact vp_in_nI (by omega) (by decide), ?_⟩
    by_cases c7 : lk (fr f').toNatClampNeg = 7
    · refine br_t c7 (nm_r (e' := jr_sg lk fr f') (by rw [jr_sg1 c7, jr_nn]) (nm_e h))
    · have e1 := jr_sg0 c7
      refine br_f c7 ?_
      rw [e1]
      exact nm_e h
theorem jr_pfu {g mv left : Int32} (hN : N ≤ 96) (hn : n ≤ 32) (HN : jr_Nd n nk na nb nm) (HL : jr_Li N n lk la lb) (hF : F ≤ 16) (hf : f ≤ F) (hl : l < N) (F0 : jr_Fr N fr f)
    (hv : w * jr_sg lk fr f = (-1)) (M : jr_Mv f F (lk l) mv left) :
    ∃ (f2 : Nat) (st2 nv2 fr2 : Nat → Int32), f2 ≤ F ∧ jr_Fr N fr2 f2 ∧
      (∀ post : SX → Prop, post (vl, ll, nl, (nI F), (nI n), (nI N), pc, oc, rd, g, (nI f2), (jr_sg lk fr2 f2), (ck + w), (nI l), g, mv, st2, nk, na, nb, nm, nv2, lk, la, lb, ho, mo, tl, ph, pt, oi, tg, sm, wk, wa, wb, fr2) → wpX_perform post (vl, ll, nl, (nI F), (nI n), (nI N), pc, oc, rd, gp, (nI f), (jr_sg lk fr f), ck, (nI l), g, mv, st, nk, na, nb, nm, nv, lk, la, lb, ho, mo, tl, ph, pt, oi, tg, sm, wk, wa, wb, fr) w) ∧
      (∀ post : Int32 → SY → Prop, post 0 (vl, ll, nl, (nI F), rd, (nI n), (nI N), (nI f2), g, (ck + w), st2, nk, na, nb, lk, la, lb, fr2, nv2, me, po, wk, wa, wb) → wY_event_253 post w 1 (-1) (nI l) (lk l) g left vl ll nl (nI F) rd (nI n) (nI N) (nI f) gy ck st nk na nb lk la lb fr nv me po wk wa wb) := by
  have cl : (nI l).toNatClampNeg = l := nI_clamp (by omega)
  have vi : vp_in (nI l) 96 := vp_in_nI (by omega) (by decide)
  have le : nI f ≤ nI f := nI_le (Nat.le_refl f) (by omega)
  rcases M with ⟨rfl, rfl, k0, k1, k6, k7⟩ | ⟨rfl, rfl, c, k⟩ | ⟨rfl, f', rfl, rfl, k⟩
  · have L := HL l hl
    by_cases k : lk l = 2 ∨ lk l = 3 ∨ lk l = 4 ∨ lk l = 5
    · obtain ⟨st2, nv2, hX, hY⟩ := jr_udu (vl := vl) (ll := ll) (nl := nl) (fl := nI F) (lc := nI N) (pc := pc) (oc := oc) (rd := rd) (gp := gp) (fc := nI f) (se := jr_sg lk fr f) (ck := ck) (pl := nI l) (pg := g) (pm := 0) (gy := gy) (st := st) (nv := nv) (ho := ho) (mo := mo) (tl := tl) (ph := ph) (pt := pt) (oi := oi) (tg := tg) (sm := sm) (wk := wk) (wa := wa) (wb := wb) (fr := fr) (me := me) (po := po) (by omega) hn HN L k
      have kk : ¬ lk l < 2 ∧ ¬ 5 < lk l := by rcases k with k | k | k | k <;> rw [k] <;> decide
      refine ⟨f, st2, nv2, fr, hf, F0, fun post h => br_t (by decide) (br_t (by decide) ?_), fun post h => br_f (by decide) (br_f kk.1 (br_f kk.2 ⟨vi, vi, ?_⟩))⟩
      · rw [hv]
        exact hX _ (nm_e h)
      · rw [cl]
        exact hY _ (br_t le (nm_e h))
    · have kk : ¬ lk l < 2 ∧ ¬ lk l ≤ 5 ∧ 5 < lk l := by
        rcases L.1 with q | q | q | q | q | q | q | q | q | q | q | q | q | q
        · exact absurd q k0
        · exact absurd q k1
        · exact absurd (Or.inl q) k
        · exact absurd (Or.inr (Or.inl q)) k
        · exact absurd (Or.inr (Or.inr (Or.inl q))) k
        · exact absurd (Or.inr (Or.inr (Or.inr q))) k
        · rw [q]; decide
        · rw [q]; decide
        · rw [q]; decide
        · rw [q]; decide
        · rw [q]; decide
        · rw [q]; decide
        · rw [q]; decide
        · rw [q]; decide
      refine ⟨f, st, nv, fr, hf, F0, fun post h => br_t (by decide) (br_t (by decide) ?_), fun post h => br_f (by decide) (br_f kk.1 (br_t kk.2.2 (br_t le (nm_e h))))⟩
      exact ⟨vi, nm_r (e' := lk l) (by rw [cl]) (br_f kk.1 (br_f kk.2.1 (nm_e h)))⟩
  · have kk : ¬ lk l < 2 ∧ 5 < lk l := by rcases k with k | k <;> rw [k] <;> decide
    have cf : (nI f).toNatClampNeg = f := nI_clamp (by omega)
    have vf : vp_in (nI f) 16 := vp_in_nI (by omega) (by decide)
    have e0 : jr_sg lk (upd fr f (nI l)) f = jr_sg lk fr f := jr_sgcg f (fun i hi => jr_un (by omega))
    have ge : ¬ nI (f + 1) ≤ nI f := nI_ge (by omega) (by omega)
    refine ⟨f + 1, st, nv, upd fr f (nI l), by omega, jr_frp (i := 0) F0 hl, fun post h => br_f (by decide) ?_, fun post h => br_f (by decide) (br_f kk.1 (br_t kk.2 (br_f ge ⟨vf, nm_r (e' := upd fr f (nI l)) (by rw [cf]) (nm_e h)⟩)))⟩
    refine br_t (nI_lt (b := 16) (by omega) (by decide)) ⟨vf, nm_r (e' := upd fr f (nI l)) (by rw [cf]) (nm_r (nI_1 f) ⟨vi, ?_⟩)⟩
    rw [cl]
    by_cases c7 : lk l = 7
    · have e1 : jr_sg lk (upd fr f (nI l)) (f + 1) = -jr_sg lk fr f := by
        rw [jr_sg1 (by rw [jr_us, cl]; exact c7), e0]
      rw [e1] at h
      exact br_t c7 (nm_e (nm_e h))
    · have e1 : jr_sg lk (upd fr f (nI l)) (f + 1) = jr_sg lk fr f := by
        rw [jr_sg0 (by rw [jr_us, cl]; exact c7), e0]
      rw [e1] at h
      exact br_f c7 (nm_e h)
  · have kk : lk l < 2 := by rcases k with k | k <;> rw [k] <;> decide
    have cf : (nI f').toNatClampNeg = f' := nI_clamp (by omega)
    have vf : vp_in (nI f') 16 := vp_in_nI (by omega) (by decide)
    obtain ⟨cn, hcn, ecn⟩ := F0 f' (by omega)
    have cc : (nI cn).toNatClampNeg = cn := nI_clamp (by omega)
    refine ⟨f', st, nv, fr, by omega, fun i hi => F0 i (by omega), fun post h => br_t (by decide) (br_f (by decide) ?_), fun post h => br_f (by decide) (br_t kk (br_t (nI_le (by omega) (by omega)) (nm_e h)))⟩
    refine br_f (nI_ne0 (by omega) (by omega)) (nm_r (nI_pred f') ⟨vf, ?_⟩)
    rw [cf]
    refine ⟨by rw [ecn]; exact vp_in_nI (by omega) (by decide), ?_⟩
    by_cases c7 : lk (fr f').toNatClampNeg = 7
    · refine br_t c7 (nm_r (e' := jr_sg lk fr f') (by rw [jr_sg1 c7, jr_nn]) (nm_e h))
    · have e1 := jr_sg0 c7
      refine br_f c7 ?_
      rw [e1]
      exact nm_e h
/-! one event whole -/
def jr_Ev (N F : Nat) (fr : Nat → Int32) (r : Int32) (A : Prop) (B : Int32 → Nat → (Nat → Int32) → (Nat → Int32) → (Nat → Int32) → Prop) : Prop :=
  (¬ r = 0 ∧ A) ∨ (r = 0 ∧ ∃ (g2 : Int32) (f2 : Nat) (st2 nv2 fr2 : Nat → Int32), f2 ≤ F ∧ jr_Fr N fr2 f2 ∧ B g2 f2 st2 nv2 fr2)
theorem jr_evtd (hN : N ≤ 96) (hn : n ≤ 32) (HN : jr_Nd n nk na nb nm) (HL : jr_Li N n lk la lb) (hF : F ≤ 16) (hf : f ≤ F) (CT : jr_Ct lk la N N) (pg0 : jr_Pg lk (jr_Lk ho mo tl) 0 N)
    (tab : ∀ p, p < jr_cp lk N → jr_Pt lk jr_T3 N ph pt p) (F0 : jr_Fr N fr f) (hv : w * jr_sg lk fr f = 1) :
    ∃ (r pl' pg' pm' : Int32) (nv1 : Nat → Int32),
      (∀ post : Int32 → SX → Prop, post r (vl, ll, nl, (nI F), (nI n), (nI N), pc, oc, rd, gp, (nI f), (jr_sg lk fr f), ck, pl', pg', pm', st, nk, na, nb, nm, nv1, lk, la, lb, ho, mo, tl, ph, pt, oi, tg, sm, wk, wa, wb, fr) → wpX_plan post (vl, ll, nl, (nI F), (nI n), (nI N), pc, oc, rd, gp, (nI f), (jr_sg lk fr f), ck, pl, pg, pm, st, nk, na, nb, nm, nv, lk, la, lb, ho, mo, tl, ph, pt, oi, tg, sm, wk, wa, wb, fr) w) ∧
      (∀ post : Int32 → SY → Prop, post r (vl, ll, nl, (nI F), rd, (nI n), (nI N), (nI f), gp, ck, st, nk, na, nb, lk, la, lb, fr, nv1, me, po, wk, wa, wb) → wpY_event post (vl, ll, nl, (nI F), rd, (nI n), (nI N), (nI f), gp, ck, st, nk, na, nb, lk, la, lb, fr, nv, me, po, wk, wa, wb) w 0) ∧
      jr_Ev N F fr r (∀ post : Int32 → SY → Prop, post r (vl, ll, nl, (nI F), rd, (nI n), (nI N), (nI f), gp, ck, st, nk, na, nb, lk, la, lb, fr, nv1, me, po, wk, wa, wb) → wpY_event post (vl, ll, nl, (nI F), rd, (nI n), (nI N), (nI f), gp, ck, st, nk, na, nb, lk, la, lb, fr, nv, me, po, wk, wa, wb) w 1)
        (fun g2 f2 st2 nv2 fr2 =>
          (∀ post : SX → Prop, post (vl, ll, nl, (nI F), (nI n), (nI N), pc, oc, rd, g2, (nI f2), (jr_sg lk fr2 f2), (ck + w), pl', pg', pm', st2, nk, na, nb, nm, nv2, lk, la, lb, ho, mo, tl, ph, pt, oi, tg, sm, wk, wa, wb, fr2) → wpX_perform post (vl, ll, nl, (nI F), (nI n), (nI N), pc, oc, rd, gp, (nI f), (jr_sg lk fr f), ck, pl', pg', pm', st, nk, na, nb, nm, nv1, lk, la, lb, ho, mo, tl, ph, pt, oi, tg, sm, wk, wa, wb, fr) w) ∧
          (∀ post : Int32 → SY → Prop, post 0 (vl, ll, nl, (nI F), rd, (nI n), (nI N), (nI f2), g2, (ck + w), st2, nk, na, nb, lk, la, lb, fr2, nv2, me, po, wk, wa, wb) → wpY_event post (vl, ll, nl, (nI F), rd, (nI n), (nI N), (nI f), gp, ck, st, nk, na, nb, lk, la, lb, fr, nv, me, po, wk, wa, wb) w 1)) := by
  rcases jr_rng gp (n := N) (by omega) with c | ⟨⟨a, b⟩, l, hl, ez⟩
  · have X : ∀ post : Int32 → SX → Prop, post 1 (vl, ll, nl, (nI F), (nI n), (nI N), pc, oc, rd, gp, (nI f), (jr_sg lk fr f), ck, gp, gp, 0, st, nk, na, nb, nm, nv, lk, la, lb, ho, mo, tl, ph, pt, oi, tg, sm, wk, wa, wb, fr) → wpX_plan post (vl, ll, nl, (nI F), (nI n), (nI N), pc, oc, rd, gp, (nI f), (jr_sg lk fr f), ck, pl, pg, pm, st, nk, na, nb, nm, nv, lk, la, lb, ho, mo, tl, ph, pt, oi, tg, sm, wk, wa, wb, fr) w := by
      intro post h
      refine nm_r (e' := 1) hv (br_f (by decide) ?_)
      by_cases c1 : gp < 0
      · exact br_t c1 h
      · exact br_f c1 (br_f (fun z => absurd (c.resolve_left c1) (Int32.not_le.mpr z)) h)
    have Y : ∀ (post : Int32 → SY → Prop) (rl : Int32), post 1 (vl, ll, nl, (nI F), rd, (nI n), (nI N), (nI f), gp, ck, st, nk, na, nb, lk, la, lb, fr, nv, me, po, wk, wa, wb) → wpY_event post (vl, ll, nl, (nI F), rd, (nI n), (nI N), (nI f), gp, ck, st, nk, na, nb, lk, la, lb, fr, nv, me, po, wk, wa, wb) w rl := by
      intro post rl h
      refine jr_ysn hN (by omega) F0 (nm_r (e' := 1) hv (br_f (by decide) ?_))
      by_cases c1 : gp < 0
      · exact br_t c1 h
      · exact br_f c1 (br_f (fun z => absurd (c.resolve_left c1) (Int32.not_le.mpr z)) h)
    exact ⟨1, gp, gp, 0, nv, X, fun post h => Y post 0 h, Or.inl ⟨by decide, fun post h => Y post 1 h⟩⟩
  · obtain ⟨r, g, mv, nv1, hX, hY⟩ := jr_pld (vl := vl) (ll := ll) (nl := nl) (pc := pc) (oc := oc) (rd := rd) (gp := gp) (se := jr_sg lk fr f) (ck := ck) (pl := nI l) (pg := gp) (gy := gp) (st := st) (nv := nv) (lb := lb) (oi := oi) (tg := tg) (sm := sm) (wk := wk) (wa := wa) (wb := wb) (me := me) (po := po) hN hn HN hF hf hl CT pg0 tab F0 hv
    have X : ∀ post : Int32 → SX → Prop, post r (vl, ll, nl, (nI F), (nI n), (nI N), pc, oc, rd, gp, (nI f), (jr_sg lk fr f), ck, (nI l), g, mv, st, nk, na, nb, nm, nv1, lk, la, lb, ho, mo, tl, ph, pt, oi, tg, sm, wk, wa, wb, fr) → wpX_plan post (vl, ll, nl, (nI F), (nI n), (nI N), pc, oc, rd, gp, (nI f), (jr_sg lk fr f), ck, pl, pg, pm, st, nk, na, nb, nm, nv, lk, la, lb, ho, mo, tl, ph, pt, oi, tg, sm, wk, wa, wb, fr) w := by
      intro post h
      refine nm_r (e' := 1) hv (br_f (by decide) ?_)
      have Z : wX_plan_25 post 1 (nI l) vl ll nl (nI F) (nI n) (nI N) pc oc rd gp (nI f) (jr_sg lk fr f) ck pl pg pm st nk na nb nm nv lk la lb ho mo tl ph pt oi tg sm wk wa wb fr := br_f (nI_pos (by omega)) (br_t (nI_lt hl (by omega)) (br_f (by decide) (hX _ h)))
      exact ez.symm ▸ Z
    have Y : ∀ (post : Int32 → SY → Prop) (rl : Int32), wY_event_68 post w rl 1 (nI l) (lk l) (nI (l + 1)) vl ll nl (nI F) rd (nI n) (nI N) (nI f) gp ck st nk na nb lk la lb fr nv me po wk wa wb → wpY_event post (vl, ll, nl, (nI F), rd, (nI n), (nI N), (nI f), gp, ck, st, nk, na, nb, lk, la, lb, fr, nv, me, po, wk, wa, wb) w rl := by
      intro post rl h
      refine jr_ysn hN (by omega) F0 (nm_r (e' := 1) hv (br_f (by decide) ?_))
      have Z : wY_event_28 post w rl 1 (nI l) vl ll nl (nI F) rd (nI n) (nI N) (nI f) gp ck st nk na nb lk la lb fr nv me po wk wa wb := by
        refine br_f (nI_pos (by omega)) (br_t (nI_lt hl (by omega)) ⟨vp_in_nI (by omega) (by decide), nm_r (e' := lk l) (by rw [nI_clamp (by omega)]) (br_f (by decide) ?_)⟩)
        rw [nI_1 l]; exact h
      exact ez.symm ▸ Z
    rcases hY with ⟨r0, hY⟩ | ⟨r0, left, M, hY⟩
    · exact ⟨r, nI l, g, mv, nv1, X, fun post h => Y post 0 (hY post 0 h), Or.inl ⟨r0, fun post h => Y post 1 (hY post 1 h)⟩⟩
    · obtain ⟨f2, st2, nv2, fr2, hf2, F2, pX, pY⟩ := jr_pfd (vl := vl) (ll := ll) (nl := nl) (pc := pc) (oc := oc) (rd := rd) (gp := gp) (ck := ck) (gy := gp) (st := st) (nv := nv1) (ho := ho) (mo := mo) (tl := tl) (ph := ph) (pt := pt) (oi := oi) (tg := tg) (sm := sm) (wk := wk) (wa := wa) (wb := wb) (me := me) (po := po) (g := g) hN hn HN HL hF hf hl F0 hv M
      refine ⟨r, nI l, g, mv, nv1, X, fun post h => Y post 0 (hY post 0 (br_t rfl ?_)), Or.inr ⟨r0, g, f2, st2, nv2, fr2, hf2, F2, pX, fun post h => Y post 1 (hY post 1 (pY post h))⟩⟩
      rw [r0] at h; exact h
theorem jr_evtu (hN : N ≤ 96) (hn : n ≤ 32) (HN : jr_Nd n nk na nb nm) (HL : jr_Li N n lk la lb) (hF : F ≤ 16) (hf : f ≤ F) (CT : jr_Ct lk la N N) (pg0 : jr_Pg lk (jr_Lk ho mo tl) 0 N)
    (tab : ∀ p, p < jr_cp lk N → jr_Pt lk jr_T3 N ph pt p) (F0 : jr_Fr N fr f) (hv : w * jr_sg lk fr f = (-1)) :
    ∃ (r pl' pg' pm' : Int32) (nv1 : Nat → Int32),
      (∀ post : Int32 → SX → Prop, post r (vl, ll, nl, (nI F), (nI n), (nI N), pc, oc, rd, gp, (nI f), (jr_sg lk fr f), ck, pl', pg', pm', st, nk, na, nb, nm, nv1, lk, la, lb, ho, mo, tl, ph, pt, oi, tg, sm, wk, wa, wb, fr) → wpX_plan post (vl, ll, nl, (nI F), (nI n), (nI N), pc, oc, rd, gp, (nI f), (jr_sg lk fr f), ck, pl, pg, pm, st, nk, na, nb, nm, nv, lk, la, lb, ho, mo, tl, ph, pt, oi, tg, sm, wk, wa, wb, fr) w) ∧
      (∀ post : Int32 → SY → Prop, post r (vl, ll, nl, (nI F), rd, (nI n), (nI N), (nI f), gp, ck, st, nk, na, nb, lk, la, lb, fr, nv1, me, po, wk, wa, wb) → wpY_event post (vl, ll, nl, (nI F), rd, (nI n), (nI N), (nI f), gp, ck, st, nk, na, nb, lk, la, lb, fr, nv, me, po, wk, wa, wb) w 0) ∧
      jr_Ev N F fr r (∀ post : Int32 → SY → Prop, post r (vl, ll, nl, (nI F), rd, (nI n), (nI N), (nI f), gp, ck, st, nk, na, nb, lk, la, lb, fr, nv1, me, po, wk, wa, wb) → wpY_event post (vl, ll, nl, (nI F), rd, (nI n), (nI N), (nI f), gp, ck, st, nk, na, nb, lk, la, lb, fr, nv, me, po, wk, wa, wb) w 1)
        (fun g2 f2 st2 nv2 fr2 =>
          (∀ post : SX → Prop, post (vl, ll, nl, (nI F), (nI n), (nI N), pc, oc, rd, g2, (nI f2), (jr_sg lk fr2 f2), (ck + w), pl', pg', pm', st2, nk, na, nb, nm, nv2, lk, la, lb, ho, mo, tl, ph, pt, oi, tg, sm, wk, wa, wb, fr2) → wpX_perform post (vl, ll, nl, (nI F), (nI n), (nI N), pc, oc, rd, gp, (nI f), (jr_sg lk fr f), ck, pl', pg', pm', st, nk, na, nb, nm, nv1, lk, la, lb, ho, mo, tl, ph, pt, oi, tg, sm, wk, wa, wb, fr) w) ∧
          (∀ post : Int32 → SY → Prop, post 0 (vl, ll, nl, (nI F), rd, (nI n), (nI N), (nI f2), g2, (ck + w), st2, nk, na, nb, lk, la, lb, fr2, nv2, me, po, wk, wa, wb) → wpY_event post (vl, ll, nl, (nI F), rd, (nI n), (nI N), (nI f), gp, ck, st, nk, na, nb, lk, la, lb, fr, nv, me, po, wk, wa, wb) w 1)) := by
  rcases jr_rng (gp - 1) (n := N) (by omega) with c | ⟨⟨a, b⟩, l, hl, ez⟩
  · have X : ∀ post : Int32 → SX → Prop, post 1 (vl, ll, nl, (nI F), (nI n), (nI N), pc, oc, rd, gp, (nI f), (jr_sg lk fr f), ck, ((gp - 1)), gp, 0, st, nk, na, nb, nm, nv, lk, la, lb, ho, mo, tl, ph, pt, oi, tg, sm, wk, wa, wb, fr) → wpX_plan post (vl, ll, nl, (nI F), (nI n), (nI N), pc, oc, rd, gp, (nI f), (jr_sg lk fr f), ck, pl, pg, pm, st, nk, na, nb, nm, nv, lk, la, lb, ho, mo, tl, ph, pt, oi, tg, sm, wk, wa, wb, fr) w := by
      intro post h
      refine nm_r (e' := (-1)) hv (br_t (by decide) ?_)
      by_cases c1 : (gp - 1) < 0
      · exact br_t c1 h
      · exact br_f c1 (br_f (fun z => absurd (c.resolve_left c1) (Int32.not_le.mpr z)) h)
    have Y : ∀ (post : Int32 → SY → Prop) (rl : Int32), post 1 (vl, ll, nl, (nI F), rd, (nI n), (nI N), (nI f), gp, ck, st, nk, na, nb, lk, la, lb, fr, nv, me, po, wk, wa, wb) → wpY_event post (vl, ll, nl, (nI F), rd, (nI n), (nI N), (nI f), gp, ck, st, nk, na, nb, lk, la, lb, fr, nv, me, po, wk, wa, wb) w rl := by
      intro post rl h
      refine jr_ysn hN (by omega) F0 (nm_r (e' := (-1)) hv (br_t (by decide) ?_))
      by_cases c1 : (gp - 1) < 0
      · exact br_t c1 h
      · exact br_f c1 (br_f (fun z => absurd (c.resolve_left c1) (Int32.not_le.mpr z)) h)
    exact ⟨1, (gp - 1), gp, 0, nv, X, fun post h => Y post 0 h, Or.inl ⟨by decide, fun post h => Y post 1 h⟩⟩
  · obtain ⟨r, g, mv, nv1, hX, hY⟩ := jr_plu (vl := vl) (ll := ll) (nl := nl) (pc := pc) (oc := oc) (rd := rd) (gp := gp) (se := jr_sg lk fr f) (ck := ck) (pl := nI l) (pg := gp) (gy := gp) (st := st) (nv := nv) (lb := lb) (oi := oi) (tg := tg) (sm := sm) (wk := wk) (wa := wa) (wb := wb) (me := me) (po := po) hN hn HN hF hf hl CT pg0 tab F0 hv
    have X : ∀ post : Int32 → SX → Prop, post r (vl, ll, nl, (nI F), (nI n), (nI N), pc, oc, rd, gp, (nI f), (jr_sg lk fr f), ck, (nI l), g, mv, st, nk, na, nb, nm, nv1, lk, la, lb, ho, mo, tl, ph, pt, oi, tg, sm, wk, wa, wb, fr) → wpX_plan post (vl, ll, nl, (nI F), (nI n), (nI N), pc, oc, rd, gp, (nI f), (jr_sg lk fr f), ck, pl, pg, pm, st, nk, na, nb, nm, nv, lk, la, lb, ho, mo, tl, ph, pt, oi, tg, sm, wk, wa, wb, fr) w := by
      intro post h
      refine nm_r (e' := (-1)) hv (br_t (by decide) ?_)
      have Z : wX_plan_25 post (-1) (nI l) vl ll nl (nI F) (nI n) (nI N) pc oc rd gp (nI f) (jr_sg lk fr f) ck pl pg pm st nk na nb nm nv lk la lb ho mo tl ph pt oi tg sm wk wa wb fr := br_f (nI_pos (by omega)) (br_t (nI_lt hl (by omega)) (br_t (by decide) (hX _ h)))
      exact ez.symm ▸ Z
    have Y : ∀ (post : Int32 → SY → Prop) (rl : Int32), wY_event_68 post w rl (-1) (nI l) (lk l) (nI l) vl ll nl (nI F) rd (nI n) (nI N) (nI f) gp ck st nk na nb lk la lb fr nv me po wk wa wb → wpY_event post (vl, ll, nl, (nI F), rd, (nI n), (nI N), (nI f), gp, ck, st, nk, na, nb, lk, la, lb, fr, nv, me, po, wk, wa, wb) w rl := by
      intro post rl h
      refine jr_ysn hN (by omega) F0 (nm_r (e' := (-1)) hv (br_t (by decide) ?_))
      have Z : wY_event_28 post w rl (-1) (nI l) vl ll nl (nI F) rd (nI n) (nI N) (nI f) gp ck st nk na nb lk la lb fr nv me po wk wa wb := by
        refine br_f (nI_pos (by omega)) (br_t (nI_lt hl (by omega)) ⟨vp_in_nI (by omega) (by decide), nm_r (e' := lk l) (by rw [nI_clamp (by omega)]) (br_t (by decide) ?_)⟩)
        exact h
      exact ez.symm ▸ Z
    rcases hY with ⟨r0, hY⟩ | ⟨r0, left, M, hY⟩
    · exact ⟨r, nI l, g, mv, nv1, X, fun post h => Y post 0 (hY post 0 h), Or.inl ⟨r0, fun post h => Y post 1 (hY post 1 h)⟩⟩
    · obtain ⟨f2, st2, nv2, fr2, hf2, F2, pX, pY⟩ := jr_pfu (vl := vl) (ll := ll) (nl := nl) (pc := pc) (oc := oc) (rd := rd) (gp := gp) (ck := ck) (gy := gp) (st := st) (nv := nv1) (ho := ho) (mo := mo) (tl := tl) (ph := ph) (pt := pt) (oi := oi) (tg := tg) (sm := sm) (wk := wk) (wa := wa) (wb := wb) (me := me) (po := po) (g := g) hN hn HN HL hF hf hl F0 hv M
      refine ⟨r, nI l, g, mv, nv1, X, fun post h => Y post 0 (hY post 0 (br_t rfl ?_)), Or.inr ⟨r0, g, f2, st2, nv2, fr2, hf2, F2, pX, fun post h => Y post 1 (hY post 1 (pY post h))⟩⟩
      rw [r0] at h; exact h
theorem jr_evt (hw : w = 1 ∨ w = -1) (hN : N ≤ 96) (hn : n ≤ 32) (HN : jr_Nd n nk na nb nm) (HL : jr_Li N n lk la lb) (hF : F ≤ 16) (hf : f ≤ F) (CT : jr_Ct lk la N N) (pg0 : jr_Pg lk (jr_Lk ho mo tl) 0 N)
    (tab : ∀ p, p < jr_cp lk N → jr_Pt lk jr_T3 N ph pt p) (F0 : jr_Fr N fr f) :
    ∃ (r pl' pg' pm' : Int32) (nv1 : Nat → Int32),
      (∀ post : Int32 → SX → Prop, post r (vl, ll, nl, (nI F), (nI n), (nI N), pc, oc, rd, gp, (nI f), (jr_sg lk fr f), ck, pl', pg', pm', st, nk, na, nb, nm, nv1, lk, la, lb, ho, mo, tl, ph, pt, oi, tg, sm, wk, wa, wb, fr) → wpX_plan post (vl, ll, nl, (nI F), (nI n), (nI N), pc, oc, rd, gp, (nI f), (jr_sg lk fr f), ck, pl, pg, pm, st, nk, na, nb, nm, nv, lk, la, lb, ho, mo, tl, ph, pt, oi, tg, sm, wk, wa, wb, fr) w) ∧
      (∀ post : Int32 → SY → Prop, post r (vl, ll, nl, (nI F), rd, (nI n), (nI N), (nI f), gp, ck, st, nk, na, nb, lk, la, lb, fr, nv1, me, po, wk, wa, wb) → wpY_event post (vl, ll, nl, (nI F), rd, (nI n), (nI N), (nI f), gp, ck, st, nk, na, nb, lk, la, lb, fr, nv, me, po, wk, wa, wb) w 0) ∧
      jr_Ev N F fr r (∀ post : Int32 → SY → Prop, post r (vl, ll, nl, (nI F), rd, (nI n), (nI N), (nI f), gp, ck, st, nk, na, nb, lk, la, lb, fr, nv1, me, po, wk, wa, wb) → wpY_event post (vl, ll, nl, (nI F), rd, (nI n), (nI N), (nI f), gp, ck, st, nk, na, nb, lk, la, lb, fr, nv, me, po, wk, wa, wb) w 1)
        (fun g2 f2 st2 nv2 fr2 =>
          (∀ post : SX → Prop, post (vl, ll, nl, (nI F), (nI n), (nI N), pc, oc, rd, g2, (nI f2), (jr_sg lk fr2 f2), (ck + w), pl', pg', pm', st2, nk, na, nb, nm, nv2, lk, la, lb, ho, mo, tl, ph, pt, oi, tg, sm, wk, wa, wb, fr2) → wpX_perform post (vl, ll, nl, (nI F), (nI n), (nI N), pc, oc, rd, gp, (nI f), (jr_sg lk fr f), ck, pl', pg', pm', st, nk, na, nb, nm, nv1, lk, la, lb, ho, mo, tl, ph, pt, oi, tg, sm, wk, wa, wb, fr) w) ∧
          (∀ post : Int32 → SY → Prop, post 0 (vl, ll, nl, (nI F), rd, (nI n), (nI N), (nI f2), g2, (ck + w), st2, nk, na, nb, lk, la, lb, fr2, nv2, me, po, wk, wa, wb) → wpY_event post (vl, ll, nl, (nI F), rd, (nI n), (nI N), (nI f), gp, ck, st, nk, na, nb, lk, la, lb, fr, nv, me, po, wk, wa, wb) w 1)) := by
  have hv : w * jr_sg lk fr f = 1 ∨ w * jr_sg lk fr f = -1 := by
    rcases hw with rfl | rfl <;> rcases jr_sg01 (lk := lk) (fr := fr) f with e | e <;> rw [e] <;> decide
  rcases hv with hv | hv
  · exact jr_evtd hN hn HN HL hF hf CT pg0 tab F0 hv
  · exact jr_evtu hN hn HN HL hF hf CT pg0 tab F0 hv
end JRM2
section JRM3
variable {vl ll nl fl nc lc pc oc rd gp fc se ck pl pg pm gy : Int32} {st nk na nb nm nv lk la lb ho mo tl ph pt oi tg sm wk wa wb fr me po : Nat → Int32}
variable {N n F : Nat} {w : Int32}
/-! the run loop -/
theorem jr_rlp (hw : w = 1 ∨ w = -1) (hN : N ≤ 96) (hn : n ≤ 32) (HN : jr_Nd n nk na nb nm) (HL : jr_Li N n lk la lb) (hF : F ≤ 16) (CT : jr_Ct lk la N N) (pg0 : jr_Pg lk (jr_Lk ho mo tl) 0 N)
    (tab : ∀ p, p < jr_cp lk N → jr_Pt lk jr_T3 N ph pt p) {e : Nat} (he : e ≤ 256) :
    ∀ (d i f : Nat) (gp ck pl pg pm : Int32) (st nv fr : Nat → Int32), i + d = e → f ≤ F → jr_Fr N fr f →
    ∃ (r gp' ck' pl' pg' pm' : Int32) (f' : Nat) (st' nv' fr' : Nat → Int32), f' ≤ F ∧ jr_Fr N fr' f' ∧
      (∀ post : Int32 → SX → Prop, post r (vl, ll, nl, (nI F), (nI n), (nI N), pc, oc, rd, gp', (nI f'), (jr_sg lk fr' f'), ck', pl', pg', pm', st', nk, na, nb, nm, nv', lk, la, lb, ho, mo, tl, ph, pt, oi, tg, sm, wk, wa, wb, fr') → wX_run_13 post w (nI e) (d + 1) (nI i) vl ll nl (nI F) (nI n) (nI N) pc oc rd gp (nI f) (jr_sg lk fr f) ck pl pg pm st nk na nb nm nv lk la lb ho mo tl ph pt oi tg sm wk wa wb fr) ∧
      (∀ post : Int32 → SY → Prop, post r (vl, ll, nl, (nI F), rd, (nI n), (nI N), (nI f'), gp', ck', st', nk, na, nb, lk, la, lb, fr', nv', me, po, wk, wa, wb) → wY_run_22 post w (nI e) (d + 1) (nI i) vl ll nl (nI F) rd (nI n) (nI N) (nI f) gp ck st nk na nb lk la lb fr nv me po wk wa wb) := by
  intro d
  induction d with
  | zero =>
    intro i f gp ck pl pg pm st nv fr ei hf F0
    have le : nI e ≤ nI i := nI_le (by omega) (by omega)
    exact ⟨nI e, gp, ck, pl, pg, pm, f, st, nv, fr, hf, F0, fun post h => br_t le h, fun post h => br_t le h⟩
  | succ d ih =>
    intro i f gp ck pl pg pm st nv fr ei hf F0
    have ge : ¬ nI e ≤ nI i := nI_ge (by omega) (by omega)
    obtain ⟨r, pl', pg', pm', nv1, hX, _, hE⟩ := jr_evt (vl := vl) (ll := ll) (nl := nl) (pc := pc) (oc := oc) (rd := rd) (gp := gp) (ck := ck) (pl := pl) (pg := pg) (pm := pm) (st := st) (nv := nv) (lb := lb) (oi := oi) (tg := tg) (sm := sm) (wk := wk) (wa := wa) (wb := wb) (me := me) (po := po) hw hN hn HN HL hF hf CT pg0 tab F0
    rcases hE with ⟨r0, hY⟩ | ⟨r0, g2, f2, st2, nv2, fr2, hf2, F2, pX, pY⟩
    · exact ⟨nI i, gp, ck, pl', pg', pm', f, st, nv1, fr, hf, F0, fun post h => br_f ge (hX _ (br_f r0 h)), fun post h => br_f ge (hY _ (br_f r0 h))⟩
    · obtain ⟨r3, gp3, ck3, pl3, pg3, pm3, f3, st3, nv3, fr3, hf3, F3, gX, gY⟩ := ih (i + 1) f2 g2 (ck + w) pl' pg' pm' st2 nv2 fr2 (by omega) hf2 F2
      exact ⟨r3, gp3, ck3, pl3, pg3, pm3, f3, st3, nv3, fr3, hf3, F3, fun post h => br_f ge (hX _ (br_t r0 (pX _ (nm_r (nI_1 i) (gX post h))))),
        fun post h => br_f ge (pY _ (br_t rfl (nm_r (nI_1 i) (gY post h))))⟩
def jr_clm (v a b : Int32) : Int32 := if a ≤ v then (if v ≤ b then v else b) else a
theorem jr_xcl {post : Int32 → Prop} {v a b : Int32} (h : post (jr_clm v a b)) : wpX_clamp post (vl, ll, nl, fl, nc, lc, pc, oc, rd, gp, fc, se, ck, pl, pg, pm, st, nk, na, nb, nm, nv, lk, la, lb, ho, mo, tl, ph, pt, oi, tg, sm, wk, wa, wb, fr) v a b := by
  unfold jr_clm at h
  by_cases c : a ≤ v
  · rw [if_pos c] at h
    refine br_t c ?_
    by_cases d : v ≤ b
    · rw [if_pos d] at h; exact br_t d h
    · rw [if_neg d] at h; exact br_f d h
  · rw [if_neg c] at h; exact br_f c h
theorem jr_ycl {post : Int32 → Prop} {v a b : Int32} (h : post (jr_clm v a b)) : wpY_clamp post (vl, ll, nl, fl, rd, nc, lc, fc, gy, ck, st, nk, na, nb, lk, la, lb, fr, nv, me, po, wk, wa, wb) v a b := by
  unfold jr_clm at h
  by_cases c : a ≤ v
  · rw [if_pos c] at h
    refine br_t c ?_
    by_cases d : v ≤ b
    · rw [if_pos d] at h; exact br_t d h
    · rw [if_neg d] at h; exact br_f d h
  · rw [if_neg c] at h; exact br_f c h
theorem jr_clN (v : Int32) {a b : Nat} (hab : a ≤ b) (hb : b < 2 ^ 31) : ∃ e, a ≤ e ∧ e ≤ b ∧ jr_clm v (nI a) (nI b) = nI e := by
  unfold jr_clm
  by_cases c : nI a ≤ v
  · rw [if_pos c]
    by_cases d : v ≤ nI b
    · rw [if_pos d]
      have c0 : ¬ v < 0 := fun z => absurd (Int32.lt_of_le_of_lt c z) (nI_pos (by omega))
      obtain ⟨e, he, rfl⟩ := nI_of c0
      rw [nI_leI (by omega) he] at c
      rw [nI_leI he hb] at d
      exact ⟨e, c, d, rfl⟩
    · rw [if_neg d]; exact ⟨b, hab, Nat.le_refl b, rfl⟩
  · rw [if_neg c]; exact ⟨a, Nat.le_refl a, hab, rfl⟩
theorem jr_run {f : Nat} {p : Int32} (hw : w = 1 ∨ w = -1) (hN : N ≤ 96) (hn : n ≤ 32) (HN : jr_Nd n nk na nb nm) (HL : jr_Li N n lk la lb) (hF : F ≤ 16) (hf : f ≤ F)
    (CT : jr_Ct lk la N N) (pg0 : jr_Pg lk (jr_Lk ho mo tl) 0 N) (tab : ∀ p, p < jr_cp lk N → jr_Pt lk jr_T3 N ph pt p) (F0 : jr_Fr N fr f) :
    ∃ (r gp' ck' pl' pg' pm' : Int32) (f' : Nat) (st' nv' fr' : Nat → Int32), f' ≤ F ∧ jr_Fr N fr' f' ∧
      (∀ post : Int32 → SX → Prop, post r (vl, ll, nl, (nI F), (nI n), (nI N), pc, oc, 1, gp', (nI f'), (jr_sg lk fr' f'), ck', pl', pg', pm', st', nk, na, nb, nm, nv', lk, la, lb, ho, mo, tl, ph, pt, oi, tg, sm, wk, wa, wb, fr') → wpX_run post (vl, ll, nl, (nI F), (nI n), (nI N), pc, oc, 1, gp, (nI f), (jr_sg lk fr f), ck, pl, pg, pm, st, nk, na, nb, nm, nv, lk, la, lb, ho, mo, tl, ph, pt, oi, tg, sm, wk, wa, wb, fr) p w) ∧
      (∀ post : Int32 → SY → Prop, post r (vl, ll, nl, (nI F), 1, (nI n), (nI N), (nI f'), gp', ck', st', nk, na, nb, lk, la, lb, fr', nv', me, po, wk, wa, wb) → wpY_run post (vl, ll, nl, (nI F), 1, (nI n), (nI N), (nI f), gp, ck, st, nk, na, nb, lk, la, lb, fr, nv, me, po, wk, wa, wb) p w) := by
  obtain ⟨e, _, he, ee⟩ := jr_clN p (a := 0) (b := 256) (by omega) (by omega)
  obtain ⟨r, gp', ck', pl', pg', pm', f', st', nv', fr', hf', F', hX, hY⟩ := jr_rlp (vl := vl) (ll := ll) (nl := nl) (pc := pc) (oc := oc) (rd := 1) (lb := lb) (oi := oi) (tg := tg) (sm := sm) (wk := wk) (wa := wa) (wb := wb) (me := me) (po := po) hw hN hn HN HL hF CT pg0 tab he e 0 f gp ck pl pg pm st nv fr (by omega) hf F0
  have e1 : jr_clm p 0 256 = nI e := ee
  refine ⟨r, gp', ck', pl', pg', pm', f', st', nv', fr', hf', F', fun post h => ?_, fun post h => ?_⟩
  · unfold wpX_run
    refine jr_xcl ?_
    rw [e1]
    exact ⟨e + 1, hX _ h⟩
  · refine br_f (by decide) (jr_ycl ?_)
    rw [e1]
    exact ⟨e + 1, hY _ h⟩
end JRM3
end
section
/-! the relation -/
def jr_B (V LL M F n N : Nat) (nk na nb nm lk la lb : Nat → Int32) : Prop :=
  V ≤ 8 ∧ LL ≤ 96 ∧ M ≤ 32 ∧ F ≤ 16 ∧ n ≤ M ∧ N ≤ LL ∧ jr_Nd n nk na nb nm ∧ jr_Li N n lk la lb
def jr_D (N f F : Nat) (lk la ho mo tl ph pt fr : Nat → Int32) : Prop :=
  f ≤ F ∧ jr_Fr N fr f ∧ 0 < N ∧ jr_Ct lk la N N ∧ jr_Pg lk (jr_Lk ho mo tl) 0 N ∧ ∀ p, p < jr_cp lk N → jr_Pt lk jr_T3 N ph pt p
/-- at rest for editing, or ready -/
def i_Rel (_ : Nat) (u : SX) (v : SY) : Prop :=
  (∃ (V LL M F n N : Nat) (pc oc gp se pl pg pm gy : Int32) (st nk na nb nm nv lk la lb ho mo tl ph pt oi tg sm wk wa wb fr me po : Nat → Int32), jr_B V LL M F n N nk na nb nm lk la lb ∧ u = ((nI V), (nI LL), (nI M), (nI F), (nI n), (nI N), pc, oc, 0, gp, 0, se, 0, pl, pg, pm, st, nk, na, nb, nm, nv, lk, la, lb, ho, mo, tl, ph, pt, oi, tg, sm, wk, wa, wb, fr) ∧ v = ((nI V), (nI LL), (nI M), (nI F), 0, (nI n), (nI N), 0, gy, 0, st, nk, na, nb, lk, la, lb, fr, nv, me, po, wk, wa, wb)) ∨
  (∃ (V LL M F n N f : Nat) (oc gp ck pl pg pm : Int32) (st nk na nb nm nv lk la lb ho mo tl ph pt oi tg sm wk wa wb fr me po : Nat → Int32), (jr_B V LL M F n N nk na nb nm lk la lb ∧ jr_D N f F lk la ho mo tl ph pt fr) ∧ u = ((nI V), (nI LL), (nI M), (nI F), (nI n), (nI N), (nI (jr_cp lk N)), oc, 1, gp, (nI f), (jr_sg lk fr f), ck, pl, pg, pm, st, nk, na, nb, nm, nv, lk, la, lb, ho, mo, tl, ph, pt, oi, tg, sm, wk, wa, wb, fr) ∧ v = ((nI V), (nI LL), (nI M), (nI F), 1, (nI n), (nI N), (nI f), gp, ck, st, nk, na, nb, lk, la, lb, fr, nv, me, po, wk, wa, wb))
theorem i_up {k : Nat} {u : SX} {v : SY} (h : i_Rel k u v) : i_Rel (k + 4) u v := h
theorem jr_el {k : Nat} {u : SX} {v : SY} {Q : SX → SY → Prop}
    (h0 : ∀ (V LL M F n N : Nat) (pc oc gp se pl pg pm gy : Int32) (st nk na nb nm nv lk la lb ho mo tl ph pt oi tg sm wk wa wb fr me po : Nat → Int32), jr_B V LL M F n N nk na nb nm lk la lb → Q ((nI V), (nI LL), (nI M), (nI F), (nI n), (nI N), pc, oc, 0, gp, 0, se, 0, pl, pg, pm, st, nk, na, nb, nm, nv, lk, la, lb, ho, mo, tl, ph, pt, oi, tg, sm, wk, wa, wb, fr) ((nI V), (nI LL), (nI M), (nI F), 0, (nI n), (nI N), 0, gy, 0, st, nk, na, nb, lk, la, lb, fr, nv, me, po, wk, wa, wb))
    (h1 : ∀ (V LL M F n N f : Nat) (oc gp ck pl pg pm : Int32) (st nk na nb nm nv lk la lb ho mo tl ph pt oi tg sm wk wa wb fr me po : Nat → Int32), jr_B V LL M F n N nk na nb nm lk la lb → jr_D N f F lk la ho mo tl ph pt fr → Q ((nI V), (nI LL), (nI M), (nI F), (nI n), (nI N), (nI (jr_cp lk N)), oc, 1, gp, (nI f), (jr_sg lk fr f), ck, pl, pg, pm, st, nk, na, nb, nm, nv, lk, la, lb, ho, mo, tl, ph, pt, oi, tg, sm, wk, wa, wb, fr) ((nI V), (nI LL), (nI M), (nI F), 1, (nI n), (nI N), (nI f), gp, ck, st, nk, na, nb, lk, la, lb, fr, nv, me, po, wk, wa, wb))
    (I : i_Rel k u v) : Q u v :=
  Or.elim I
    (fun E => Exists.elim E (fun V E => Exists.elim E (fun LL E => Exists.elim E (fun M E => Exists.elim E (fun F E => Exists.elim E (fun n E => Exists.elim E (fun N E => Exists.elim E (fun pc E => Exists.elim E (fun oc E => Exists.elim E (fun gp E => Exists.elim E (fun se E => Exists.elim E (fun pl E => Exists.elim E (fun pg E => Exists.elim E (fun pm E => Exists.elim E (fun gy E => Exists.elim E (fun st E => Exists.elim E (fun nk E => Exists.elim E (fun na E => Exists.elim E (fun nb E => Exists.elim E (fun nm E => Exists.elim E (fun nv E => Exists.elim E (fun lk E => Exists.elim E (fun la E => Exists.elim E (fun lb E => Exists.elim E (fun ho E => Exists.elim E (fun mo E => Exists.elim E (fun tl E => Exists.elim E (fun ph E => Exists.elim E (fun pt E => Exists.elim E (fun oi E => Exists.elim E (fun tg E => Exists.elim E (fun sm E => Exists.elim E (fun wk E => Exists.elim E (fun wa E => Exists.elim E (fun wb E => Exists.elim E (fun fr E => Exists.elim E (fun me E => Exists.elim E (fun po E => (congr (congrArg Q E.2.1) E.2.2).mpr (h0 V LL M F n N pc oc gp se pl pg pm gy st nk na nb nm nv lk la lb ho mo tl ph pt oi tg sm wk wa wb fr me po E.1)))))))))))))))))))))))))))))))))))))))
    (fun E => Exists.elim E (fun V E => Exists.elim E (fun LL E => Exists.elim E (fun M E => Exists.elim E (fun F E => Exists.elim E (fun n E => Exists.elim E (fun N E => Exists.elim E (fun f E => Exists.elim E (fun oc E => Exists.elim E (fun gp E => Exists.elim E (fun ck E => Exists.elim E (fun pl E => Exists.elim E (fun pg E => Exists.elim E (fun pm E => Exists.elim E (fun st E => Exists.elim E (fun nk E => Exists.elim E (fun na E => Exists.elim E (fun nb E => Exists.elim E (fun nm E => Exists.elim E (fun nv E => Exists.elim E (fun lk E => Exists.elim E (fun la E => Exists.elim E (fun lb E => Exists.elim E (fun ho E => Exists.elim E (fun mo E => Exists.elim E (fun tl E => Exists.elim E (fun ph E => Exists.elim E (fun pt E => Exists.elim E (fun oi E => Exists.elim E (fun tg E => Exists.elim E (fun sm E => Exists.elim E (fun wk E => Exists.elim E (fun wa E => Exists.elim E (fun wb E => Exists.elim E (fun fr E => Exists.elim E (fun me E => Exists.elim E (fun po E => (congr (congrArg Q E.2.1) E.2.2).mpr (h1 V LL M F n N f oc gp ck pl pg pm st nk na nb nm nv lk la lb ho mo tl ph pt oi tg sm wk wa wb fr me po E.1.1 E.1.2))))))))))))))))))))))))))))))))))))))
section JRN
variable {vl ll nl fl nc lc pc oc rd gp fc se ck pl pg pm gy : Int32} {st nk na nb nm nv lk la lb ho mo tl ph pt oi tg sm wk wa wb fr me po : Nat → Int32}
variable {k V LL M F n N f : Nat}
theorem jr_mk0 (b : jr_B V LL M F n N nk na nb nm lk la lb) : i_Rel k ((nI V), (nI LL), (nI M), (nI F), (nI n), (nI N), pc, oc, 0, gp, 0, se, 0, pl, pg, pm, st, nk, na, nb, nm, nv, lk, la, lb, ho, mo, tl, ph, pt, oi, tg, sm, wk, wa, wb, fr) ((nI V), (nI LL), (nI M), (nI F), 0, (nI n), (nI N), 0, gy, 0, st, nk, na, nb, lk, la, lb, fr, nv, me, po, wk, wa, wb) :=
  Or.inl ⟨V, LL, M, F, n, N, pc, oc, gp, se, pl, pg, pm, gy, st, nk, na, nb, nm, nv, lk, la, lb, ho, mo, tl, ph, pt, oi, tg, sm, wk, wa, wb, fr, me, po, b, rfl, rfl⟩
theorem jr_mk1 (b : jr_B V LL M F n N nk na nb nm lk la lb) (d : jr_D N f F lk la ho mo tl ph pt fr) : i_Rel k ((nI V), (nI LL), (nI M), (nI F), (nI n), (nI N), (nI (jr_cp lk N)), oc, 1, gp, (nI f), (jr_sg lk fr f), ck, pl, pg, pm, st, nk, na, nb, nm, nv, lk, la, lb, ho, mo, tl, ph, pt, oi, tg, sm, wk, wa, wb, fr) ((nI V), (nI LL), (nI M), (nI F), 1, (nI n), (nI N), (nI f), gp, ck, st, nk, na, nb, lk, la, lb, fr, nv, me, po, wk, wa, wb) :=
  Or.inr ⟨V, LL, M, F, n, N, f, oc, gp, ck, pl, pg, pm, st, nk, na, nb, nm, nv, lk, la, lb, ho, mo, tl, ph, pt, oi, tg, sm, wk, wa, wb, fr, me, po, ⟨b, d⟩, rfl, rfl⟩
end JRN
end
section
section JRO
variable {vl ll nl fl nc lc pc oc rd gp fc se ck pl pg pm gy : Int32} {st nk na nb nm nv lk la lb ho mo tl ph pt oi tg sm wk wa wb fr me po : Nat → Int32}
variable {n : Nat} {a b c d : Int32}
/-! nodes added -/
theorem jr_xan {post : Int32 → SX → Prop} (hn : n < 32) (h : post (nI n) (vl, ll, nl, fl, (nI (n + 1)), lc, pc, oc, rd, gp, fc, se, ck, pl, pg, pm, st, (upd nk n a), (upd na n b), (upd nb n c), (upd nm n d), nv, lk, la, lb, ho, mo, tl, ph, pt, oi, tg, sm, wk, wa, wb, fr)) :
    wpX_addNode post (vl, ll, nl, fl, (nI n), lc, pc, oc, rd, gp, fc, se, ck, pl, pg, pm, st, nk, na, nb, nm, nv, lk, la, lb, ho, mo, tl, ph, pt, oi, tg, sm, wk, wa, wb, fr) a b c d := by
  have cl : (nI n).toNatClampNeg = n := nI_clamp (by omega)
  have vi : vp_in (nI n) 32 := vp_in_nI hn (by decide)
  exact ⟨vi, nm_r (e' := upd nk n a) (by rw [cl]) ⟨vi, nm_r (e' := upd na n b) (by rw [cl]) ⟨vi, nm_r (e' := upd nb n c) (by rw [cl]) ⟨vi, nm_r (e' := upd nm n d) (by rw [cl]) (nm_r (nI_1 n) h)⟩⟩⟩⟩
theorem jr_yan {post : Int32 → SY → Prop} (hn : n < 32) (h : post (nI n) (vl, ll, nl, fl, rd, (nI (n + 1)), lc, fc, gy, ck, st, (upd nk n a), (upd na n b), (upd nb n c), lk, la, lb, fr, nv, me, po, wk, wa, wb)) :
    wpY_addNode post (vl, ll, nl, fl, rd, (nI n), lc, fc, gy, ck, st, nk, na, nb, lk, la, lb, fr, nv, me, po, wk, wa, wb) a b c := by
  have cl : (nI n).toNatClampNeg = n := nI_clamp (by omega)
  have vi : vp_in (nI n) 32 := vp_in_nI hn (by decide)
  refine ⟨vi, nm_r (e' := upd nk n a) (by rw [cl]) ⟨vi, nm_r (e' := upd na n b) (by rw [cl]) ⟨vi, nm_r (e' := upd nb n c) (by rw [cl]) (nm_r (nI_1 n) ?_)⟩⟩⟩
  rw [nI_pred n]; exact h
/-- one node's row -/
def jr_N1 (nm : Nat → Int32) (i : Nat) (k a b m : Int32) : Prop :=
  (k = 10 ∧ m = 0) ∨ (k = 11 ∧ ∃ x, x < 8 ∧ a = nI x ∧ m = (1 : Int32) <<< (nI x &&& 31)) ∨
  (∃ o l r, o < 10 ∧ l < i ∧ r < i ∧ k = nI o ∧ a = nI l ∧ b = nI r ∧ m = nm l ||| nm r)
theorem jr_nde (H : jr_Nd n nk na nb nm) (z : jr_N1 nm n a b c d) : jr_Nd (n + 1) (upd nk n a) (upd na n b) (upd nb n c) (upd nm n d) := by
  intro i hi
  by_cases e : i = n
  · subst e
    rw [jr_us, jr_us, jr_us, jr_us]
    rcases z with z | z | ⟨o, l, r, h1, h2, h3, h4, h5, h6, h7⟩
    · exact Or.inl z
    · exact Or.inr (Or.inl z)
    · exact Or.inr (Or.inr ⟨o, l, r, h1, h2, h3, h4, h5, h6, by rw [jr_un (by omega), jr_un (by omega)]; exact h7⟩)
  · rw [jr_un e, jr_un e, jr_un e, jr_un e]
    rcases H i (by omega) with z | z | ⟨o, l, r, h1, h2, h3, h4, h5, h6, h7⟩
    · exact Or.inl z
    · exact Or.inr (Or.inl z)
    · exact Or.inr (Or.inr ⟨o, l, r, h1, h2, h3, h4, h5, h6, by rw [jr_un (by omega), jr_un (by omega)]; exact h7⟩)
theorem jr_lin {N : Nat} (H : jr_Li N n lk la lb) : jr_Li N (n + 1) lk la lb := by
  intro i hi
  obtain ⟨h1, h2, h3, h4⟩ := H i hi
  refine ⟨h1, fun z => ?_, h3, h4⟩
  obtain ⟨x, y, hx, hy, e⟩ := h2 z
  exact ⟨x, y, hx, by omega, e⟩
theorem jr_lie {N : Nat} (H : jr_Li N n lk la lb) (z : jr_L1 n a b c) : jr_Li (N + 1) n (upd lk N a) (upd la N b) (upd lb N c) := by
  intro i hi
  by_cases e : i = N
  · subst e
    rw [jr_us, jr_us, jr_us]; exact z
  · rw [jr_un e, jr_un e, jr_un e]; exact H i (by omega)
theorem jr_lid {N : Nat} (H : jr_Li (N + 1) n lk la lb) : jr_Li N n lk la lb := fun i hi => H i (by omega)
end JRO
section JRO2
variable {vl ll nl fl nc lc pc oc rd gp fc se ck pl pg pm gy : Int32} {st nk na nb nm nv lk la lb ho mo tl ph pt oi tg sm wk wa wb fr me po : Nat → Int32}
variable {N LL n V : Nat} {p1 p2 : Int32}
/-! lines emitted -/
theorem jr_xem {post : Int32 → SX → Prop} {k a b : Int32} (hN : N < 96)
    (hA : ((k = 0 ∨ k = 1 ∨ k = 9 ∨ k = 12) ∧ a = 0) ∨ ((¬ k = 0 ∧ ¬ k = 1 ∧ ¬ k = 9 ∧ ¬ k = 12) ∧ a = p1))
    (hB : ((k < 2 ∨ 5 < k) ∧ b = 0) ∨ ((¬ k < 2 ∧ ¬ 5 < k) ∧ b = p2))
    (h : post (nI N) (vl, ll, nl, fl, nc, (nI (N + 1)), pc, oc, rd, gp, fc, se, ck, pl, pg, pm, st, nk, na, nb, nm, nv, (upd lk N k), (upd la N a), (upd lb N b), ho, mo, tl, ph, pt, oi, tg, sm, wk, wa, wb, fr)) :
    vp_in (nI N) 96 ∧ ∀ lk' : Nat → Int32, lk' = upd lk (nI N).toNatClampNeg k →
      wpX_namesA (fun r => (r = 0 → wX_emit_82 post k p2 (nI N) 0 (nI N) vl ll nl fl nc (nI N) pc oc rd gp fc se ck pl pg pm st nk na nb nm nv lk' la lb ho mo tl ph pt oi tg sm wk wa wb fr) ∧ (¬ r = 0 → wX_emit_82 post k p2 (nI N) p1 (nI N) vl ll nl fl nc (nI N) pc oc rd gp fc se ck pl pg pm st nk na nb nm nv lk' la lb ho mo tl ph pt oi tg sm wk wa wb fr)) (vl, ll, nl, fl, nc, (nI N), pc, oc, rd, gp, fc, se, ck, pl, pg, pm, st, nk, na, nb, nm, nv, lk', la, lb, ho, mo, tl, ph, pt, oi, tg, sm, wk, wa, wb, fr) k := by
  have cl : (nI N).toNatClampNeg = N := nI_clamp (by omega)
  have vi : vp_in (nI N) 96 := vp_in_nI hN (by decide)
  have Z1 : wX_emit_82 post k p2 (nI N) a (nI N) vl ll nl fl nc (nI N) pc oc rd gp fc se ck pl pg pm st nk na nb nm nv (upd lk N k) la lb ho mo tl ph pt oi tg sm wk wa wb fr := by
    refine ⟨vi, nm_r (e' := upd la N a) (by rw [cl]) ?_⟩
    have Z2 : wX_emit_102 post (nI N) b (nI N) vl ll nl fl nc (nI N) pc oc rd gp fc se ck pl pg pm st nk na nb nm nv (upd lk N k) (upd la N a) lb ho mo tl ph pt oi tg sm wk wa wb fr :=
      ⟨vi, nm_r (e' := upd lb N b) (by rw [cl]) (nm_r (nI_1 N) h)⟩
    rcases hB with ⟨c, rfl⟩ | ⟨c, rfl⟩
    · by_cases c2 : k < 2
      · exact br_t c2 (br_t rfl Z2)
      · exact br_f c2 (br_t (c.resolve_left c2) (br_t rfl Z2))
    · exact br_f c.1 (br_f c.2 (br_f (by decide) Z2))
  refine ⟨vi, nm_r (e' := upd lk N k) (by rw [cl]) ?_⟩
  rcases hA with ⟨c, rfl⟩ | ⟨c, rfl⟩
  · by_cases c0 : k = 0
    · exact br_t c0 (br_t rfl Z1)
    by_cases c1 : k = 1
    · exact br_f c0 (br_t c1 (br_t rfl Z1))
    by_cases c9 : k = 9
    · exact br_f c0 (br_f c1 (br_t c9 (br_t rfl Z1)))
    · exact br_f c0 (br_f c1 (br_f c9 (br_t (((c.resolve_left c0).resolve_left c1).resolve_left c9) (br_t rfl Z1))))
  · exact br_f c.1 (br_f c.2.1 (br_f c.2.2.1 (br_f c.2.2.2 (br_f (by decide) Z1))))
theorem jr_y257 {post : Int32 → SY → Prop} {b : Int32} (hN : N < 96) (h : post (nI N) (vl, ll, nl, fl, rd, nc, (nI (N + 1)), fc, gy, ck, st, nk, na, nb, lk, la, (upd lb N b), fr, nv, me, po, wk, wa, wb)) : wY_emit_257 post b (nI N) vl ll nl fl rd nc (nI N) fc gy ck st nk na nb lk la lb fr nv me po wk wa wb := by
  have cl : (nI N).toNatClampNeg = N := nI_clamp (by omega)
  refine ⟨vp_in_nI hN (by decide), nm_r (e' := upd lb N b) (by rw [cl]) (nm_r (nI_1 N) ?_)⟩
  rw [nI_pred N]; exact h
theorem jr_xe0 {post : Int32 → SX → Prop} (hL : LL ≤ 96) (hN : N < LL) (c : True) (h : post (nI N) ((nI V), (nI LL), nl, fl, (nI n), (nI (N + 1)), pc, oc, 0, gp, fc, se, ck, pl, pg, pm, st, nk, na, nb, nm, nv, (upd lk N 0), (upd la N 0), (upd lb N 0), ho, mo, tl, ph, pt, oi, tg, sm, wk, wa, wb, fr)) :
    wpX_emit post ((nI V), (nI LL), nl, fl, (nI n), (nI N), pc, oc, 0, gp, fc, se, ck, pl, pg, pm, st, nk, na, nb, nm, nv, lk, la, lb, ho, mo, tl, ph, pt, oi, tg, sm, wk, wa, wb, fr) 0 p1 p2 := by
  have hN96 : N < 96 := by omega
  exact br_t rfl (br_t (nI_lt hN (by omega)) (br_f (by decide) (br_t (by decide) (br_t (by decide) (br_f (by decide) (jr_xem hN96 (Or.inl ⟨by decide, rfl⟩) (Or.inl ⟨by decide, rfl⟩) h))))))
theorem jr_ye0 {post : Int32 → SY → Prop} (hL : LL ≤ 96) (hN : N < LL) (c : True) (h : post (nI N) ((nI V), (nI LL), nl, fl, 0, (nI n), (nI (N + 1)), fc, gy, ck, st, nk, na, nb, (upd lk N 0), (upd la N 0), (upd lb N 0), fr, nv, me, po, wk, wa, wb)) :
    wpY_emit post ((nI V), (nI LL), nl, fl, 0, (nI n), (nI N), fc, gy, ck, st, nk, na, nb, lk, la, lb, fr, nv, me, po, wk, wa, wb) 0 p1 p2 := by
  have cl : (nI N).toNatClampNeg = N := nI_clamp (by omega)
  have vi : vp_in (nI N) 96 := vp_in_nI (by omega) (by decide)
  have hN96 : N < 96 := by omega
  exact br_t rfl (br_t (nI_lt hN (by omega)) (br_f (by decide) (br_t (by decide) (br_f (by decide) (br_f (by decide) (br_f (by decide) (br_f (by decide) (br_f (by decide) (br_f (by decide) (br_f (by decide) (br_f (by decide) (br_f (by decide) (br_t rfl (br_f (by decide) (br_t rfl (br_t rfl (⟨vi, nm_r (e' := upd lk N 0) (by rw [cl]) (br_t rfl (br_f (by decide) (br_t rfl (br_t rfl (⟨vi, nm_r (e' := upd la N 0) (by rw [cl]) (br_t rfl (br_f (by decide) (jr_y257 hN96 h)))⟩)))))⟩)))))))))))))))))
theorem jr_xe1 {post : Int32 → SX → Prop} (hL : LL ≤ 96) (hN : N < LL) (c : True) (h : post (nI N) ((nI V), (nI LL), nl, fl, (nI n), (nI (N + 1)), pc, oc, 0, gp, fc, se, ck, pl, pg, pm, st, nk, na, nb, nm, nv, (upd lk N 1), (upd la N 0), (upd lb N 0), ho, mo, tl, ph, pt, oi, tg, sm, wk, wa, wb, fr)) :
    wpX_emit post ((nI V), (nI LL), nl, fl, (nI n), (nI N), pc, oc, 0, gp, fc, se, ck, pl, pg, pm, st, nk, na, nb, nm, nv, lk, la, lb, ho, mo, tl, ph, pt, oi, tg, sm, wk, wa, wb, fr) 1 p1 p2 := by
  have hN96 : N < 96 := by omega
  exact br_t rfl (br_t (nI_lt hN (by omega)) (br_f (by decide) (br_t (by decide) (br_t (by decide) (br_f (by decide) (jr_xem hN96 (Or.inl ⟨by decide, rfl⟩) (Or.inl ⟨by decide, rfl⟩) h))))))
theorem jr_ye1 {post : Int32 → SY → Prop} (hL : LL ≤ 96) (hN : N < LL) (c : True) (h : post (nI N) ((nI V), (nI LL), nl, fl, 0, (nI n), (nI (N + 1)), fc, gy, ck, st, nk, na, nb, (upd lk N 1), (upd la N 0), (upd lb N 0), fr, nv, me, po, wk, wa, wb)) :
    wpY_emit post ((nI V), (nI LL), nl, fl, 0, (nI n), (nI N), fc, gy, ck, st, nk, na, nb, lk, la, lb, fr, nv, me, po, wk, wa, wb) 1 p1 p2 := by
  have cl : (nI N).toNatClampNeg = N := nI_clamp (by omega)
  have vi : vp_in (nI N) 96 := vp_in_nI (by omega) (by decide)
  have hN96 : N < 96 := by omega
  exact br_t rfl (br_t (nI_lt hN (by omega)) (br_f (by decide) (br_t (by decide) (br_f (by decide) (br_f (by decide) (br_f (by decide) (br_f (by decide) (br_f (by decide) (br_f (by decide) (br_f (by decide) (br_f (by decide) (br_f (by decide) (br_t rfl (br_f (by decide) (br_t rfl (br_t rfl (⟨vi, nm_r (e' := upd lk N 1) (by rw [cl]) (br_t rfl (br_f (by decide) (br_t rfl (br_t rfl (⟨vi, nm_r (e' := upd la N 0) (by rw [cl]) (br_t rfl (br_f (by decide) (jr_y257 hN96 h)))⟩)))))⟩)))))))))))))))))
theorem jr_xe2 {post : Int32 → SX → Prop} (hL : LL ≤ 96) (hN : N < LL) (c : (¬ p1 < 0 ∧ ¬ nI V ≤ p1) ∧ (¬ p2 < 0 ∧ ¬ nI n ≤ p2)) (h : post (nI N) ((nI V), (nI LL), nl, fl, (nI n), (nI (N + 1)), pc, oc, 0, gp, fc, se, ck, pl, pg, pm, st, nk, na, nb, nm, nv, (upd lk N 2), (upd la N p1), (upd lb N p2), ho, mo, tl, ph, pt, oi, tg, sm, wk, wa, wb, fr)) :
    wpX_emit post ((nI V), (nI LL), nl, fl, (nI n), (nI N), pc, oc, 0, gp, fc, se, ck, pl, pg, pm, st, nk, na, nb, nm, nv, lk, la, lb, ho, mo, tl, ph, pt, oi, tg, sm, wk, wa, wb, fr) 2 p1 p2 := by
  have hN96 : N < 96 := by omega
  exact br_t rfl (br_t (nI_lt hN (by omega)) (br_f (by decide) (br_t (by decide) (br_f (by decide) (br_f (by decide) (br_t (by decide) (jr_xiv1 c.1.1 c.1.2 (br_f (by decide) (jr_xin1 c.2.1 c.2.2 (br_f (by decide) (br_f (by decide) (jr_xem hN96 (Or.inr ⟨by decide, rfl⟩) (Or.inr ⟨by decide, rfl⟩) h))))))))))))
theorem jr_ye2 {post : Int32 → SY → Prop} (hL : LL ≤ 96) (hN : N < LL) (c : (¬ p1 < 0 ∧ ¬ nI V ≤ p1) ∧ (¬ p2 < 0 ∧ ¬ nI n ≤ p2)) (h : post (nI N) ((nI V), (nI LL), nl, fl, 0, (nI n), (nI (N + 1)), fc, gy, ck, st, nk, na, nb, (upd lk N 2), (upd la N p1), (upd lb N p2), fr, nv, me, po, wk, wa, wb)) :
    wpY_emit post ((nI V), (nI LL), nl, fl, 0, (nI n), (nI N), fc, gy, ck, st, nk, na, nb, lk, la, lb, fr, nv, me, po, wk, wa, wb) 2 p1 p2 := by
  have cl : (nI N).toNatClampNeg = N := nI_clamp (by omega)
  have vi : vp_in (nI N) 96 := vp_in_nI (by omega) (by decide)
  have hN96 : N < 96 := by omega
  exact br_t rfl (br_t (nI_lt hN (by omega)) (br_f (by decide) (br_t (by decide) (br_t rfl (br_f (by decide) (br_f (by decide) (br_f (by decide) (br_f (by decide) (br_f (by decide) (br_f (by decide) (br_f (by decide) (jr_yiv1 c.1.1 c.1.2 (br_f (by decide) (jr_yin1 c.2.1 c.2.2 (br_f (by decide) (br_f (by decide) (br_t rfl (br_t rfl (⟨vi, nm_r (e' := upd lk N 2) (by rw [cl]) (br_f (by decide) (⟨vi, nm_r (e' := upd la N p1) (by rw [cl]) (br_f (by decide) (jr_y257 hN96 h))⟩))⟩)))))))))))))))))))
theorem jr_xf2_1 {post : Int32 → SX → Prop} (hL : LL ≤ 96) (hN : N < LL) (c : p1 < 0 ∨ nI V ≤ p1) (h : post (-3) ((nI V), (nI LL), nl, fl, (nI n), (nI N), pc, oc, 0, gp, fc, se, ck, pl, pg, pm, st, nk, na, nb, nm, nv, lk, la, lb, ho, mo, tl, ph, pt, oi, tg, sm, wk, wa, wb, fr)) : wpX_emit post ((nI V), (nI LL), nl, fl, (nI n), (nI N), pc, oc, 0, gp, fc, se, ck, pl, pg, pm, st, nk, na, nb, nm, nv, lk, la, lb, ho, mo, tl, ph, pt, oi, tg, sm, wk, wa, wb, fr) 2 p1 p2 :=
  br_t rfl (br_t (nI_lt hN (by omega)) (br_f (by decide) (br_t (by decide) (br_f (by decide) (br_f (by decide) (br_t (by decide) (jr_xiv0 c (br_t rfl (br_t rfl h)))))))))
theorem jr_yf2_1 {post : Int32 → SY → Prop} (hL : LL ≤ 96) (hN : N < LL) (c : p1 < 0 ∨ nI V ≤ p1) (h : post (-3) ((nI V), (nI LL), nl, fl, 0, (nI n), (nI N), fc, gy, ck, st, nk, na, nb, lk, la, lb, fr, nv, me, po, wk, wa, wb)) : wpY_emit post ((nI V), (nI LL), nl, fl, 0, (nI n), (nI N), fc, gy, ck, st, nk, na, nb, lk, la, lb, fr, nv, me, po, wk, wa, wb) 2 p1 p2 :=
  br_t rfl (br_t (nI_lt hN (by omega)) (br_f (by decide) (br_t (by decide) (br_t rfl (br_f (by decide) (br_f (by decide) (br_f (by decide) (br_f (by decide) (br_f (by decide) (br_f (by decide) (br_f (by decide) (jr_yiv0 c (br_t rfl h)))))))))))))
theorem jr_xf2_2 {post : Int32 → SX → Prop} (hL : LL ≤ 96) (hN : N < LL) (c1 : ¬ p1 < 0 ∧ ¬ nI V ≤ p1) (c : p2 < 0 ∨ nI n ≤ p2) (h : post (-3) ((nI V), (nI LL), nl, fl, (nI n), (nI N), pc, oc, 0, gp, fc, se, ck, pl, pg, pm, st, nk, na, nb, nm, nv, lk, la, lb, ho, mo, tl, ph, pt, oi, tg, sm, wk, wa, wb, fr)) : wpX_emit post ((nI V), (nI LL), nl, fl, (nI n), (nI N), pc, oc, 0, gp, fc, se, ck, pl, pg, pm, st, nk, na, nb, nm, nv, lk, la, lb, ho, mo, tl, ph, pt, oi, tg, sm, wk, wa, wb, fr) 2 p1 p2 :=
  br_t rfl (br_t (nI_lt hN (by omega)) (br_f (by decide) (br_t (by decide) (br_f (by decide) (br_f (by decide) (br_t (by decide) (jr_xiv1 c1.1 c1.2 (br_f (by decide) (jr_xin0 c (br_t rfl (br_t rfl h)))))))))))
theorem jr_yf2_2 {post : Int32 → SY → Prop} (hL : LL ≤ 96) (hN : N < LL) (c1 : ¬ p1 < 0 ∧ ¬ nI V ≤ p1) (c : p2 < 0 ∨ nI n ≤ p2) (h : post (-3) ((nI V), (nI LL), nl, fl, 0, (nI n), (nI N), fc, gy, ck, st, nk, na, nb, lk, la, lb, fr, nv, me, po, wk, wa, wb)) : wpY_emit post ((nI V), (nI LL), nl, fl, 0, (nI n), (nI N), fc, gy, ck, st, nk, na, nb, lk, la, lb, fr, nv, me, po, wk, wa, wb) 2 p1 p2 :=
  br_t rfl (br_t (nI_lt hN (by omega)) (br_f (by decide) (br_t (by decide) (br_t rfl (br_f (by decide) (br_f (by decide) (br_f (by decide) (br_f (by decide) (br_f (by decide) (br_f (by decide) (br_f (by decide) (jr_yiv1 c1.1 c1.2 (br_f (by decide) (jr_yin0 c (br_t rfl h)))))))))))))))
theorem jr_xe3 {post : Int32 → SX → Prop} (hL : LL ≤ 96) (hN : N < LL) (c : (¬ p1 < 0 ∧ ¬ nI V ≤ p1) ∧ (¬ p2 < 0 ∧ ¬ nI n ≤ p2)) (h : post (nI N) ((nI V), (nI LL), nl, fl, (nI n), (nI (N + 1)), pc, oc, 0, gp, fc, se, ck, pl, pg, pm, st, nk, na, nb, nm, nv, (upd lk N 3), (upd la N p1), (upd lb N p2), ho, mo, tl, ph, pt, oi, tg, sm, wk, wa, wb, fr)) :
    wpX_emit post ((nI V), (nI LL), nl, fl, (nI n), (nI N), pc, oc, 0, gp, fc, se, ck, pl, pg, pm, st, nk, na, nb, nm, nv, lk, la, lb, ho, mo, tl, ph, pt, oi, tg, sm, wk, wa, wb, fr) 3 p1 p2 := by
  have hN96 : N < 96 := by omega
  exact br_t rfl (br_t (nI_lt hN (by omega)) (br_f (by decide) (br_t (by decide) (br_f (by decide) (br_f (by decide) (br_f (by decide) (br_t (by decide) (jr_xiv1 c.1.1 c.1.2 (br_f (by decide) (jr_xin1 c.2.1 c.2.2 (br_f (by decide) (br_f (by decide) (jr_xem hN96 (Or.inr ⟨by decide, rfl⟩) (Or.inr ⟨by decide, rfl⟩) h)))))))))))))
theorem jr_ye3 {post : Int32 → SY → Prop} (hL : LL ≤ 96) (hN : N < LL) (c : (¬ p1 < 0 ∧ ¬ nI V ≤ p1) ∧ (¬ p2 < 0 ∧ ¬ nI n ≤ p2)) (h : post (nI N) ((nI V), (nI LL), nl, fl, 0, (nI n), (nI (N + 1)), fc, gy, ck, st, nk, na, nb, (upd lk N 3), (upd la N p1), (upd lb N p2), fr, nv, me, po, wk, wa, wb)) :
    wpY_emit post ((nI V), (nI LL), nl, fl, 0, (nI n), (nI N), fc, gy, ck, st, nk, na, nb, lk, la, lb, fr, nv, me, po, wk, wa, wb) 3 p1 p2 := by
  have cl : (nI N).toNatClampNeg = N := nI_clamp (by omega)
  have vi : vp_in (nI N) 96 := vp_in_nI (by omega) (by decide)
  have hN96 : N < 96 := by omega
  exact br_t rfl (br_t (nI_lt hN (by omega)) (br_f (by decide) (br_t (by decide) (br_f (by decide) (br_t rfl (br_f (by decide) (br_f (by decide) (br_f (by decide) (br_f (by decide) (br_f (by decide) (br_f (by decide) (br_f (by decide) (jr_yiv1 c.1.1 c.1.2 (br_f (by decide) (jr_yin1 c.2.1 c.2.2 (br_f (by decide) (br_f (by decide) (br_t rfl (br_t rfl (⟨vi, nm_r (e' := upd lk N 3) (by rw [cl]) (br_f (by decide) (⟨vi, nm_r (e' := upd la N p1) (by rw [cl]) (br_f (by decide) (jr_y257 hN96 h))⟩))⟩))))))))))))))))))))
theorem jr_xf3_1 {post : Int32 → SX → Prop} (hL : LL ≤ 96) (hN : N < LL) (c : p1 < 0 ∨ nI V ≤ p1) (h : post (-3) ((nI V), (nI LL), nl, fl, (nI n), (nI N), pc, oc, 0, gp, fc, se, ck, pl, pg, pm, st, nk, na, nb, nm, nv, lk, la, lb, ho, mo, tl, ph, pt, oi, tg, sm, wk, wa, wb, fr)) : wpX_emit post ((nI V), (nI LL), nl, fl, (nI n), (nI N), pc, oc, 0, gp, fc, se, ck, pl, pg, pm, st, nk, na, nb, nm, nv, lk, la, lb, ho, mo, tl, ph, pt, oi, tg, sm, wk, wa, wb, fr) 3 p1 p2 :=
  br_t rfl (br_t (nI_lt hN (by omega)) (br_f (by decide) (br_t (by decide) (br_f (by decide) (br_f (by decide) (br_f (by decide) (br_t (by decide) (jr_xiv0 c (br_t rfl (br_t rfl h))))))))))
theorem jr_yf3_1 {post : Int32 → SY → Prop} (hL : LL ≤ 96) (hN : N < LL) (c : p1 < 0 ∨ nI V ≤ p1) (h : post (-3) ((nI V), (nI LL), nl, fl, 0, (nI n), (nI N), fc, gy, ck, st, nk, na, nb, lk, la, lb, fr, nv, me, po, wk, wa, wb)) : wpY_emit post ((nI V), (nI LL), nl, fl, 0, (nI n), (nI N), fc, gy, ck, st, nk, na, nb, lk, la, lb, fr, nv, me, po, wk, wa, wb) 3 p1 p2 :=
  br_t rfl (br_t (nI_lt hN (by omega)) (br_f (by decide) (br_t (by decide) (br_f (by decide) (br_t rfl (br_f (by decide) (br_f (by decide) (br_f (by decide) (br_f (by decide) (br_f (by decide) (br_f (by decide) (br_f (by decide) (jr_yiv0 c (br_t rfl h))))))))))))))
theorem jr_xf3_2 {post : Int32 → SX → Prop} (hL : LL ≤ 96) (hN : N < LL) (c1 : ¬ p1 < 0 ∧ ¬ nI V ≤ p1) (c : p2 < 0 ∨ nI n ≤ p2) (h : post (-3) ((nI V), (nI LL), nl, fl, (nI n), (nI N), pc, oc, 0, gp, fc, se, ck, pl, pg, pm, st, nk, na, nb, nm, nv, lk, la, lb, ho, mo, tl, ph, pt, oi, tg, sm, wk, wa, wb, fr)) : wpX_emit post ((nI V), (nI LL), nl, fl, (nI n), (nI N), pc, oc, 0, gp, fc, se, ck, pl, pg, pm, st, nk, na, nb, nm, nv, lk, la, lb, ho, mo, tl, ph, pt, oi, tg, sm, wk, wa, wb, fr) 3 p1 p2 :=
  br_t rfl (br_t (nI_lt hN (by omega)) (br_f (by decide) (br_t (by decide) (br_f (by decide) (br_f (by decide) (br_f (by decide) (br_t (by decide) (jr_xiv1 c1.1 c1.2 (br_f (by decide) (jr_xin0 c (br_t rfl (br_t rfl h))))))))))))
theorem jr_yf3_2 {post : Int32 → SY → Prop} (hL : LL ≤ 96) (hN : N < LL) (c1 : ¬ p1 < 0 ∧ ¬ nI V ≤ p1) (c : p2 < 0 ∨ nI n ≤ p2) (h : post (-3) ((nI V), (nI LL), nl, fl, 0, (nI n), (nI N), fc, gy, ck, st, nk, na, nb, lk, la, lb, fr, nv, me, po, wk, wa, wb)) : wpY_emit post ((nI V), (nI LL), nl, fl, 0, (nI n), (nI N), fc, gy, ck, st, nk, na, nb, lk, la, lb, fr, nv, me, po, wk, wa, wb) 3 p1 p2 :=
  br_t rfl (br_t (nI_lt hN (by omega)) (br_f (by decide) (br_t (by decide) (br_f (by decide) (br_t rfl (br_f (by decide) (br_f (by decide) (br_f (by decide) (br_f (by decide) (br_f (by decide) (br_f (by decide) (br_f (by decide) (jr_yiv1 c1.1 c1.2 (br_f (by decide) (jr_yin0 c (br_t rfl h))))))))))))))))
theorem jr_xe4 {post : Int32 → SX → Prop} (hL : LL ≤ 96) (hN : N < LL) (c : (¬ p1 < 0 ∧ ¬ nI V ≤ p1) ∧ (¬ p2 < 0 ∧ ¬ nI n ≤ p2)) (h : post (nI N) ((nI V), (nI LL), nl, fl, (nI n), (nI (N + 1)), pc, oc, 0, gp, fc, se, ck, pl, pg, pm, st, nk, na, nb, nm, nv, (upd lk N 4), (upd la N p1), (upd lb N p2), ho, mo, tl, ph, pt, oi, tg, sm, wk, wa, wb, fr)) :
    wpX_emit post ((nI V), (nI LL), nl, fl, (nI n), (nI N), pc, oc, 0, gp, fc, se, ck, pl, pg, pm, st, nk, na, nb, nm, nv, lk, la, lb, ho, mo, tl, ph, pt, oi, tg, sm, wk, wa, wb, fr) 4 p1 p2 := by
  have hN96 : N < 96 := by omega
  exact br_t rfl (br_t (nI_lt hN (by omega)) (br_f (by decide) (br_t (by decide) (br_f (by decide) (br_f (by decide) (br_f (by decide) (br_f (by decide) (br_t (by decide) (jr_xiv1 c.1.1 c.1.2 (br_f (by decide) (jr_xin1 c.2.1 c.2.2 (br_f (by decide) (br_f (by decide) (jr_xem hN96 (Or.inr ⟨by decide, rfl⟩) (Or.inr ⟨by decide, rfl⟩) h))))))))))))))
theorem jr_ye4 {post : Int32 → SY → Prop} (hL : LL ≤ 96) (hN : N < LL) (c : (¬ p1 < 0 ∧ ¬ nI V ≤ p1) ∧ (¬ p2 < 0 ∧ ¬ nI n ≤ p2)) (h : post (nI N) ((nI V), (nI LL), nl, fl, 0, (nI n), (nI (N + 1)), fc, gy, ck, st, nk, na, nb, (upd lk N 4), (upd la N p1), (upd lb N p2), fr, nv, me, po, wk, wa, wb)) :
    wpY_emit post ((nI V), (nI LL), nl, fl, 0, (nI n), (nI N), fc, gy, ck, st, nk, na, nb, lk, la, lb, fr, nv, me, po, wk, wa, wb) 4 p1 p2 := by
  have cl : (nI N).toNatClampNeg = N := nI_clamp (by omega)
  have vi : vp_in (nI N) 96 := vp_in_nI (by omega) (by decide)
  have hN96 : N < 96 := by omega
  exact br_t rfl (br_t (nI_lt hN (by omega)) (br_f (by decide) (br_t (by decide) (br_f (by decide) (br_f (by decide) (br_t rfl (br_f (by decide) (br_f (by decide) (br_f (by decide) (br_f (by decide) (br_f (by decide) (br_f (by decide) (br_f (by decide) (jr_yiv1 c.1.1 c.1.2 (br_f (by decide) (jr_yin1 c.2.1 c.2.2 (br_f (by decide) (br_f (by decide) (br_t rfl (br_t rfl (⟨vi, nm_r (e' := upd lk N 4) (by rw [cl]) (br_f (by decide) (⟨vi, nm_r (e' := upd la N p1) (by rw [cl]) (br_f (by decide) (jr_y257 hN96 h))⟩))⟩)))))))))))))))))))))
theorem jr_xf4_1 {post : Int32 → SX → Prop} (hL : LL ≤ 96) (hN : N < LL) (c : p1 < 0 ∨ nI V ≤ p1) (h : post (-3) ((nI V), (nI LL), nl, fl, (nI n), (nI N), pc, oc, 0, gp, fc, se, ck, pl, pg, pm, st, nk, na, nb, nm, nv, lk, la, lb, ho, mo, tl, ph, pt, oi, tg, sm, wk, wa, wb, fr)) : wpX_emit post ((nI V), (nI LL), nl, fl, (nI n), (nI N), pc, oc, 0, gp, fc, se, ck, pl, pg, pm, st, nk, na, nb, nm, nv, lk, la, lb, ho, mo, tl, ph, pt, oi, tg, sm, wk, wa, wb, fr) 4 p1 p2 :=
  br_t rfl (br_t (nI_lt hN (by omega)) (br_f (by decide) (br_t (by decide) (br_f (by decide) (br_f (by decide) (br_f (by decide) (br_f (by decide) (br_t (by decide) (jr_xiv0 c (br_t rfl (br_t rfl h)))))))))))
theorem jr_yf4_1 {post : Int32 → SY → Prop} (hL : LL ≤ 96) (hN : N < LL) (c : p1 < 0 ∨ nI V ≤ p1) (h : post (-3) ((nI V), (nI LL), nl, fl, 0, (nI n), (nI N), fc, gy, ck, st, nk, na, nb, lk, la, lb, fr, nv, me, po, wk, wa, wb)) : wpY_emit post ((nI V), (nI LL), nl, fl, 0, (nI n), (nI N), fc, gy, ck, st, nk, na, nb, lk, la, lb, fr, nv, me, po, wk, wa, wb) 4 p1 p2 :=
  br_t rfl (br_t (nI_lt hN (by omega)) (br_f (by decide) (br_t (by decide) (br_f (by decide) (br_f (by decide) (br_t rfl (br_f (by decide) (br_f (by decide) (br_f (by decide) (br_f (by decide) (br_f (by decide) (br_f (by decide) (br_f (by decide) (jr_yiv0 c (br_t rfl h)))))))))))))))
theorem jr_xf4_2 {post : Int32 → SX → Prop} (hL : LL ≤ 96) (hN : N < LL) (c1 : ¬ p1 < 0 ∧ ¬ nI V ≤ p1) (c : p2 < 0 ∨ nI n ≤ p2) (h : post (-3) ((nI V), (nI LL), nl, fl, (nI n), (nI N), pc, oc, 0, gp, fc, se, ck, pl, pg, pm, st, nk, na, nb, nm, nv, lk, la, lb, ho, mo, tl, ph, pt, oi, tg, sm, wk, wa, wb, fr)) : wpX_emit post ((nI V), (nI LL), nl, fl, (nI n), (nI N), pc, oc, 0, gp, fc, se, ck, pl, pg, pm, st, nk, na, nb, nm, nv, lk, la, lb, ho, mo, tl, ph, pt, oi, tg, sm, wk, wa, wb, fr) 4 p1 p2 :=
  br_t rfl (br_t (nI_lt hN (by omega)) (br_f (by decide) (br_t (by decide) (br_f (by decide) (br_f (by decide) (br_f (by decide) (br_f (by decide) (br_t (by decide) (jr_xiv1 c1.1 c1.2 (br_f (by decide) (jr_xin0 c (br_t rfl (br_t rfl h)))))))))))))
theorem jr_yf4_2 {post : Int32 → SY → Prop} (hL : LL ≤ 96) (hN : N < LL) (c1 : ¬ p1 < 0 ∧ ¬ nI V ≤ p1) (c : p2 < 0 ∨ nI n ≤ p2) (h : post (-3) ((nI V), (nI LL), nl, fl, 0, (nI n), (nI N), fc, gy, ck, st, nk, na, nb, lk, la, lb, fr, nv, me, po, wk, wa, wb)) : wpY_emit post ((nI V), (nI LL), nl, fl, 0, (nI n), (nI N), fc, gy, ck, st, nk, na, nb, lk, la, lb, fr, nv, me, po, wk, wa, wb) 4 p1 p2 :=
  br_t rfl (br_t (nI_lt hN (by omega)) (br_f (by decide) (br_t (by decide) (br_f (by decide) (br_f (by decide) (br_t rfl (br_f (by decide) (br_f (by decide) (br_f (by decide) (br_f (by decide) (br_f (by decide) (br_f (by decide) (br_f (by decide) (jr_yiv1 c1.1 c1.2 (br_f (by decide) (jr_yin0 c (br_t rfl h)))))))))))))))))
theorem jr_xe5 {post : Int32 → SX → Prop} (hL : LL ≤ 96) (hN : N < LL) (c : (¬ p1 < 0 ∧ ¬ nI V ≤ p1) ∧ (¬ p2 < 0 ∧ ¬ nI V ≤ p2)) (h : post (nI N) ((nI V), (nI LL), nl, fl, (nI n), (nI (N + 1)), pc, oc, 0, gp, fc, se, ck, pl, pg, pm, st, nk, na, nb, nm, nv, (upd lk N 5), (upd la N p1), (upd lb N p2), ho, mo, tl, ph, pt, oi, tg, sm, wk, wa, wb, fr)) :
    wpX_emit post ((nI V), (nI LL), nl, fl, (nI n), (nI N), pc, oc, 0, gp, fc, se, ck, pl, pg, pm, st, nk, na, nb, nm, nv, lk, la, lb, ho, mo, tl, ph, pt, oi, tg, sm, wk, wa, wb, fr) 5 p1 p2 := by
  have hN96 : N < 96 := by omega
  exact br_t rfl (br_t (nI_lt hN (by omega)) (br_f (by decide) (br_t (by decide) (br_f (by decide) (br_f (by decide) (br_f (by decide) (br_f (by decide) (br_f (by decide) (br_t (by decide) (jr_xiv1 c.1.1 c.1.2 (br_f (by decide) (jr_xiv1 c.2.1 c.2.2 (br_f (by decide) (br_f (by decide) (jr_xem hN96 (Or.inr ⟨by decide, rfl⟩) (Or.inr ⟨by decide, rfl⟩) h)))))))))))))))
theorem jr_ye5 {post : Int32 → SY → Prop} (hL : LL ≤ 96) (hN : N < LL) (c : (¬ p1 < 0 ∧ ¬ nI V ≤ p1) ∧ (¬ p2 < 0 ∧ ¬ nI V ≤ p2)) (h : post (nI N) ((nI V), (nI LL), nl, fl, 0, (nI n), (nI (N + 1)), fc, gy, ck, st, nk, na, nb, (upd lk N 5), (upd la N p1), (upd lb N p2), fr, nv, me, po, wk, wa, wb)) :
    wpY_emit post ((nI V), (nI LL), nl, fl, 0, (nI n), (nI N), fc, gy, ck, st, nk, na, nb, lk, la, lb, fr, nv, me, po, wk, wa, wb) 5 p1 p2 := by
  have cl : (nI N).toNatClampNeg = N := nI_clamp (by omega)
  have vi : vp_in (nI N) 96 := vp_in_nI (by omega) (by decide)
  have hN96 : N < 96 := by omega
  exact br_t rfl (br_t (nI_lt hN (by omega)) (br_f (by decide) (br_t (by decide) (br_f (by decide) (br_f (by decide) (br_f (by decide) (br_f (by decide) (br_f (by decide) (br_f (by decide) (br_f (by decide) (br_f (by decide) (br_f (by decide) (br_t rfl (br_t rfl (jr_yiv1 c.1.1 c.1.2 (br_f (by decide) (jr_yiv1 c.2.1 c.2.2 (br_f (by decide) (br_t rfl (br_t rfl (⟨vi, nm_r (e' := upd lk N 5) (by rw [cl]) (br_t rfl (br_t rfl (⟨vi, nm_r (e' := upd la N p1) (by rw [cl]) (br_t rfl (br_t rfl (jr_y257 hN96 h)))⟩)))⟩)))))))))))))))))))))
theorem jr_xf5_1 {post : Int32 → SX → Prop} (hL : LL ≤ 96) (hN : N < LL) (c : p1 < 0 ∨ nI V ≤ p1) (h : post (-3) ((nI V), (nI LL), nl, fl, (nI n), (nI N), pc, oc, 0, gp, fc, se, ck, pl, pg, pm, st, nk, na, nb, nm, nv, lk, la, lb, ho, mo, tl, ph, pt, oi, tg, sm, wk, wa, wb, fr)) : wpX_emit post ((nI V), (nI LL), nl, fl, (nI n), (nI N), pc, oc, 0, gp, fc, se, ck, pl, pg, pm, st, nk, na, nb, nm, nv, lk, la, lb, ho, mo, tl, ph, pt, oi, tg, sm, wk, wa, wb, fr) 5 p1 p2 :=
  br_t rfl (br_t (nI_lt hN (by omega)) (br_f (by decide) (br_t (by decide) (br_f (by decide) (br_f (by decide) (br_f (by decide) (br_f (by decide) (br_f (by decide) (br_t (by decide) (jr_xiv0 c (br_t rfl (br_t rfl h))))))))))))
theorem jr_yf5_1 {post : Int32 → SY → Prop} (hL : LL ≤ 96) (hN : N < LL) (c : p1 < 0 ∨ nI V ≤ p1) (h : post (-3) ((nI V), (nI LL), nl, fl, 0, (nI n), (nI N), fc, gy, ck, st, nk, na, nb, lk, la, lb, fr, nv, me, po, wk, wa, wb)) : wpY_emit post ((nI V), (nI LL), nl, fl, 0, (nI n), (nI N), fc, gy, ck, st, nk, na, nb, lk, la, lb, fr, nv, me, po, wk, wa, wb) 5 p1 p2 :=
  br_t rfl (br_t (nI_lt hN (by omega)) (br_f (by decide) (br_t (by decide) (br_f (by decide) (br_f (by decide) (br_f (by decide) (br_f (by decide) (br_f (by decide) (br_f (by decide) (br_f (by decide) (br_f (by decide) (br_f (by decide) (br_t rfl (br_t rfl (jr_yiv0 c (br_t rfl h))))))))))))))))
theorem jr_xf5_2 {post : Int32 → SX → Prop} (hL : LL ≤ 96) (hN : N < LL) (c1 : ¬ p1 < 0 ∧ ¬ nI V ≤ p1) (c : p2 < 0 ∨ nI V ≤ p2) (h : post (-3) ((nI V), (nI LL), nl, fl, (nI n), (nI N), pc, oc, 0, gp, fc, se, ck, pl, pg, pm, st, nk, na, nb, nm, nv, lk, la, lb, ho, mo, tl, ph, pt, oi, tg, sm, wk, wa, wb, fr)) : wpX_emit post ((nI V), (nI LL), nl, fl, (nI n), (nI N), pc, oc, 0, gp, fc, se, ck, pl, pg, pm, st, nk, na, nb, nm, nv, lk, la, lb, ho, mo, tl, ph, pt, oi, tg, sm, wk, wa, wb, fr) 5 p1 p2 :=
  br_t rfl (br_t (nI_lt hN (by omega)) (br_f (by decide) (br_t (by decide) (br_f (by decide) (br_f (by decide) (br_f (by decide) (br_f (by decide) (br_f (by decide) (br_t (by decide) (jr_xiv1 c1.1 c1.2 (br_f (by decide) (jr_xiv0 c (br_t rfl (br_t rfl h))))))))))))))
theorem jr_yf5_2 {post : Int32 → SY → Prop} (hL : LL ≤ 96) (hN : N < LL) (c1 : ¬ p1 < 0 ∧ ¬ nI V ≤ p1) (c : p2 < 0 ∨ nI V ≤ p2) (h : post (-3) ((nI V), (nI LL), nl, fl, 0, (nI n), (nI N), fc, gy, ck, st, nk, na, nb, lk, la, lb, fr, nv, me, po, wk, wa, wb)) : wpY_emit post ((nI V), (nI LL), nl, fl, 0, (nI n), (nI N), fc, gy, ck, st, nk, na, nb, lk, la, lb, fr, nv, me, po, wk, wa, wb) 5 p1 p2 :=
  br_t rfl (br_t (nI_lt hN (by omega)) (br_f (by decide) (br_t (by decide) (br_f (by decide) (br_f (by decide) (br_f (by decide) (br_f (by decide) (br_f (by decide) (br_f (by decide) (br_f (by decide) (br_f (by decide) (br_f (by decide) (br_t rfl (br_t rfl (jr_yiv1 c1.1 c1.2 (br_f (by decide) (jr_yiv0 c (br_t rfl h))))))))))))))))))
theorem jr_xe6 {post : Int32 → SX → Prop} (hL : LL ≤ 96) (hN : N < LL) (c : ¬ p1 < 0 ∧ ¬ 31 < p1) (h : post (nI N) ((nI V), (nI LL), nl, fl, (nI n), (nI (N + 1)), pc, oc, 0, gp, fc, se, ck, pl, pg, pm, st, nk, na, nb, nm, nv, (upd lk N 6), (upd la N p1), (upd lb N 0), ho, mo, tl, ph, pt, oi, tg, sm, wk, wa, wb, fr)) :
    wpX_emit post ((nI V), (nI LL), nl, fl, (nI n), (nI N), pc, oc, 0, gp, fc, se, ck, pl, pg, pm, st, nk, na, nb, nm, nv, lk, la, lb, ho, mo, tl, ph, pt, oi, tg, sm, wk, wa, wb, fr) 6 p1 p2 := by
  have hN96 : N < 96 := by omega
  exact br_t rfl (br_t (nI_lt hN (by omega)) (br_f (by decide) (br_t (by decide) (br_f (by decide) (br_f (by decide) (br_f (by decide) (br_f (by decide) (br_f (by decide) (br_f (by decide) (br_t (by decide) (br_f c.1 (br_f c.2 (br_f (by decide) (jr_xem hN96 (Or.inr ⟨by decide, rfl⟩) (Or.inl ⟨by decide, rfl⟩) h))))))))))))))
theorem jr_ye6 {post : Int32 → SY → Prop} (hL : LL ≤ 96) (hN : N < LL) (c : ¬ p1 < 0 ∧ ¬ 31 < p1) (h : post (nI N) ((nI V), (nI LL), nl, fl, 0, (nI n), (nI (N + 1)), fc, gy, ck, st, nk, na, nb, (upd lk N 6), (upd la N p1), (upd lb N 0), fr, nv, me, po, wk, wa, wb)) :
    wpY_emit post ((nI V), (nI LL), nl, fl, 0, (nI n), (nI N), fc, gy, ck, st, nk, na, nb, lk, la, lb, fr, nv, me, po, wk, wa, wb) 6 p1 p2 := by
  have cl : (nI N).toNatClampNeg = N := nI_clamp (by omega)
  have vi : vp_in (nI N) 96 := vp_in_nI (by omega) (by decide)
  have hN96 : N < 96 := by omega
  exact br_t rfl (br_t (nI_lt hN (by omega)) (br_f (by decide) (br_t (by decide) (br_f (by decide) (br_f (by decide) (br_f (by decide) (br_t rfl (br_f (by decide) (br_f (by decide) (br_f (by decide) (br_f (by decide) (br_t rfl (br_f (by decide) (br_f (by decide) (br_f c.1 (br_t (Int32.not_lt.mp c.2) (br_t rfl (⟨vi, nm_r (e' := upd lk N 6) (by rw [cl]) (br_t rfl (br_f (by decide) (br_f (by decide) (⟨vi, nm_r (e' := upd la N p1) (by rw [cl]) (br_t rfl (br_f (by decide) (jr_y257 hN96 h)))⟩))))⟩))))))))))))))))))
theorem jr_xf6_1 {post : Int32 → SX → Prop} (hL : LL ≤ 96) (hN : N < LL) (c : p1 < 0) (h : post (-3) ((nI V), (nI LL), nl, fl, (nI n), (nI N), pc, oc, 0, gp, fc, se, ck, pl, pg, pm, st, nk, na, nb, nm, nv, lk, la, lb, ho, mo, tl, ph, pt, oi, tg, sm, wk, wa, wb, fr)) : wpX_emit post ((nI V), (nI LL), nl, fl, (nI n), (nI N), pc, oc, 0, gp, fc, se, ck, pl, pg, pm, st, nk, na, nb, nm, nv, lk, la, lb, ho, mo, tl, ph, pt, oi, tg, sm, wk, wa, wb, fr) 6 p1 p2 :=
  br_t rfl (br_t (nI_lt hN (by omega)) (br_f (by decide) (br_t (by decide) (br_f (by decide) (br_f (by decide) (br_f (by decide) (br_f (by decide) (br_f (by decide) (br_f (by decide) (br_t (by decide) (br_t c (br_t rfl h))))))))))))
theorem jr_yf6_1 {post : Int32 → SY → Prop} (hL : LL ≤ 96) (hN : N < LL) (c : p1 < 0) (h : post (-3) ((nI V), (nI LL), nl, fl, 0, (nI n), (nI N), fc, gy, ck, st, nk, na, nb, lk, la, lb, fr, nv, me, po, wk, wa, wb)) : wpY_emit post ((nI V), (nI LL), nl, fl, 0, (nI n), (nI N), fc, gy, ck, st, nk, na, nb, lk, la, lb, fr, nv, me, po, wk, wa, wb) 6 p1 p2 :=
  br_t rfl (br_t (nI_lt hN (by omega)) (br_f (by decide) (br_t (by decide) (br_f (by decide) (br_f (by decide) (br_f (by decide) (br_t rfl (br_f (by decide) (br_f (by decide) (br_f (by decide) (br_f (by decide) (br_t rfl (br_f (by decide) (br_f (by decide) (br_t c h)))))))))))))))
theorem jr_xf6_2 {post : Int32 → SX → Prop} (hL : LL ≤ 96) (hN : N < LL) (c1 : ¬ p1 < 0) (c : 31 < p1) (h : post (-3) ((nI V), (nI LL), nl, fl, (nI n), (nI N), pc, oc, 0, gp, fc, se, ck, pl, pg, pm, st, nk, na, nb, nm, nv, lk, la, lb, ho, mo, tl, ph, pt, oi, tg, sm, wk, wa, wb, fr)) : wpX_emit post ((nI V), (nI LL), nl, fl, (nI n), (nI N), pc, oc, 0, gp, fc, se, ck, pl, pg, pm, st, nk, na, nb, nm, nv, lk, la, lb, ho, mo, tl, ph, pt, oi, tg, sm, wk, wa, wb, fr) 6 p1 p2 :=
  br_t rfl (br_t (nI_lt hN (by omega)) (br_f (by decide) (br_t (by decide) (br_f (by decide) (br_f (by decide) (br_f (by decide) (br_f (by decide) (br_f (by decide) (br_f (by decide) (br_t (by decide) (br_f c1 (br_t c (br_t rfl h)))))))))))))
theorem jr_yf6_2 {post : Int32 → SY → Prop} (hL : LL ≤ 96) (hN : N < LL) (c1 : ¬ p1 < 0) (c : 31 < p1) (h : post (-3) ((nI V), (nI LL), nl, fl, 0, (nI n), (nI N), fc, gy, ck, st, nk, na, nb, lk, la, lb, fr, nv, me, po, wk, wa, wb)) : wpY_emit post ((nI V), (nI LL), nl, fl, 0, (nI n), (nI N), fc, gy, ck, st, nk, na, nb, lk, la, lb, fr, nv, me, po, wk, wa, wb) 6 p1 p2 :=
  br_t rfl (br_t (nI_lt hN (by omega)) (br_f (by decide) (br_t (by decide) (br_f (by decide) (br_f (by decide) (br_f (by decide) (br_t rfl (br_f (by decide) (br_f (by decide) (br_f (by decide) (br_f (by decide) (br_t rfl (br_f (by decide) (br_f (by decide) (br_f c1 (br_f (Int32.not_le.mpr c) h))))))))))))))))
theorem jr_xe7 {post : Int32 → SX → Prop} (hL : LL ≤ 96) (hN : N < LL) (c : ¬ p1 < 0 ∧ ¬ 31 < p1) (h : post (nI N) ((nI V), (nI LL), nl, fl, (nI n), (nI (N + 1)), pc, oc, 0, gp, fc, se, ck, pl, pg, pm, st, nk, na, nb, nm, nv, (upd lk N 7), (upd la N p1), (upd lb N 0), ho, mo, tl, ph, pt, oi, tg, sm, wk, wa, wb, fr)) :
    wpX_emit post ((nI V), (nI LL), nl, fl, (nI n), (nI N), pc, oc, 0, gp, fc, se, ck, pl, pg, pm, st, nk, na, nb, nm, nv, lk, la, lb, ho, mo, tl, ph, pt, oi, tg, sm, wk, wa, wb, fr) 7 p1 p2 := by
  have hN96 : N < 96 := by omega
  exact br_t rfl (br_t (nI_lt hN (by omega)) (br_f (by decide) (br_t (by decide) (br_f (by decide) (br_f (by decide) (br_f (by decide) (br_f (by decide) (br_f (by decide) (br_f (by decide) (br_f (by decide) (br_t (by decide) (br_f c.1 (br_f c.2 (br_f (by decide) (jr_xem hN96 (Or.inr ⟨by decide, rfl⟩) (Or.inl ⟨by decide, rfl⟩) h)))))))))))))))
theorem jr_ye7 {post : Int32 → SY → Prop} (hL : LL ≤ 96) (hN : N < LL) (c : ¬ p1 < 0 ∧ ¬ 31 < p1) (h : post (nI N) ((nI V), (nI LL), nl, fl, 0, (nI n), (nI (N + 1)), fc, gy, ck, st, nk, na, nb, (upd lk N 7), (upd la N p1), (upd lb N 0), fr, nv, me, po, wk, wa, wb)) :
    wpY_emit post ((nI V), (nI LL), nl, fl, 0, (nI n), (nI N), fc, gy, ck, st, nk, na, nb, lk, la, lb, fr, nv, me, po, wk, wa, wb) 7 p1 p2 := by
  have cl : (nI N).toNatClampNeg = N := nI_clamp (by omega)
  have vi : vp_in (nI N) 96 := vp_in_nI (by omega) (by decide)
  have hN96 : N < 96 := by omega
  exact br_t rfl (br_t (nI_lt hN (by omega)) (br_f (by decide) (br_t (by decide) (br_f (by decide) (br_f (by decide) (br_f (by decide) (br_f (by decide) (br_t rfl (br_f (by decide) (br_f (by decide) (br_f (by decide) (br_f (by decide) (br_t rfl (br_f (by decide) (br_f (by decide) (br_f c.1 (br_t (Int32.not_lt.mp c.2) (br_t rfl (⟨vi, nm_r (e' := upd lk N 7) (by rw [cl]) (br_t rfl (br_f (by decide) (br_f (by decide) (⟨vi, nm_r (e' := upd la N p1) (by rw [cl]) (br_t rfl (br_f (by decide) (jr_y257 hN96 h)))⟩))))⟩)))))))))))))))))))
theorem jr_xf7_1 {post : Int32 → SX → Prop} (hL : LL ≤ 96) (hN : N < LL) (c : p1 < 0) (h : post (-3) ((nI V), (nI LL), nl, fl, (nI n), (nI N), pc, oc, 0, gp, fc, se, ck, pl, pg, pm, st, nk, na, nb, nm, nv, lk, la, lb, ho, mo, tl, ph, pt, oi, tg, sm, wk, wa, wb, fr)) : wpX_emit post ((nI V), (nI LL), nl, fl, (nI n), (nI N), pc, oc, 0, gp, fc, se, ck, pl, pg, pm, st, nk, na, nb, nm, nv, lk, la, lb, ho, mo, tl, ph, pt, oi, tg, sm, wk, wa, wb, fr) 7 p1 p2 :=
  br_t rfl (br_t (nI_lt hN (by omega)) (br_f (by decide) (br_t (by decide) (br_f (by decide) (br_f (by decide) (br_f (by decide) (br_f (by decide) (br_f (by decide) (br_f (by decide) (br_f (by decide) (br_t (by decide) (br_t c (br_t rfl h)))))))))))))
theorem jr_yf7_1 {post : Int32 → SY → Prop} (hL : LL ≤ 96) (hN : N < LL) (c : p1 < 0) (h : post (-3) ((nI V), (nI LL), nl, fl, 0, (nI n), (nI N), fc, gy, ck, st, nk, na, nb, lk, la, lb, fr, nv, me, po, wk, wa, wb)) : wpY_emit post ((nI V), (nI LL), nl, fl, 0, (nI n), (nI N), fc, gy, ck, st, nk, na, nb, lk, la, lb, fr, nv, me, po, wk, wa, wb) 7 p1 p2 :=
  br_t rfl (br_t (nI_lt hN (by omega)) (br_f (by decide) (br_t (by decide) (br_f (by decide) (br_f (by decide) (br_f (by decide) (br_f (by decide) (br_t rfl (br_f (by decide) (br_f (by decide) (br_f (by decide) (br_f (by decide) (br_t rfl (br_f (by decide) (br_f (by decide) (br_t c h))))))))))))))))
theorem jr_xf7_2 {post : Int32 → SX → Prop} (hL : LL ≤ 96) (hN : N < LL) (c1 : ¬ p1 < 0) (c : 31 < p1) (h : post (-3) ((nI V), (nI LL), nl, fl, (nI n), (nI N), pc, oc, 0, gp, fc, se, ck, pl, pg, pm, st, nk, na, nb, nm, nv, lk, la, lb, ho, mo, tl, ph, pt, oi, tg, sm, wk, wa, wb, fr)) : wpX_emit post ((nI V), (nI LL), nl, fl, (nI n), (nI N), pc, oc, 0, gp, fc, se, ck, pl, pg, pm, st, nk, na, nb, nm, nv, lk, la, lb, ho, mo, tl, ph, pt, oi, tg, sm, wk, wa, wb, fr) 7 p1 p2 :=
  br_t rfl (br_t (nI_lt hN (by omega)) (br_f (by decide) (br_t (by decide) (br_f (by decide) (br_f (by decide) (br_f (by decide) (br_f (by decide) (br_f (by decide) (br_f (by decide) (br_f (by decide) (br_t (by decide) (br_f c1 (br_t c (br_t rfl h))))))))))))))
theorem jr_yf7_2 {post : Int32 → SY → Prop} (hL : LL ≤ 96) (hN : N < LL) (c1 : ¬ p1 < 0) (c : 31 < p1) (h : post (-3) ((nI V), (nI LL), nl, fl, 0, (nI n), (nI N), fc, gy, ck, st, nk, na, nb, lk, la, lb, fr, nv, me, po, wk, wa, wb)) : wpY_emit post ((nI V), (nI LL), nl, fl, 0, (nI n), (nI N), fc, gy, ck, st, nk, na, nb, lk, la, lb, fr, nv, me, po, wk, wa, wb) 7 p1 p2 :=
  br_t rfl (br_t (nI_lt hN (by omega)) (br_f (by decide) (br_t (by decide) (br_f (by decide) (br_f (by decide) (br_f (by decide) (br_f (by decide) (br_t rfl (br_f (by decide) (br_f (by decide) (br_f (by decide) (br_f (by decide) (br_t rfl (br_f (by decide) (br_f (by decide) (br_f c1 (br_f (Int32.not_le.mpr c) h)))))))))))))))))
theorem jr_xe8 {post : Int32 → SX → Prop} (hL : LL ≤ 96) (hN : N < LL) (c : ¬ p1 < 0 ∧ ¬ nI n ≤ p1) (h : post (nI N) ((nI V), (nI LL), nl, fl, (nI n), (nI (N + 1)), pc, oc, 0, gp, fc, se, ck, pl, pg, pm, st, nk, na, nb, nm, nv, (upd lk N 8), (upd la N p1), (upd lb N 0), ho, mo, tl, ph, pt, oi, tg, sm, wk, wa, wb, fr)) :
    wpX_emit post ((nI V), (nI LL), nl, fl, (nI n), (nI N), pc, oc, 0, gp, fc, se, ck, pl, pg, pm, st, nk, na, nb, nm, nv, lk, la, lb, ho, mo, tl, ph, pt, oi, tg, sm, wk, wa, wb, fr) 8 p1 p2 := by
  have hN96 : N < 96 := by omega
  exact br_t rfl (br_t (nI_lt hN (by omega)) (br_f (by decide) (br_t (by decide) (br_f (by decide) (br_f (by decide) (br_f (by decide) (br_f (by decide) (br_f (by decide) (br_f (by decide) (br_f (by decide) (br_f (by decide) (br_t (by decide) (jr_xin1 c.1 c.2 ⟨narrow_b1, br_f (by decide) (jr_xem hN96 (Or.inr ⟨by decide, rfl⟩) (Or.inl ⟨by decide, rfl⟩) h)⟩)))))))))))))
theorem jr_ye8 {post : Int32 → SY → Prop} (hL : LL ≤ 96) (hN : N < LL) (c : ¬ p1 < 0 ∧ ¬ nI n ≤ p1) (h : post (nI N) ((nI V), (nI LL), nl, fl, 0, (nI n), (nI (N + 1)), fc, gy, ck, st, nk, na, nb, (upd lk N 8), (upd la N p1), (upd lb N 0), fr, nv, me, po, wk, wa, wb)) :
    wpY_emit post ((nI V), (nI LL), nl, fl, 0, (nI n), (nI N), fc, gy, ck, st, nk, na, nb, lk, la, lb, fr, nv, me, po, wk, wa, wb) 8 p1 p2 := by
  have cl : (nI N).toNatClampNeg = N := nI_clamp (by omega)
  have vi : vp_in (nI N) 96 := vp_in_nI (by omega) (by decide)
  have hN96 : N < 96 := by omega
  exact br_t rfl (br_t (nI_lt hN (by omega)) (br_f (by decide) (br_t (by decide) (br_f (by decide) (br_f (by decide) (br_f (by decide) (br_f (by decide) (br_f (by decide) (br_t rfl (br_t rfl (br_f (by decide) (br_t rfl (br_f (by decide) (jr_yin1 c.1 c.2 (br_f (by decide) (⟨vi, nm_r (e' := upd lk N 8) (by rw [cl]) (br_t rfl (br_f (by decide) (br_t rfl (br_f (by decide) (⟨vi, nm_r (e' := upd la N p1) (by rw [cl]) (br_t rfl (br_f (by decide) (jr_y257 hN96 h)))⟩)))))⟩))))))))))))))))
theorem jr_xf8_1 {post : Int32 → SX → Prop} (hL : LL ≤ 96) (hN : N < LL) (c : p1 < 0 ∨ nI n ≤ p1) (h : post (-3) ((nI V), (nI LL), nl, fl, (nI n), (nI N), pc, oc, 0, gp, fc, se, ck, pl, pg, pm, st, nk, na, nb, nm, nv, lk, la, lb, ho, mo, tl, ph, pt, oi, tg, sm, wk, wa, wb, fr)) : wpX_emit post ((nI V), (nI LL), nl, fl, (nI n), (nI N), pc, oc, 0, gp, fc, se, ck, pl, pg, pm, st, nk, na, nb, nm, nv, lk, la, lb, ho, mo, tl, ph, pt, oi, tg, sm, wk, wa, wb, fr) 8 p1 p2 :=
  br_t rfl (br_t (nI_lt hN (by omega)) (br_f (by decide) (br_t (by decide) (br_f (by decide) (br_f (by decide) (br_f (by decide) (br_f (by decide) (br_f (by decide) (br_f (by decide) (br_f (by decide) (br_f (by decide) (br_t (by decide) (jr_xin0 c ⟨narrow_b0, br_t rfl h⟩)))))))))))))
theorem jr_yf8_1 {post : Int32 → SY → Prop} (hL : LL ≤ 96) (hN : N < LL) (c : p1 < 0 ∨ nI n ≤ p1) (h : post (-3) ((nI V), (nI LL), nl, fl, 0, (nI n), (nI N), fc, gy, ck, st, nk, na, nb, lk, la, lb, fr, nv, me, po, wk, wa, wb)) : wpY_emit post ((nI V), (nI LL), nl, fl, 0, (nI n), (nI N), fc, gy, ck, st, nk, na, nb, lk, la, lb, fr, nv, me, po, wk, wa, wb) 8 p1 p2 :=
  br_t rfl (br_t (nI_lt hN (by omega)) (br_f (by decide) (br_t (by decide) (br_f (by decide) (br_f (by decide) (br_f (by decide) (br_f (by decide) (br_f (by decide) (br_t rfl (br_t rfl (br_f (by decide) (br_t rfl (br_f (by decide) (jr_yin0 c (br_t rfl h)))))))))))))))
theorem jr_xe9 {post : Int32 → SX → Prop} (hL : LL ≤ 96) (hN : N < LL) (c : True) (h : post (nI N) ((nI V), (nI LL), nl, fl, (nI n), (nI (N + 1)), pc, oc, 0, gp, fc, se, ck, pl, pg, pm, st, nk, na, nb, nm, nv, (upd lk N 9), (upd la N 0), (upd lb N 0), ho, mo, tl, ph, pt, oi, tg, sm, wk, wa, wb, fr)) :
    wpX_emit post ((nI V), (nI LL), nl, fl, (nI n), (nI N), pc, oc, 0, gp, fc, se, ck, pl, pg, pm, st, nk, na, nb, nm, nv, lk, la, lb, ho, mo, tl, ph, pt, oi, tg, sm, wk, wa, wb, fr) 9 p1 p2 := by
  have hN96 : N < 96 := by omega
  exact br_t rfl (br_t (nI_lt hN (by omega)) (br_f (by decide) (br_t (by decide) (br_f (by decide) (br_f (by decide) (br_f (by decide) (br_f (by decide) (br_f (by decide) (br_f (by decide) (br_f (by decide) (br_f (by decide) (br_f (by decide) (br_t (by decide) (br_f (by decide) (jr_xem hN96 (Or.inl ⟨by decide, rfl⟩) (Or.inl ⟨by decide, rfl⟩) h)))))))))))))))
theorem jr_ye9 {post : Int32 → SY → Prop} (hL : LL ≤ 96) (hN : N < LL) (c : True) (h : post (nI N) ((nI V), (nI LL), nl, fl, 0, (nI n), (nI (N + 1)), fc, gy, ck, st, nk, na, nb, (upd lk N 9), (upd la N 0), (upd lb N 0), fr, nv, me, po, wk, wa, wb)) :
    wpY_emit post ((nI V), (nI LL), nl, fl, 0, (nI n), (nI N), fc, gy, ck, st, nk, na, nb, lk, la, lb, fr, nv, me, po, wk, wa, wb) 9 p1 p2 := by
  have cl : (nI N).toNatClampNeg = N := nI_clamp (by omega)
  have vi : vp_in (nI N) 96 := vp_in_nI (by omega) (by decide)
  have hN96 : N < 96 := by omega
  exact br_t rfl (br_t (nI_lt hN (by omega)) (br_f (by decide) (br_t (by decide) (br_f (by decide) (br_f (by decide) (br_f (by decide) (br_f (by decide) (br_f (by decide) (br_f (by decide) (br_f (by decide) (br_f (by decide) (br_f (by decide) (br_t rfl (br_f (by decide) (br_t rfl (br_t rfl (⟨vi, nm_r (e' := upd lk N 9) (by rw [cl]) (br_t rfl (br_f (by decide) (br_t rfl (br_t rfl (⟨vi, nm_r (e' := upd la N 0) (by rw [cl]) (br_t rfl (br_f (by decide) (jr_y257 hN96 h)))⟩)))))⟩)))))))))))))))))
theorem jr_xe10 {post : Int32 → SX → Prop} (hL : LL ≤ 96) (hN : N < LL) (c : ¬ p1 < 0 ∧ ¬ nI n ≤ p1) (h : post (nI N) ((nI V), (nI LL), nl, fl, (nI n), (nI (N + 1)), pc, oc, 0, gp, fc, se, ck, pl, pg, pm, st, nk, na, nb, nm, nv, (upd lk N 10), (upd la N p1), (upd lb N 0), ho, mo, tl, ph, pt, oi, tg, sm, wk, wa, wb, fr)) :
    wpX_emit post ((nI V), (nI LL), nl, fl, (nI n), (nI N), pc, oc, 0, gp, fc, se, ck, pl, pg, pm, st, nk, na, nb, nm, nv, lk, la, lb, ho, mo, tl, ph, pt, oi, tg, sm, wk, wa, wb, fr) 10 p1 p2 := by
  have hN96 : N < 96 := by omega
  exact br_t rfl (br_t (nI_lt hN (by omega)) (br_f (by decide) (br_t (by decide) (br_f (by decide) (br_f (by decide) (br_f (by decide) (br_f (by decide) (br_f (by decide) (br_f (by decide) (br_f (by decide) (br_f (by decide) (br_f (by decide) (br_f (by decide) (br_t (by decide) (jr_xin1 c.1 c.2 ⟨narrow_b1, br_f (by decide) (jr_xem hN96 (Or.inr ⟨by decide, rfl⟩) (Or.inl ⟨by decide, rfl⟩) h)⟩)))))))))))))))
theorem jr_ye10 {post : Int32 → SY → Prop} (hL : LL ≤ 96) (hN : N < LL) (c : ¬ p1 < 0 ∧ ¬ nI n ≤ p1) (h : post (nI N) ((nI V), (nI LL), nl, fl, 0, (nI n), (nI (N + 1)), fc, gy, ck, st, nk, na, nb, (upd lk N 10), (upd la N p1), (upd lb N 0), fr, nv, me, po, wk, wa, wb)) :
    wpY_emit post ((nI V), (nI LL), nl, fl, 0, (nI n), (nI N), fc, gy, ck, st, nk, na, nb, lk, la, lb, fr, nv, me, po, wk, wa, wb) 10 p1 p2 := by
  have cl : (nI N).toNatClampNeg = N := nI_clamp (by omega)
  have vi : vp_in (nI N) 96 := vp_in_nI (by omega) (by decide)
  have hN96 : N < 96 := by omega
  exact br_t rfl (br_t (nI_lt hN (by omega)) (br_f (by decide) (br_t (by decide) (br_f (by decide) (br_f (by decide) (br_f (by decide) (br_f (by decide) (br_f (by decide) (br_f (by decide) (br_t rfl (br_t rfl (br_f (by decide) (br_t rfl (br_f (by decide) (jr_yin1 c.1 c.2 (br_f (by decide) (⟨vi, nm_r (e' := upd lk N 10) (by rw [cl]) (br_t rfl (br_f (by decide) (br_t rfl (br_f (by decide) (⟨vi, nm_r (e' := upd la N p1) (by rw [cl]) (br_t rfl (br_f (by decide) (jr_y257 hN96 h)))⟩)))))⟩)))))))))))))))))
theorem jr_xf10_1 {post : Int32 → SX → Prop} (hL : LL ≤ 96) (hN : N < LL) (c : p1 < 0 ∨ nI n ≤ p1) (h : post (-3) ((nI V), (nI LL), nl, fl, (nI n), (nI N), pc, oc, 0, gp, fc, se, ck, pl, pg, pm, st, nk, na, nb, nm, nv, lk, la, lb, ho, mo, tl, ph, pt, oi, tg, sm, wk, wa, wb, fr)) : wpX_emit post ((nI V), (nI LL), nl, fl, (nI n), (nI N), pc, oc, 0, gp, fc, se, ck, pl, pg, pm, st, nk, na, nb, nm, nv, lk, la, lb, ho, mo, tl, ph, pt, oi, tg, sm, wk, wa, wb, fr) 10 p1 p2 :=
  br_t rfl (br_t (nI_lt hN (by omega)) (br_f (by decide) (br_t (by decide) (br_f (by decide) (br_f (by decide) (br_f (by decide) (br_f (by decide) (br_f (by decide) (br_f (by decide) (br_f (by decide) (br_f (by decide) (br_f (by decide) (br_f (by decide) (br_t (by decide) (jr_xin0 c ⟨narrow_b0, br_t rfl h⟩)))))))))))))))
theorem jr_yf10_1 {post : Int32 → SY → Prop} (hL : LL ≤ 96) (hN : N < LL) (c : p1 < 0 ∨ nI n ≤ p1) (h : post (-3) ((nI V), (nI LL), nl, fl, 0, (nI n), (nI N), fc, gy, ck, st, nk, na, nb, lk, la, lb, fr, nv, me, po, wk, wa, wb)) : wpY_emit post ((nI V), (nI LL), nl, fl, 0, (nI n), (nI N), fc, gy, ck, st, nk, na, nb, lk, la, lb, fr, nv, me, po, wk, wa, wb) 10 p1 p2 :=
  br_t rfl (br_t (nI_lt hN (by omega)) (br_f (by decide) (br_t (by decide) (br_f (by decide) (br_f (by decide) (br_f (by decide) (br_f (by decide) (br_f (by decide) (br_f (by decide) (br_t rfl (br_t rfl (br_f (by decide) (br_t rfl (br_f (by decide) (jr_yin0 c (br_t rfl h))))))))))))))))
theorem jr_xe11 {post : Int32 → SX → Prop} (hL : LL ≤ 96) (hN : N < LL) (c : ¬ p1 < 0 ∧ ¬ nI n ≤ p1) (h : post (nI N) ((nI V), (nI LL), nl, fl, (nI n), (nI (N + 1)), pc, oc, 0, gp, fc, se, ck, pl, pg, pm, st, nk, na, nb, nm, nv, (upd lk N 11), (upd la N p1), (upd lb N 0), ho, mo, tl, ph, pt, oi, tg, sm, wk, wa, wb, fr)) :
    wpX_emit post ((nI V), (nI LL), nl, fl, (nI n), (nI N), pc, oc, 0, gp, fc, se, ck, pl, pg, pm, st, nk, na, nb, nm, nv, lk, la, lb, ho, mo, tl, ph, pt, oi, tg, sm, wk, wa, wb, fr) 11 p1 p2 := by
  have hN96 : N < 96 := by omega
  exact br_t rfl (br_t (nI_lt hN (by omega)) (br_f (by decide) (br_t (by decide) (br_f (by decide) (br_f (by decide) (br_f (by decide) (br_f (by decide) (br_f (by decide) (br_f (by decide) (br_f (by decide) (br_f (by decide) (br_f (by decide) (br_f (by decide) (br_f (by decide) (br_t (by decide) (jr_xin1 c.1 c.2 ⟨narrow_b1, br_f (by decide) (jr_xem hN96 (Or.inr ⟨by decide, rfl⟩) (Or.inl ⟨by decide, rfl⟩) h)⟩))))))))))))))))
theorem jr_ye11 {post : Int32 → SY → Prop} (hL : LL ≤ 96) (hN : N < LL) (c : ¬ p1 < 0 ∧ ¬ nI n ≤ p1) (h : post (nI N) ((nI V), (nI LL), nl, fl, 0, (nI n), (nI (N + 1)), fc, gy, ck, st, nk, na, nb, (upd lk N 11), (upd la N p1), (upd lb N 0), fr, nv, me, po, wk, wa, wb)) :
    wpY_emit post ((nI V), (nI LL), nl, fl, 0, (nI n), (nI N), fc, gy, ck, st, nk, na, nb, lk, la, lb, fr, nv, me, po, wk, wa, wb) 11 p1 p2 := by
  have cl : (nI N).toNatClampNeg = N := nI_clamp (by omega)
  have vi : vp_in (nI N) 96 := vp_in_nI (by omega) (by decide)
  have hN96 : N < 96 := by omega
  exact br_t rfl (br_t (nI_lt hN (by omega)) (br_f (by decide) (br_t (by decide) (br_f (by decide) (br_f (by decide) (br_f (by decide) (br_f (by decide) (br_f (by decide) (br_f (by decide) (br_f (by decide) (br_t rfl (br_t rfl (br_f (by decide) (br_t rfl (br_f (by decide) (jr_yin1 c.1 c.2 (br_f (by decide) (⟨vi, nm_r (e' := upd lk N 11) (by rw [cl]) (br_t rfl (br_f (by decide) (br_t rfl (br_f (by decide) (⟨vi, nm_r (e' := upd la N p1) (by rw [cl]) (br_t rfl (br_f (by decide) (jr_y257 hN96 h)))⟩)))))⟩))))))))))))))))))
theorem jr_xf11_1 {post : Int32 → SX → Prop} (hL : LL ≤ 96) (hN : N < LL) (c : p1 < 0 ∨ nI n ≤ p1) (h : post (-3) ((nI V), (nI LL), nl, fl, (nI n), (nI N), pc, oc, 0, gp, fc, se, ck, pl, pg, pm, st, nk, na, nb, nm, nv, lk, la, lb, ho, mo, tl, ph, pt, oi, tg, sm, wk, wa, wb, fr)) : wpX_emit post ((nI V), (nI LL), nl, fl, (nI n), (nI N), pc, oc, 0, gp, fc, se, ck, pl, pg, pm, st, nk, na, nb, nm, nv, lk, la, lb, ho, mo, tl, ph, pt, oi, tg, sm, wk, wa, wb, fr) 11 p1 p2 :=
  br_t rfl (br_t (nI_lt hN (by omega)) (br_f (by decide) (br_t (by decide) (br_f (by decide) (br_f (by decide) (br_f (by decide) (br_f (by decide) (br_f (by decide) (br_f (by decide) (br_f (by decide) (br_f (by decide) (br_f (by decide) (br_f (by decide) (br_f (by decide) (br_t (by decide) (jr_xin0 c ⟨narrow_b0, br_t rfl h⟩))))))))))))))))
theorem jr_yf11_1 {post : Int32 → SY → Prop} (hL : LL ≤ 96) (hN : N < LL) (c : p1 < 0 ∨ nI n ≤ p1) (h : post (-3) ((nI V), (nI LL), nl, fl, 0, (nI n), (nI N), fc, gy, ck, st, nk, na, nb, lk, la, lb, fr, nv, me, po, wk, wa, wb)) : wpY_emit post ((nI V), (nI LL), nl, fl, 0, (nI n), (nI N), fc, gy, ck, st, nk, na, nb, lk, la, lb, fr, nv, me, po, wk, wa, wb) 11 p1 p2 :=
  br_t rfl (br_t (nI_lt hN (by omega)) (br_f (by decide) (br_t (by decide) (br_f (by decide) (br_f (by decide) (br_f (by decide) (br_f (by decide) (br_f (by decide) (br_f (by decide) (br_f (by decide) (br_t rfl (br_t rfl (br_f (by decide) (br_t rfl (br_f (by decide) (jr_yin0 c (br_t rfl h)))))))))))))))))
theorem jr_xe12 {post : Int32 → SX → Prop} (hL : LL ≤ 96) (hN : N < LL) (c : True) (h : post (nI N) ((nI V), (nI LL), nl, fl, (nI n), (nI (N + 1)), pc, oc, 0, gp, fc, se, ck, pl, pg, pm, st, nk, na, nb, nm, nv, (upd lk N 12), (upd la N 0), (upd lb N 0), ho, mo, tl, ph, pt, oi, tg, sm, wk, wa, wb, fr)) :
    wpX_emit post ((nI V), (nI LL), nl, fl, (nI n), (nI N), pc, oc, 0, gp, fc, se, ck, pl, pg, pm, st, nk, na, nb, nm, nv, lk, la, lb, ho, mo, tl, ph, pt, oi, tg, sm, wk, wa, wb, fr) 12 p1 p2 := by
  have hN96 : N < 96 := by omega
  exact br_t rfl (br_t (nI_lt hN (by omega)) (br_f (by decide) (br_t (by decide) (br_f (by decide) (br_f (by decide) (br_f (by decide) (br_f (by decide) (br_f (by decide) (br_f (by decide) (br_f (by decide) (br_f (by decide) (br_f (by decide) (br_f (by decide) (br_f (by decide) (br_f (by decide) (br_t (by decide) (br_f (by decide) (jr_xem hN96 (Or.inl ⟨by decide, rfl⟩) (Or.inl ⟨by decide, rfl⟩) h))))))))))))))))))
theorem jr_ye12 {post : Int32 → SY → Prop} (hL : LL ≤ 96) (hN : N < LL) (c : True) (h : post (nI N) ((nI V), (nI LL), nl, fl, 0, (nI n), (nI (N + 1)), fc, gy, ck, st, nk, na, nb, (upd lk N 12), (upd la N 0), (upd lb N 0), fr, nv, me, po, wk, wa, wb)) :
    wpY_emit post ((nI V), (nI LL), nl, fl, 0, (nI n), (nI N), fc, gy, ck, st, nk, na, nb, lk, la, lb, fr, nv, me, po, wk, wa, wb) 12 p1 p2 := by
  have cl : (nI N).toNatClampNeg = N := nI_clamp (by omega)
  have vi : vp_in (nI N) 96 := vp_in_nI (by omega) (by decide)
  have hN96 : N < 96 := by omega
  exact br_t rfl (br_t (nI_lt hN (by omega)) (br_f (by decide) (br_t (by decide) (br_f (by decide) (br_f (by decide) (br_f (by decide) (br_f (by decide) (br_f (by decide) (br_f (by decide) (br_f (by decide) (br_f (by decide) (br_f (by decide) (br_t rfl (br_f (by decide) (br_t rfl (br_t rfl (⟨vi, nm_r (e' := upd lk N 12) (by rw [cl]) (br_t rfl (br_f (by decide) (br_t rfl (br_t rfl (⟨vi, nm_r (e' := upd la N 0) (by rw [cl]) (br_t rfl (br_f (by decide) (jr_y257 hN96 h)))⟩)))))⟩)))))))))))))))))
theorem jr_xe13 {post : Int32 → SX → Prop} (hL : LL ≤ 96) (hN : N < LL) (c : ¬ p1 < 0 ∧ ¬ nI n ≤ p1) (h : post (nI N) ((nI V), (nI LL), nl, fl, (nI n), (nI (N + 1)), pc, oc, 0, gp, fc, se, ck, pl, pg, pm, st, nk, na, nb, nm, nv, (upd lk N 13), (upd la N p1), (upd lb N 0), ho, mo, tl, ph, pt, oi, tg, sm, wk, wa, wb, fr)) :
    wpX_emit post ((nI V), (nI LL), nl, fl, (nI n), (nI N), pc, oc, 0, gp, fc, se, ck, pl, pg, pm, st, nk, na, nb, nm, nv, lk, la, lb, ho, mo, tl, ph, pt, oi, tg, sm, wk, wa, wb, fr) 13 p1 p2 := by
  have hN96 : N < 96 := by omega
  exact br_t rfl (br_t (nI_lt hN (by omega)) (br_f (by decide) (br_t (by decide) (br_f (by decide) (br_f (by decide) (br_f (by decide) (br_f (by decide) (br_f (by decide) (br_f (by decide) (br_f (by decide) (br_f (by decide) (br_f (by decide) (br_f (by decide) (br_f (by decide) (br_f (by decide) (br_f (by decide) (br_t (by decide) (jr_xin1 c.1 c.2 ⟨narrow_b1, br_f (by decide) (jr_xem hN96 (Or.inr ⟨by decide, rfl⟩) (Or.inl ⟨by decide, rfl⟩) h)⟩))))))))))))))))))
theorem jr_ye13 {post : Int32 → SY → Prop} (hL : LL ≤ 96) (hN : N < LL) (c : ¬ p1 < 0 ∧ ¬ nI n ≤ p1) (h : post (nI N) ((nI V), (nI LL), nl, fl, 0, (nI n), (nI (N + 1)), fc, gy, ck, st, nk, na, nb, (upd lk N 13), (upd la N p1), (upd lb N 0), fr, nv, me, po, wk, wa, wb)) :
    wpY_emit post ((nI V), (nI LL), nl, fl, 0, (nI n), (nI N), fc, gy, ck, st, nk, na, nb, lk, la, lb, fr, nv, me, po, wk, wa, wb) 13 p1 p2 := by
  have cl : (nI N).toNatClampNeg = N := nI_clamp (by omega)
  have vi : vp_in (nI N) 96 := vp_in_nI (by omega) (by decide)
  have hN96 : N < 96 := by omega
  exact br_t rfl (br_t (nI_lt hN (by omega)) (br_f (by decide) (br_t (by decide) (br_f (by decide) (br_f (by decide) (br_f (by decide) (br_f (by decide) (br_f (by decide) (br_f (by decide) (br_f (by decide) (br_f (by decide) (br_t rfl (br_t rfl (br_f (by decide) (br_t rfl (br_f (by decide) (jr_yin1 c.1 c.2 (br_f (by decide) (⟨vi, nm_r (e' := upd lk N 13) (by rw [cl]) (br_t rfl (br_f (by decide) (br_t rfl (br_f (by decide) (⟨vi, nm_r (e' := upd la N p1) (by rw [cl]) (br_t rfl (br_f (by decide) (jr_y257 hN96 h)))⟩)))))⟩)))))))))))))))))))
theorem jr_xf13_1 {post : Int32 → SX → Prop} (hL : LL ≤ 96) (hN : N < LL) (c : p1 < 0 ∨ nI n ≤ p1) (h : post (-3) ((nI V), (nI LL), nl, fl, (nI n), (nI N), pc, oc, 0, gp, fc, se, ck, pl, pg, pm, st, nk, na, nb, nm, nv, lk, la, lb, ho, mo, tl, ph, pt, oi, tg, sm, wk, wa, wb, fr)) : wpX_emit post ((nI V), (nI LL), nl, fl, (nI n), (nI N), pc, oc, 0, gp, fc, se, ck, pl, pg, pm, st, nk, na, nb, nm, nv, lk, la, lb, ho, mo, tl, ph, pt, oi, tg, sm, wk, wa, wb, fr) 13 p1 p2 :=
  br_t rfl (br_t (nI_lt hN (by omega)) (br_f (by decide) (br_t (by decide) (br_f (by decide) (br_f (by decide) (br_f (by decide) (br_f (by decide) (br_f (by decide) (br_f (by decide) (br_f (by decide) (br_f (by decide) (br_f (by decide) (br_f (by decide) (br_f (by decide) (br_f (by decide) (br_f (by decide) (br_t (by decide) (jr_xin0 c ⟨narrow_b0, br_t rfl h⟩))))))))))))))))))
theorem jr_yf13_1 {post : Int32 → SY → Prop} (hL : LL ≤ 96) (hN : N < LL) (c : p1 < 0 ∨ nI n ≤ p1) (h : post (-3) ((nI V), (nI LL), nl, fl, 0, (nI n), (nI N), fc, gy, ck, st, nk, na, nb, lk, la, lb, fr, nv, me, po, wk, wa, wb)) : wpY_emit post ((nI V), (nI LL), nl, fl, 0, (nI n), (nI N), fc, gy, ck, st, nk, na, nb, lk, la, lb, fr, nv, me, po, wk, wa, wb) 13 p1 p2 :=
  br_t rfl (br_t (nI_lt hN (by omega)) (br_f (by decide) (br_t (by decide) (br_f (by decide) (br_f (by decide) (br_f (by decide) (br_f (by decide) (br_f (by decide) (br_f (by decide) (br_f (by decide) (br_f (by decide) (br_t rfl (br_t rfl (br_f (by decide) (br_t rfl (br_f (by decide) (jr_yin0 c (br_t rfl h))))))))))))))))))
/-! both sides -/
theorem jr_em {Q : SX → SY → Prop} {p0 : Int32} (hL : LL ≤ 96) (hNL : N ≤ LL) (hV : V ≤ 8) (hn : n ≤ 32)
    (h0 : Q ((nI V), (nI LL), nl, fl, (nI n), (nI N), pc, oc, 0, gp, fc, se, ck, pl, pg, pm, st, nk, na, nb, nm, nv, lk, la, lb, ho, mo, tl, ph, pt, oi, tg, sm, wk, wa, wb, fr) ((nI V), (nI LL), nl, fl, 0, (nI n), (nI N), fc, gy, ck, st, nk, na, nb, lk, la, lb, fr, nv, me, po, wk, wa, wb)) (h1 : N < LL → ∀ k a b : Int32, jr_L1 n k a b → Q ((nI V), (nI LL), nl, fl, (nI n), (nI (N + 1)), pc, oc, 0, gp, fc, se, ck, pl, pg, pm, st, nk, na, nb, nm, nv, (upd lk N k), (upd la N a), (upd lb N b), ho, mo, tl, ph, pt, oi, tg, sm, wk, wa, wb, fr) ((nI V), (nI LL), nl, fl, 0, (nI n), (nI (N + 1)), fc, gy, ck, st, nk, na, nb, (upd lk N k), (upd la N a), (upd lb N b), fr, nv, me, po, wk, wa, wb)) :
    wpX_emit (fun r u' => wpY_emit (fun r' v' => r' = r ∧ Q u' v') ((nI V), (nI LL), nl, fl, 0, (nI n), (nI N), fc, gy, ck, st, nk, na, nb, lk, la, lb, fr, nv, me, po, wk, wa, wb) p0 p1 p2) ((nI V), (nI LL), nl, fl, (nI n), (nI N), pc, oc, 0, gp, fc, se, ck, pl, pg, pm, st, nk, na, nb, nm, nv, lk, la, lb, ho, mo, tl, ph, pt, oi, tg, sm, wk, wa, wb, fr) p0 p1 p2 := by
  by_cases hN : N < LL
  · have H1 := h1 hN
    by_cases c0 : p0 < 0
    · exact br_t rfl (br_t (nI_lt hN (by omega)) (br_t c0 (br_t rfl (br_t (nI_lt hN (by omega)) (br_t c0 ⟨rfl, h0⟩)))))
    by_cases c13 : p0 ≤ 13
    · obtain ⟨j, hj, rfl⟩ := nI_of2 (M := 13) (n := 13) (by decide) c0 c13
      have z : j = 0 ∨ j = 1 ∨ j = 2 ∨ j = 3 ∨ j = 4 ∨ j = 5 ∨ j = 6 ∨ j = 7 ∨ j = 8 ∨ j = 9 ∨ j = 10 ∨ j = 11 ∨ j = 12 ∨ j = 13 := by omega
      rcases z with rfl | rfl | rfl | rfl | rfl | rfl | rfl | rfl | rfl | rfl | rfl | rfl | rfl | rfl
      · exact jr_xe0 hL hN trivial (jr_ye0 hL hN trivial ⟨rfl, H1 0 0 0 ⟨by unfold jr_Kd; decide, fun z => absurd z (by decide), fun z => absurd z (by decide), fun z => absurd z (by decide)⟩⟩)
      · exact jr_xe1 hL hN trivial (jr_ye1 hL hN trivial ⟨rfl, H1 1 0 0 ⟨by unfold jr_Kd; decide, fun z => absurd z (by decide), fun z => absurd z (by decide), fun z => absurd z (by decide)⟩⟩)
      · rcases jr_rng p1 (n := V) (by omega) with c | ⟨c1, x, hx, e1⟩
        · exact jr_xf2_1 hL hN c (jr_yf2_1 hL hN c ⟨rfl, h0⟩)
        rcases jr_rng p2 (n := n) (by omega) with c | ⟨c2, y, hy, e2⟩
        · exact jr_xf2_2 hL hN c1 c (jr_yf2_2 hL hN c1 c ⟨rfl, h0⟩)
        · subst e1 e2
          exact jr_xe2 hL hN ⟨c1, c2⟩ (jr_ye2 hL hN ⟨c1, c2⟩ ⟨rfl, H1 2 (nI x) (nI y) ⟨by unfold jr_Kd; decide, fun _ => ⟨x, y, by omega, hy, rfl, rfl⟩, fun z => absurd z (by decide), fun z => absurd z (by decide)⟩⟩)
      · rcases jr_rng p1 (n := V) (by omega) with c | ⟨c1, x, hx, e1⟩
        · exact jr_xf3_1 hL hN c (jr_yf3_1 hL hN c ⟨rfl, h0⟩)
        rcases jr_rng p2 (n := n) (by omega) with c | ⟨c2, y, hy, e2⟩
        · exact jr_xf3_2 hL hN c1 c (jr_yf3_2 hL hN c1 c ⟨rfl, h0⟩)
        · subst e1 e2
          exact jr_xe3 hL hN ⟨c1, c2⟩ (jr_ye3 hL hN ⟨c1, c2⟩ ⟨rfl, H1 3 (nI x) (nI y) ⟨by unfold jr_Kd; decide, fun _ => ⟨x, y, by omega, hy, rfl, rfl⟩, fun z => absurd z (by decide), fun z => absurd z (by decide)⟩⟩)
      · rcases jr_rng p1 (n := V) (by omega) with c | ⟨c1, x, hx, e1⟩
        · exact jr_xf4_1 hL hN c (jr_yf4_1 hL hN c ⟨rfl, h0⟩)
        rcases jr_rng p2 (n := n) (by omega) with c | ⟨c2, y, hy, e2⟩
        · exact jr_xf4_2 hL hN c1 c (jr_yf4_2 hL hN c1 c ⟨rfl, h0⟩)
        · subst e1 e2
          exact jr_xe4 hL hN ⟨c1, c2⟩ (jr_ye4 hL hN ⟨c1, c2⟩ ⟨rfl, H1 4 (nI x) (nI y) ⟨by unfold jr_Kd; decide, fun _ => ⟨x, y, by omega, hy, rfl, rfl⟩, fun z => absurd z (by decide), fun z => absurd z (by decide)⟩⟩)
      · rcases jr_rng p1 (n := V) (by omega) with c | ⟨c1, x, hx, e1⟩
        · exact jr_xf5_1 hL hN c (jr_yf5_1 hL hN c ⟨rfl, h0⟩)
        rcases jr_rng p2 (n := V) (by omega) with c | ⟨c2, y, hy, e2⟩
        · exact jr_xf5_2 hL hN c1 c (jr_yf5_2 hL hN c1 c ⟨rfl, h0⟩)
        · subst e1 e2
          exact jr_xe5 hL hN ⟨c1, c2⟩ (jr_ye5 hL hN ⟨c1, c2⟩ ⟨rfl, H1 5 (nI x) (nI y) ⟨by unfold jr_Kd; decide, fun z => absurd z (by decide), fun _ => ⟨x, y, by omega, by omega, rfl, rfl⟩, fun z => absurd z (by decide)⟩⟩)
      · by_cases c : p1 < 0
        · exact jr_xf6_1 hL hN c (jr_yf6_1 hL hN c ⟨rfl, h0⟩)
        by_cases c2 : 31 < p1
        · exact jr_xf6_2 hL hN c c2 (jr_yf6_2 hL hN c c2 ⟨rfl, h0⟩)
        · obtain ⟨x, hx, e1⟩ := nI_of2 (M := 31) (n := 31) (by decide) c (Int32.not_lt.mp c2)
          subst e1
          exact jr_xe6 hL hN ⟨c, c2⟩ (jr_ye6 hL hN ⟨c, c2⟩ ⟨rfl, H1 6 (nI x) 0 ⟨by unfold jr_Kd; decide, fun z => absurd z (by decide), fun z => absurd z (by decide), fun _ => ⟨x, by omega, rfl⟩⟩⟩)
      · by_cases c : p1 < 0
        · exact jr_xf7_1 hL hN c (jr_yf7_1 hL hN c ⟨rfl, h0⟩)
        by_cases c2 : 31 < p1
        · exact jr_xf7_2 hL hN c c2 (jr_yf7_2 hL hN c c2 ⟨rfl, h0⟩)
        · obtain ⟨x, hx, e1⟩ := nI_of2 (M := 31) (n := 31) (by decide) c (Int32.not_lt.mp c2)
          subst e1
          exact jr_xe7 hL hN ⟨c, c2⟩ (jr_ye7 hL hN ⟨c, c2⟩ ⟨rfl, H1 7 (nI x) 0 ⟨by unfold jr_Kd; decide, fun z => absurd z (by decide), fun z => absurd z (by decide), fun _ => ⟨x, by omega, rfl⟩⟩⟩)
      · rcases jr_rng p1 (n := n) (by omega) with c | ⟨c1, x, hx, e1⟩
        · exact jr_xf8_1 hL hN c (jr_yf8_1 hL hN c ⟨rfl, h0⟩)
        · exact jr_xe8 hL hN c1 (jr_ye8 hL hN c1 ⟨rfl, H1 8 p1 0 ⟨by unfold jr_Kd; decide, fun z => absurd z (by decide), fun z => absurd z (by decide), fun z => absurd z (by decide)⟩⟩)
      · exact jr_xe9 hL hN trivial (jr_ye9 hL hN trivial ⟨rfl, H1 9 0 0 ⟨by unfold jr_Kd; decide, fun z => absurd z (by decide), fun z => absurd z (by decide), fun z => absurd z (by decide)⟩⟩)
      · rcases jr_rng p1 (n := n) (by omega) with c | ⟨c1, x, hx, e1⟩
        · exact jr_xf10_1 hL hN c (jr_yf10_1 hL hN c ⟨rfl, h0⟩)
        · exact jr_xe10 hL hN c1 (jr_ye10 hL hN c1 ⟨rfl, H1 10 p1 0 ⟨by unfold jr_Kd; decide, fun z => absurd z (by decide), fun z => absurd z (by decide), fun z => absurd z (by decide)⟩⟩)
      · rcases jr_rng p1 (n := n) (by omega) with c | ⟨c1, x, hx, e1⟩
        · exact jr_xf11_1 hL hN c (jr_yf11_1 hL hN c ⟨rfl, h0⟩)
        · exact jr_xe11 hL hN c1 (jr_ye11 hL hN c1 ⟨rfl, H1 11 p1 0 ⟨by unfold jr_Kd; decide, fun z => absurd z (by decide), fun z => absurd z (by decide), fun z => absurd z (by decide)⟩⟩)
      · exact jr_xe12 hL hN trivial (jr_ye12 hL hN trivial ⟨rfl, H1 12 0 0 ⟨by unfold jr_Kd; decide, fun z => absurd z (by decide), fun z => absurd z (by decide), fun z => absurd z (by decide)⟩⟩)
      · rcases jr_rng p1 (n := n) (by omega) with c | ⟨c1, x, hx, e1⟩
        · exact jr_xf13_1 hL hN c (jr_yf13_1 hL hN c ⟨rfl, h0⟩)
        · exact jr_xe13 hL hN c1 (jr_ye13 hL hN c1 ⟨rfl, H1 13 p1 0 ⟨by unfold jr_Kd; decide, fun z => absurd z (by decide), fun z => absurd z (by decide), fun z => absurd z (by decide)⟩⟩)
    · exact br_t rfl (br_t (nI_lt hN (by omega)) (br_f c0 (br_f c13 (br_t rfl (br_t (nI_lt hN (by omega)) (br_f c0 (br_f c13 ⟨rfl, h0⟩)))))))
  · exact br_t rfl (br_f (nI_nlt (by omega) (by omega)) (br_t rfl (br_f (nI_nlt (by omega) (by omega)) ⟨rfl, h0⟩)))
end JRO2
end
section
theorem i_vc0 (k0 : Int32) (k1 : Int32) (k2 : Int32) (k3 : Int32) : wpX_init (fun u => wpY_init (fun v => i_Rel 4 u v) k0 k1 k2 k3) k0 k1 k2 k3 := by
  obtain ⟨V, _, hV, eV⟩ := jr_clN k0 (a := 1) (b := 8) (by omega) (by omega)
  obtain ⟨LL, _, hL, eL⟩ := jr_clN k1 (a := 16) (b := 96) (by omega) (by omega)
  obtain ⟨M, _, hM, eM⟩ := jr_clN k2 (a := 4) (b := 32) (by omega) (by omega)
  obtain ⟨F, _, hF, eF⟩ := jr_clN k3 (a := 1) (b := 16) (by omega) (by omega)
  have eV : jr_clm k0 1 8 = nI V := eV
  have eL : jr_clm k1 16 96 = nI LL := eL
  have eM : jr_clm k2 4 32 = nI M := eM
  have eF : jr_clm k3 1 16 = nI F := eF
  unfold wpX_init
  refine jr_xcl (jr_xcl (jr_xcl (jr_xcl ?_)))
  unfold wpY_init
  refine jr_ycl (jr_ycl (jr_ycl (jr_ycl ?_)))
  rw [eV, eL, eM, eF]
  exact jr_mk0 (n := 0) (N := 0) ⟨hV, hL, hM, hF, Nat.zero_le _, Nat.zero_le _, fun i hi => absurd hi (Nat.not_lt_zero i), fun i hi => absurd hi (Nat.not_lt_zero i)⟩
theorem i_vc_constant {k : Nat} {u : SX} {v : SY} (I : i_Rel k u v) (hk : k + 4 ≤ 2052) (v1 : Int32) : wpX_constant (fun r u' => wpY_constant (fun r' v' => r' = r ∧ i_Rel (k + 4) u' v') v v1) u v1 := by
  refine jr_el (Q := fun u v => wpX_constant (fun r u' => wpY_constant (fun r' v' => r' = r ∧ i_Rel (k + 4) u' v') v v1) u v1) ?_ ?_ I
  · intro V LL M F n N pc oc gp se pl pg pm gy st nk na nb nm nv lk la lb ho mo tl ph pt oi tg sm wk wa wb fr me po B
    have ⟨hV, hL, hM, hF, hn, hN, HN, HLi⟩ := B
    by_cases c : n < M
    · refine br_t rfl (br_t (nI_lt c (by omega)) (jr_xan (by omega) ?_))
      refine br_t rfl (br_t (nI_lt c (by omega)) (jr_yan (by omega) ⟨rfl, ?_⟩))
      exact jr_mk0 ⟨hV, hL, hM, hF, by omega, hN, jr_nde HN (Or.inl ⟨rfl, rfl⟩), jr_lin HLi⟩
    · exact br_t rfl (br_f (nI_nlt (by omega) (by omega)) (br_t rfl (br_f (nI_nlt (by omega) (by omega)) ⟨rfl, jr_mk0 B⟩)))
  · intro V LL M F n N f oc gp ck pl pg pm st nk na nb nm nv lk la lb ho mo tl ph pt oi tg sm wk wa wb fr me po B D
    have ⟨hV, hL, hM, hF, hn, hN, HN, HLi⟩ := B
    have ⟨hf, F0, hp, CT, pg0, tab⟩ := D
    exact br_f (by decide) (br_f (by decide) ⟨rfl, jr_mk1 B D⟩)
theorem i_vc_variable {k : Nat} {u : SX} {v : SY} (I : i_Rel k u v) (hk : k + 4 ≤ 2052) (v1 : Int32) : wpX_variable (fun r u' => wpY_variable (fun r' v' => r' = r ∧ i_Rel (k + 4) u' v') v v1) u v1 := by
  refine jr_el (Q := fun u v => wpX_variable (fun r u' => wpY_variable (fun r' v' => r' = r ∧ i_Rel (k + 4) u' v') v v1) u v1) ?_ ?_ I
  · intro V LL M F n N pc oc gp se pl pg pm gy st nk na nb nm nv lk la lb ho mo tl ph pt oi tg sm wk wa wb fr me po B
    have ⟨hV, hL, hM, hF, hn, hN, HN, HLi⟩ := B
    by_cases c : n < M
    · rcases jr_rng v1 (n := V) (by omega) with z | ⟨z, x, hx, e⟩
      · exact br_t rfl (br_t (nI_lt c (by omega)) (jr_xiv0 z (br_t rfl (br_t rfl (br_t (nI_lt c (by omega)) (jr_yiv0 z (br_t rfl ⟨rfl, jr_mk0 B⟩)))))))
      · subst e
        refine br_t rfl (br_t (nI_lt c (by omega)) (jr_xiv1 z.1 z.2 (br_f (by decide) (jr_xan (by omega) ?_))))
        refine br_t rfl (br_t (nI_lt c (by omega)) (jr_yiv1 z.1 z.2 (br_f (by decide) (jr_yan (by omega) ⟨rfl, ?_⟩))))
        exact jr_mk0 ⟨hV, hL, hM, hF, by omega, hN, jr_nde HN (Or.inr (Or.inl ⟨rfl, x, by omega, rfl, rfl⟩)), jr_lin HLi⟩
    · exact br_t rfl (br_f (nI_nlt (by omega) (by omega)) (br_t rfl (br_f (nI_nlt (by omega) (by omega)) ⟨rfl, jr_mk0 B⟩)))
  · intro V LL M F n N f oc gp ck pl pg pm st nk na nb nm nv lk la lb ho mo tl ph pt oi tg sm wk wa wb fr me po B D
    have ⟨hV, hL, hM, hF, hn, hN, HN, HLi⟩ := B
    have ⟨hf, F0, hp, CT, pg0, tab⟩ := D
    exact br_f (by decide) (br_f (by decide) ⟨rfl, jr_mk1 B D⟩)
theorem i_vc_binary {k : Nat} {u : SX} {v : SY} (I : i_Rel k u v) (hk : k + 4 ≤ 2052) (v1 : Int32) (v2 : Int32) (v3 : Int32) : wpX_binary (fun r u' => wpY_binary (fun r' v' => r' = r ∧ i_Rel (k + 4) u' v') v v1 v2 v3) u v1 v2 v3 := by
  refine jr_el (Q := fun u v => wpX_binary (fun r u' => wpY_binary (fun r' v' => r' = r ∧ i_Rel (k + 4) u' v') v v1 v2 v3) u v1 v2 v3) ?_ ?_ I
  · intro V LL M F n N pc oc gp se pl pg pm gy st nk na nb nm nv lk la lb ho mo tl ph pt oi tg sm wk wa wb fr me po B
    have ⟨hV, hL, hM, hF, hn, hN, HN, HLi⟩ := B
    by_cases c : n < M
    · have cc : nI n < nI M := nI_lt c (by omega)
      by_cases c0 : v1 < 0
      · exact br_t rfl (br_t cc (br_t c0 (br_t rfl (br_t cc (br_t c0 ⟨rfl, jr_mk0 B⟩)))))
      by_cases c9 : v1 ≤ 9
      · have c9' : ¬ 9 < v1 := Int32.not_lt.mpr c9
        obtain ⟨o, h9, e0⟩ := nI_of2 (M := 9) (n := 9) (by decide) c0 c9
        rcases jr_rng v2 (n := n) (by omega) with z | ⟨z, x, hx, e1⟩
        · exact br_t rfl (br_t cc (br_f c0 (br_t c9 (jr_xin0 z (br_t rfl (br_t rfl (br_t cc (br_f c0 (br_f c9' (jr_yin0 z (br_t rfl ⟨rfl, jr_mk0 B⟩)))))))))))
        rcases jr_rng v3 (n := n) (by omega) with z2 | ⟨z2, y, hy, e2⟩
        · exact br_t rfl (br_t cc (br_f c0 (br_t c9 (jr_xin1 z.1 z.2 (br_f (by decide) (jr_xin0 z2 (br_t rfl (br_t rfl (br_t cc (br_f c0 (br_f c9' (jr_yin1 z.1 z.2 (br_f (by decide) (jr_yin0 z2 (br_t rfl ⟨rfl, jr_mk0 B⟩)))))))))))))))
        · subst e0 e1 e2
          refine br_t rfl (br_t cc (br_f c0 (br_t c9 (jr_xin1 z.1 z.2 (br_f (by decide) (jr_xin1 z2.1 z2.2 (br_f (by decide) ⟨vp_in_nI (by omega) (by decide), vp_in_nI (by omega) (by decide), nm_r (e' := nm x ||| nm y) (by rw [nI_clamp (by omega), nI_clamp (by omega)]) (jr_xan (by omega) ?_)⟩)))))))
          refine br_t rfl (br_t cc (br_f c0 (br_f c9' (jr_yin1 z.1 z.2 (br_f (by decide) (jr_yin1 z2.1 z2.2 (br_f (by decide) (jr_yan (by omega) ⟨rfl, ?_⟩))))))))
          exact jr_mk0 ⟨hV, hL, hM, hF, by omega, hN, jr_nde HN (Or.inr (Or.inr ⟨o, x, y, by omega, hx, hy, rfl, rfl, rfl, rfl⟩)), jr_lin HLi⟩
      · exact br_t rfl (br_t cc (br_f c0 (br_f c9 (br_t rfl (br_t cc (br_f c0 (br_t (Int32.not_le.mp c9) ⟨rfl, jr_mk0 B⟩)))))))
    · exact br_t rfl (br_f (nI_nlt (by omega) (by omega)) (br_t rfl (br_f (nI_nlt (by omega) (by omega)) ⟨rfl, jr_mk0 B⟩)))
  · intro V LL M F n N f oc gp ck pl pg pm st nk na nb nm nv lk la lb ho mo tl ph pt oi tg sm wk wa wb fr me po B D
    have ⟨hV, hL, hM, hF, hn, hN, HN, HLi⟩ := B
    have ⟨hf, F0, hp, CT, pg0, tab⟩ := D
    exact br_f (by decide) (br_f (by decide) ⟨rfl, jr_mk1 B D⟩)
theorem jr_g2 {x : Int32} (c : ¬ x < 0) (e0 : ¬ x = 0) (e1 : ¬ x = 1) (e2 : ¬ x = 2) : ¬ x ≤ 2 := by
  intro h
  obtain ⟨o, h9, e⟩ := nI_of2 (M := 2) (n := 2) (by decide) c h
  subst e
  have z : o = 0 ∨ o = 1 ∨ o = 2 := by omega
  rcases z with rfl | rfl | rfl
  · exact e0 rfl
  · exact e1 rfl
  · exact e2 rfl
theorem i_vc_nodeField {k : Nat} {u : SX} {v : SY} (I : i_Rel k u v) (hk : k + 4 ≤ 2052) (v1 : Int32) (v2 : Int32) : wpX_nodeField (fun r => wpY_nodeField (fun r' => r' = r ∧ i_Rel (k + 4) u v) v v1 v2) u v1 v2 := by
  refine jr_el (Q := fun u v => wpX_nodeField (fun r => wpY_nodeField (fun r' => r' = r ∧ i_Rel (k + 4) u v) v v1 v2) u v1 v2) ?_ ?_ I
  · intro V LL M F n N pc oc gp se pl pg pm gy st nk na nb nm nv lk la lb ho mo tl ph pt oi tg sm wk wa wb fr me po B
    have ⟨hV, hL, hM, hF, hn, hN, HN, HLi⟩ := B
    unfold wpX_nodeField wpY_nodeField
    rcases jr_rng v1 (n := n) (by omega) with z | ⟨z, x, hx, e⟩
    · exact jr_xin0 z (br_t rfl (jr_yin0 z (br_t rfl ⟨rfl, jr_mk0 B⟩)))
    · have vi : vp_in v1 32 := by rw [e]; exact vp_in_nI (by omega) (by decide)
      refine jr_xin1 z.1 z.2 (br_f (by decide) ?_)
      by_cases e0 : v2 = 0
      · subst e0
        exact br_t rfl ⟨vi, jr_yin1 z.1 z.2 (br_f (by decide) (br_f (by decide) (br_t (by decide) (br_t rfl ⟨vi, rfl, jr_mk0 B⟩))))⟩
      by_cases e1 : v2 = 1
      · subst e1
        exact br_f (by decide) (br_t rfl ⟨vi, jr_yin1 z.1 z.2 (br_f (by decide) (br_f (by decide) (br_t (by decide) (br_f (by decide) (br_t rfl ⟨vi, rfl, jr_mk0 B⟩)))))⟩)
      by_cases e2 : v2 = 2
      · subst e2
        exact br_f (by decide) (br_f (by decide) (br_t rfl ⟨vi, jr_yin1 z.1 z.2 (br_f (by decide) (br_f (by decide) (br_t (by decide) (br_f (by decide) (br_f (by decide) ⟨vi, rfl, jr_mk0 B⟩)))))⟩))
      · refine br_f e0 (br_f e1 (br_f e2 (jr_yin1 z.1 z.2 (br_f (by decide) ?_))))
        by_cases c0 : v2 < 0
        · exact br_t c0 ⟨rfl, jr_mk0 B⟩
        · exact br_f c0 (br_f (jr_g2 c0 e0 e1 e2) ⟨rfl, jr_mk0 B⟩)
  · intro V LL M F n N f oc gp ck pl pg pm st nk na nb nm nv lk la lb ho mo tl ph pt oi tg sm wk wa wb fr me po B D
    have ⟨hV, hL, hM, hF, hn, hN, HN, HLi⟩ := B
    have ⟨hf, F0, hp, CT, pg0, tab⟩ := D
    unfold wpX_nodeField wpY_nodeField
    rcases jr_rng v1 (n := n) (by omega) with z | ⟨z, x, hx, e⟩
    · exact jr_xin0 z (br_t rfl (jr_yin0 z (br_t rfl ⟨rfl, jr_mk1 B D⟩)))
    · have vi : vp_in v1 32 := by rw [e]; exact vp_in_nI (by omega) (by decide)
      refine jr_xin1 z.1 z.2 (br_f (by decide) ?_)
      by_cases e0 : v2 = 0
      · subst e0
        exact br_t rfl ⟨vi, jr_yin1 z.1 z.2 (br_f (by decide) (br_f (by decide) (br_t (by decide) (br_t rfl ⟨vi, rfl, jr_mk1 B D⟩))))⟩
      by_cases e1 : v2 = 1
      · subst e1
        exact br_f (by decide) (br_t rfl ⟨vi, jr_yin1 z.1 z.2 (br_f (by decide) (br_f (by decide) (br_t (by decide) (br_f (by decide) (br_t rfl ⟨vi, rfl, jr_mk1 B D⟩)))))⟩)
      by_cases e2 : v2 = 2
      · subst e2
        exact br_f (by decide) (br_f (by decide) (br_t rfl ⟨vi, jr_yin1 z.1 z.2 (br_f (by decide) (br_f (by decide) (br_t (by decide) (br_f (by decide) (br_f (by decide) ⟨vi, rfl, jr_mk1 B D⟩)))))⟩))
      · refine br_f e0 (br_f e1 (br_f e2 (jr_yin1 z.1 z.2 (br_f (by decide) ?_))))
        by_cases c0 : v2 < 0
        · exact br_t c0 ⟨rfl, jr_mk1 B D⟩
        · exact br_f c0 (br_f (jr_g2 c0 e0 e1 e2) ⟨rfl, jr_mk1 B D⟩)
theorem i_vc_eval {k : Nat} {u : SX} {v : SY} (I : i_Rel k u v) (hk : k + 4 ≤ 2052) (v1 : Int32) : wpX_eval (fun r u' => wpY_eval (fun r' v' => r' = r ∧ i_Rel (k + 4) u' v') v v1) u v1 := by
  refine jr_el (Q := fun u v => wpX_eval (fun r u' => wpY_eval (fun r' v' => r' = r ∧ i_Rel (k + 4) u' v') v v1) u v1) ?_ ?_ I
  · intro V LL M F n N pc oc gp se pl pg pm gy st nk na nb nm nv lk la lb ho mo tl ph pt oi tg sm wk wa wb fr me po B
    have ⟨hV, hL, hM, hF, hn, hN, HN, HLi⟩ := B
    unfold wpX_eval
    refine jr_xvo (by omega) HN ?_
    exact jr_yvo (by omega) HN ⟨rfl, jr_mk0 B⟩
  · intro V LL M F n N f oc gp ck pl pg pm st nk na nb nm nv lk la lb ho mo tl ph pt oi tg sm wk wa wb fr me po B D
    have ⟨hV, hL, hM, hF, hn, hN, HN, HLi⟩ := B
    have ⟨hf, F0, hp, CT, pg0, tab⟩ := D
    unfold wpX_eval
    refine jr_xvo (by omega) HN ?_
    exact jr_yvo (by omega) HN ⟨rfl, jr_mk1 B D⟩
theorem i_vc_emit {k : Nat} {u : SX} {v : SY} (I : i_Rel k u v) (hk : k + 4 ≤ 2052) (v1 : Int32) (v2 : Int32) (v3 : Int32) : wpX_emit (fun r u' => wpY_emit (fun r' v' => r' = r ∧ i_Rel (k + 4) u' v') v v1 v2 v3) u v1 v2 v3 := by
  refine jr_el (Q := fun u v => wpX_emit (fun r u' => wpY_emit (fun r' v' => r' = r ∧ i_Rel (k + 4) u' v') v v1 v2 v3) u v1 v2 v3) ?_ ?_ I
  · intro V LL M F n N pc oc gp se pl pg pm gy st nk na nb nm nv lk la lb ho mo tl ph pt oi tg sm wk wa wb fr me po B
    have ⟨hV, hL, hM, hF, hn, hN, HN, HLi⟩ := B
    exact jr_em (Q := fun u' v' => i_Rel (k + 4) u' v') hL hN hV (by omega) (jr_mk0 B) (fun h kk a b L => jr_mk0 ⟨hV, hL, hM, hF, hn, by omega, HN, jr_lie HLi L⟩)
  · intro V LL M F n N f oc gp ck pl pg pm st nk na nb nm nv lk la lb ho mo tl ph pt oi tg sm wk wa wb fr me po B D
    have ⟨hV, hL, hM, hF, hn, hN, HN, HLi⟩ := B
    have ⟨hf, F0, hp, CT, pg0, tab⟩ := D
    exact br_f (by decide) (br_f (by decide) ⟨rfl, jr_mk1 B D⟩)
theorem i_vc_retract {k : Nat} {u : SX} {v : SY} (I : i_Rel k u v) (hk : k + 4 ≤ 2052) : wpX_retract (fun r u' => wpY_retract (fun r' v' => r' = r ∧ i_Rel (k + 4) u' v') v) u := by
  refine jr_el (Q := fun u v => wpX_retract (fun r u' => wpY_retract (fun r' v' => r' = r ∧ i_Rel (k + 4) u' v') v) u) ?_ ?_ I
  · intro V LL M F n N pc oc gp se pl pg pm gy st nk na nb nm nv lk la lb ho mo tl ph pt oi tg sm wk wa wb fr me po B
    have ⟨hV, hL, hM, hF, hn, hN, HN, HLi⟩ := B
    by_cases c : N = 0
    · have c' : nI N = 0 := by rw [c]; rfl
      exact br_t rfl (br_t c' (br_t rfl (br_t c' ⟨rfl, jr_mk0 B⟩)))
    · obtain ⟨N', rfl⟩ : ∃ N', N = N' + 1 := ⟨N - 1, by omega⟩
      have c' : ¬ nI (N' + 1) = 0 := nI_ne0 (by omega) (by omega)
      exact br_t rfl (br_f c' (nm_r (nI_pred N') (br_t rfl (br_f c' (nm_r (nI_pred N') ⟨rfl, jr_mk0 ⟨hV, hL, hM, hF, hn, by omega, HN, jr_lid HLi⟩⟩)))))
  · intro V LL M F n N f oc gp ck pl pg pm st nk na nb nm nv lk la lb ho mo tl ph pt oi tg sm wk wa wb fr me po B D
    have ⟨hV, hL, hM, hF, hn, hN, HN, HLi⟩ := B
    have ⟨hf, F0, hp, CT, pg0, tab⟩ := D
    exact br_f (by decide) (br_f (by decide) ⟨rfl, jr_mk1 B D⟩)
theorem i_vc_field {k : Nat} {u : SX} {v : SY} (I : i_Rel k u v) (hk : k + 4 ≤ 2052) (v1 : Int32) (v2 : Int32) : wpX_field (fun r => wpY_field (fun r' => r' = r ∧ i_Rel (k + 4) u v) v v1 v2) u v1 v2 := by
  refine jr_el (Q := fun u v => wpX_field (fun r => wpY_field (fun r' => r' = r ∧ i_Rel (k + 4) u v) v v1 v2) u v1 v2) ?_ ?_ I
  · intro V LL M F n N pc oc gp se pl pg pm gy st nk na nb nm nv lk la lb ho mo tl ph pt oi tg sm wk wa wb fr me po B
    have ⟨hV, hL, hM, hF, hn, hN, HN, HLi⟩ := B
    rcases jr_rng v1 (n := N) (by omega) with z | ⟨z, x, hx, e⟩
    · by_cases c0 : v1 < 0
      · exact br_t c0 (br_t c0 ⟨rfl, jr_mk0 B⟩)
      · have c1 := z.resolve_left c0
        exact br_f c0 (br_f (Int32.not_lt.mpr c1) (br_f c0 (br_t c1 ⟨rfl, jr_mk0 B⟩)))
    · have vi : vp_in v1 96 := by rw [e]; exact vp_in_nI (by omega) (by decide)
      refine br_f z.1 (br_t (Int32.not_le.mp z.2) ?_)
      by_cases e0 : v2 = 0
      · subst e0
        exact br_t rfl ⟨vi, br_f z.1 (br_f z.2 (br_f (by decide) (br_t (by decide) (br_t rfl ⟨vi, rfl, jr_mk0 B⟩))))⟩
      by_cases e1 : v2 = 1
      · subst e1
        exact br_f (by decide) (br_t rfl ⟨vi, br_f z.1 (br_f z.2 (br_f (by decide) (br_t (by decide) (br_f (by decide) (br_t rfl ⟨vi, rfl, jr_mk0 B⟩)))))⟩)
      by_cases e2 : v2 = 2
      · subst e2
        exact br_f (by decide) (br_f (by decide) (br_t rfl ⟨vi, br_f z.1 (br_f z.2 (br_f (by decide) (br_t (by decide) (br_f (by decide) (br_f (by decide) ⟨vi, rfl, jr_mk0 B⟩)))))⟩))
      · refine br_f e0 (br_f e1 (br_f e2 (br_f z.1 (br_f z.2 ?_))))
        by_cases c0 : v2 < 0
        · exact br_t c0 ⟨rfl, jr_mk0 B⟩
        · exact br_f c0 (br_f (jr_g2 c0 e0 e1 e2) ⟨rfl, jr_mk0 B⟩)
  · intro V LL M F n N f oc gp ck pl pg pm st nk na nb nm nv lk la lb ho mo tl ph pt oi tg sm wk wa wb fr me po B D
    have ⟨hV, hL, hM, hF, hn, hN, HN, HLi⟩ := B
    have ⟨hf, F0, hp, CT, pg0, tab⟩ := D
    rcases jr_rng v1 (n := N) (by omega) with z | ⟨z, x, hx, e⟩
    · by_cases c0 : v1 < 0
      · exact br_t c0 (br_t c0 ⟨rfl, jr_mk1 B D⟩)
      · have c1 := z.resolve_left c0
        exact br_f c0 (br_f (Int32.not_lt.mpr c1) (br_f c0 (br_t c1 ⟨rfl, jr_mk1 B D⟩)))
    · have vi : vp_in v1 96 := by rw [e]; exact vp_in_nI (by omega) (by decide)
      refine br_f z.1 (br_t (Int32.not_le.mp z.2) ?_)
      by_cases e0 : v2 = 0
      · subst e0
        exact br_t rfl ⟨vi, br_f z.1 (br_f z.2 (br_f (by decide) (br_t (by decide) (br_t rfl ⟨vi, rfl, jr_mk1 B D⟩))))⟩
      by_cases e1 : v2 = 1
      · subst e1
        exact br_f (by decide) (br_t rfl ⟨vi, br_f z.1 (br_f z.2 (br_f (by decide) (br_t (by decide) (br_f (by decide) (br_t rfl ⟨vi, rfl, jr_mk1 B D⟩)))))⟩)
      by_cases e2 : v2 = 2
      · subst e2
        exact br_f (by decide) (br_f (by decide) (br_t rfl ⟨vi, br_f z.1 (br_f z.2 (br_f (by decide) (br_t (by decide) (br_f (by decide) (br_f (by decide) ⟨vi, rfl, jr_mk1 B D⟩)))))⟩))
      · refine br_f e0 (br_f e1 (br_f e2 (br_f z.1 (br_f z.2 ?_))))
        by_cases c0 : v2 < 0
        · exact br_t c0 ⟨rfl, jr_mk1 B D⟩
        · exact br_f c0 (br_f (jr_g2 c0 e0 e1 e2) ⟨rfl, jr_mk1 B D⟩)
theorem i_vc_compile {k : Nat} {u : SX} {v : SY} (I : i_Rel k u v) (hk : k + 4 ≤ 2052) : wpX_compile (fun r u' => wpY_compile (fun r' v' => r' = r ∧ i_Rel (k + 4) u' v') v) u := by
  refine jr_el (Q := fun u v => wpX_compile (fun r u' => wpY_compile (fun r' v' => r' = r ∧ i_Rel (k + 4) u' v') v) u) ?_ ?_ I
  · intro V LL M F n N pc oc gp se pl pg pm gy st nk na nb nm nv lk la lb ho mo tl ph pt oi tg sm wk wa wb fr me po B
    have ⟨hV, hL, hM, hF, hn, hN, HN, HLi⟩ := B
    exact jr_cmp (Q := fun u' v' => i_Rel (k + 4) u' v') (by omega) (by omega) HN HLi (fun c oi me => jr_mk0 B)
      (fun oi ho mo tl ph pt me i0 hp ct pg tab => jr_mk1 (f := 0) B ⟨Nat.zero_le _, fun i hi => absurd hi (Nat.not_lt_zero i), hp, ct, pg, tab⟩)
  · intro V LL M F n N f oc gp ck pl pg pm st nk na nb nm nv lk la lb ho mo tl ph pt oi tg sm wk wa wb fr me po B D
    have ⟨hV, hL, hM, hF, hn, hN, HN, HLi⟩ := B
    have ⟨hf, F0, hp, CT, pg0, tab⟩ := D
    exact br_f (by decide) (br_f (by decide) ⟨rfl, jr_mk1 B D⟩)
theorem i_vc_edit {k : Nat} {u : SX} {v : SY} (I : i_Rel k u v) (hk : k + 4 ≤ 2052) : wpX_edit (fun r u' => wpY_edit (fun r' v' => r' = r ∧ i_Rel (k + 4) u' v') v) u := by
  refine jr_el (Q := fun u v => wpX_edit (fun r u' => wpY_edit (fun r' v' => r' = r ∧ i_Rel (k + 4) u' v') v) u) ?_ ?_ I
  · intro V LL M F n N pc oc gp se pl pg pm gy st nk na nb nm nv lk la lb ho mo tl ph pt oi tg sm wk wa wb fr me po B
    have ⟨hV, hL, hM, hF, hn, hN, HN, HLi⟩ := B
    exact br_t rfl (br_t rfl ⟨rfl, jr_mk0 B⟩)
  · intro V LL M F n N f oc gp ck pl pg pm st nk na nb nm nv lk la lb ho mo tl ph pt oi tg sm wk wa wb fr me po B D
    have ⟨hV, hL, hM, hF, hn, hN, HN, HLi⟩ := B
    have ⟨hf, F0, hp, CT, pg0, tab⟩ := D
    exact br_f (by decide) (br_f (by decide) ⟨rfl, jr_mk0 B⟩)
theorem i_vc_invert {k : Nat} {u : SX} {v : SY} (I : i_Rel k u v) (hk : k + 4 ≤ 2052) : wpX_invert (fun r u' => wpY_invert (fun r' v' => r' = r ∧ i_Rel (k + 4) u' v') v) u := by
  refine jr_el (Q := fun u v => wpX_invert (fun r u' => wpY_invert (fun r' v' => r' = r ∧ i_Rel (k + 4) u' v') v) u) ?_ ?_ I
  · intro V LL M F n N pc oc gp se pl pg pm gy st nk na nb nm nv lk la lb ho mo tl ph pt oi tg sm wk wa wb fr me po B
    have ⟨hV, hL, hM, hF, hn, hN, HN, HLi⟩ := B
    exact br_t rfl (br_t rfl ⟨rfl, jr_mk0 B⟩)
  · intro V LL M F n N f oc gp ck pl pg pm st nk na nb nm nv lk la lb ho mo tl ph pt oi tg sm wk wa wb fr me po B D
    have ⟨hV, hL, hM, hF, hn, hN, HN, HLi⟩ := B
    have ⟨hf, F0, hp, CT, pg0, tab⟩ := D
    exact jr_inv (Q := fun u' v' => i_Rel (k + 4) u' v') (by omega) HLi hp CT pg0 tab (jr_mk1 B D)
      (fun lk la lb oi ho mo tl ph pt tg sm wk wa wb po i0 L ct pg tb => jr_mk1 (f := 0) ⟨hV, hL, hM, hF, hn, hN, HN, L⟩ ⟨Nat.zero_le _, fun i hi => absurd hi (Nat.not_lt_zero i), hp, ct, pg, tb⟩)
theorem i_vc_place {k : Nat} {u : SX} {v : SY} (I : i_Rel k u v) (hk : k + 4 ≤ 2052) (v1 : Int32) : wpX_place (fun r u' => wpY_place (fun r' v' => r' = r ∧ i_Rel (k + 4) u' v') v v1) u v1 := by
  refine jr_el (Q := fun u v => wpX_place (fun r u' => wpY_place (fun r' v' => r' = r ∧ i_Rel (k + 4) u' v') v v1) u v1) ?_ ?_ I
  · intro V LL M F n N pc oc gp se pl pg pm gy st nk na nb nm nv lk la lb ho mo tl ph pt oi tg sm wk wa wb fr me po B
    have ⟨hV, hL, hM, hF, hn, hN, HN, HLi⟩ := B
    exact br_t rfl (br_t rfl ⟨rfl, jr_mk0 B⟩)
  · intro V LL M F n N f oc gp ck pl pg pm st nk na nb nm nv lk la lb ho mo tl ph pt oi tg sm wk wa wb fr me po B D
    have ⟨hV, hL, hM, hF, hn, hN, HN, HLi⟩ := B
    have ⟨hf, F0, hp, CT, pg0, tab⟩ := D
    obtain ⟨a0, e0, ae, eN, k0, c0, q0, k1, hph, hpt⟩ := tab 0 (jr_cppos pg0 hp)
    have D0 : jr_D N 0 F lk la ho mo tl ph pt fr := ⟨Nat.zero_le _, fun i hi => absurd hi (Nat.not_lt_zero i), hp, CT, pg0, tab⟩
    by_cases c : v1 = 0
    · subst c
      refine br_f (by decide) (br_t rfl ?_)
      unfold wX_place_21
      refine br_t rfl (nm_r (e' := nI (a0 + 1)) (by rw [hph, nI_1]) ?_)
      exact jr_ypl0 (by omega) (by omega) k0 c0 ⟨rfl, jr_mk1 (f := 0) B D0⟩
    by_cases c1 : v1 = 1
    · subst c1
      refine br_f (by decide) (br_f (by decide) (br_t rfl ?_))
      unfold wX_place_21
      refine br_f (by decide) (nm_r (e' := nI e0) hpt ?_)
      refine br_f (by decide) (br_f (by decide) (br_t rfl ?_))
      unfold wY_place_21
      exact br_f (by decide) (jr_ylg (p := 0) (by omega) eN k0 c0 q0 k1 ⟨rfl, jr_mk1 (f := 0) B D0⟩)
    · exact br_f (by decide) (br_f c (br_f c1 (br_f (by decide) (br_f c (br_f c1 ⟨rfl, jr_mk1 B D⟩)))))
theorem i_vc_set {k : Nat} {u : SX} {v : SY} (I : i_Rel k u v) (hk : k + 4 ≤ 2052) (v1 : Int32) (v2 : Int32) : wpX_set (fun r u' => wpY_set (fun r' v' => r' = r ∧ i_Rel (k + 4) u' v') v v1 v2) u v1 v2 := by
  refine jr_el (Q := fun u v => wpX_set (fun r u' => wpY_set (fun r' v' => r' = r ∧ i_Rel (k + 4) u' v') v v1 v2) u v1 v2) ?_ ?_ I
  · intro V LL M F n N pc oc gp se pl pg pm gy st nk na nb nm nv lk la lb ho mo tl ph pt oi tg sm wk wa wb fr me po B
    have ⟨hV, hL, hM, hF, hn, hN, HN, HLi⟩ := B
    unfold wpX_set wpY_set
    rcases jr_rng v1 (n := V) (by omega) with z | ⟨z, x, hx, e⟩
    · exact jr_xiv0 z (br_t rfl (jr_yiv0 z (br_t rfl ⟨rfl, jr_mk0 B⟩)))
    · have vi : vp_in v1 8 := by rw [e]; exact vp_in_nI (by omega) (by decide)
      exact jr_xiv1 z.1 z.2 (br_f (by decide) (br_t rfl ⟨vi, nm_e (jr_yiv1 z.1 z.2 (br_f (by decide) (br_t rfl ⟨vi, nm_e ⟨rfl, jr_mk0 B⟩⟩)))⟩))
  · intro V LL M F n N f oc gp ck pl pg pm st nk na nb nm nv lk la lb ho mo tl ph pt oi tg sm wk wa wb fr me po B D
    have ⟨hV, hL, hM, hF, hn, hN, HN, HLi⟩ := B
    have ⟨hf, F0, hp, CT, pg0, tab⟩ := D
    unfold wpX_set wpY_set
    obtain ⟨a0, e0, ae, eN, k0, c0, q0, k1, hph, hpt⟩ := tab 0 (jr_cppos pg0 hp)
    rcases jr_rng v1 (n := V) (by omega) with z | ⟨z, x, hx, e⟩
    · exact jr_xiv0 z (br_t rfl (jr_yiv0 z (br_t rfl ⟨rfl, jr_mk1 B D⟩)))
    · have vi : vp_in v1 8 := by rw [e]; exact vp_in_nI (by omega) (by decide)
      refine jr_xiv1 z.1 z.2 (br_f (by decide) (br_f (by decide) (jr_xar (a := nI (a0 + 1)) (b := nI e0) (by rw [hph, nI_1]) hpt ?_)))
      by_cases q : jr_ar (nI f) gp (nI (a0 + 1)) (nI e0) = 0
      · exact br_t q (jr_yiv1 z.1 z.2 (br_f (by decide) (br_f (by decide) (jr_yar (by omega) eN k0 c0 q0 k1 (br_t q ⟨rfl, jr_mk1 B D⟩)))))
      · exact br_f q ⟨vi, nm_e (jr_yiv1 z.1 z.2 (br_f (by decide) (br_f (by decide) (jr_yar (by omega) eN k0 c0 q0 k1 (br_f q ⟨vi, nm_e ⟨rfl, jr_mk1 B D⟩⟩)))))⟩
theorem i_vc_get {k : Nat} {u : SX} {v : SY} (I : i_Rel k u v) (hk : k + 4 ≤ 2052) (v1 : Int32) : wpX_get (fun r => wpY_get (fun r' => r' = r ∧ i_Rel (k + 4) u v) v v1) u v1 := by
  refine jr_el (Q := fun u v => wpX_get (fun r => wpY_get (fun r' => r' = r ∧ i_Rel (k + 4) u v) v v1) u v1) ?_ ?_ I
  · intro V LL M F n N pc oc gp se pl pg pm gy st nk na nb nm nv lk la lb ho mo tl ph pt oi tg sm wk wa wb fr me po B
    have ⟨hV, hL, hM, hF, hn, hN, HN, HLi⟩ := B
    unfold wpX_get wpY_get
    rcases jr_rng v1 (n := V) (by omega) with z | ⟨z, x, hx, e⟩
    · exact jr_xiv0 z (br_t rfl (jr_yiv0 z (br_t rfl ⟨rfl, jr_mk0 B⟩)))
    · have vi : vp_in v1 8 := by rw [e]; exact vp_in_nI (by omega) (by decide)
      exact jr_xiv1 z.1 z.2 (br_f (by decide) ⟨vi, jr_yiv1 z.1 z.2 (br_f (by decide) ⟨vi, rfl, jr_mk0 B⟩)⟩)
  · intro V LL M F n N f oc gp ck pl pg pm st nk na nb nm nv lk la lb ho mo tl ph pt oi tg sm wk wa wb fr me po B D
    have ⟨hV, hL, hM, hF, hn, hN, HN, HLi⟩ := B
    have ⟨hf, F0, hp, CT, pg0, tab⟩ := D
    unfold wpX_get wpY_get
    rcases jr_rng v1 (n := V) (by omega) with z | ⟨z, x, hx, e⟩
    · exact jr_xiv0 z (br_t rfl (jr_yiv0 z (br_t rfl ⟨rfl, jr_mk1 B D⟩)))
    · have vi : vp_in v1 8 := by rw [e]; exact vp_in_nI (by omega) (by decide)
      exact jr_xiv1 z.1 z.2 (br_f (by decide) ⟨vi, jr_yiv1 z.1 z.2 (br_f (by decide) ⟨vi, rfl, jr_mk1 B D⟩)⟩)
theorem i_vc_forward {k : Nat} {u : SX} {v : SY} (I : i_Rel k u v) (hk : k + 4 ≤ 2052) (v1 : Int32) : wpX_forward (fun r u' => wpY_forward (fun r' v' => r' = r ∧ i_Rel (k + 4) u' v') v v1) u v1 := by
  refine jr_el (Q := fun u v => wpX_forward (fun r u' => wpY_forward (fun r' v' => r' = r ∧ i_Rel (k + 4) u' v') v v1) u v1) ?_ ?_ I
  · intro V LL M F n N pc oc gp se pl pg pm gy st nk na nb nm nv lk la lb ho mo tl ph pt oi tg sm wk wa wb fr me po B
    have ⟨hV, hL, hM, hF, hn, hN, HN, HLi⟩ := B
    unfold wpY_forward
    exact br_t rfl (br_t rfl ⟨rfl, jr_mk0 B⟩)
  · intro V LL M F n N f oc gp ck pl pg pm st nk na nb nm nv lk la lb ho mo tl ph pt oi tg sm wk wa wb fr me po B D
    have ⟨hV, hL, hM, hF, hn, hN, HN, HLi⟩ := B
    have ⟨hf, F0, hp, CT, pg0, tab⟩ := D
    unfold wpY_forward
    obtain ⟨r, gp', ck', pl', pg', pm', f', st', nv', fr', hf', F', hX, hY⟩ := jr_run (w := 1) (p := v1) (vl := nI V) (ll := nI LL) (nl := nI M) (pc := nI (jr_cp lk N)) (oc := oc) (gp := gp) (ck := ck) (pl := pl) (pg := pg) (pm := pm) (st := st) (nv := nv) (lb := lb) (oi := oi) (tg := tg) (sm := sm) (wk := wk) (wa := wa) (wb := wb) (me := me) (po := po) (Or.inl rfl) (show N ≤ 96 by omega) (show n ≤ 32 by omega) HN HLi hF hf CT pg0 tab F0
    refine br_f (by decide) (hX _ ?_)
    exact hY _ ⟨rfl, jr_mk1 B ⟨hf', F', hp, CT, pg0, tab⟩⟩
theorem i_vc_backward {k : Nat} {u : SX} {v : SY} (I : i_Rel k u v) (hk : k + 4 ≤ 2052) (v1 : Int32) : wpX_backward (fun r u' => wpY_backward (fun r' v' => r' = r ∧ i_Rel (k + 4) u' v') v v1) u v1 := by
  refine jr_el (Q := fun u v => wpX_backward (fun r u' => wpY_backward (fun r' v' => r' = r ∧ i_Rel (k + 4) u' v') v v1) u v1) ?_ ?_ I
  · intro V LL M F n N pc oc gp se pl pg pm gy st nk na nb nm nv lk la lb ho mo tl ph pt oi tg sm wk wa wb fr me po B
    have ⟨hV, hL, hM, hF, hn, hN, HN, HLi⟩ := B
    unfold wpY_backward
    exact br_t rfl (br_t rfl ⟨rfl, jr_mk0 B⟩)
  · intro V LL M F n N f oc gp ck pl pg pm st nk na nb nm nv lk la lb ho mo tl ph pt oi tg sm wk wa wb fr me po B D
    have ⟨hV, hL, hM, hF, hn, hN, HN, HLi⟩ := B
    have ⟨hf, F0, hp, CT, pg0, tab⟩ := D
    unfold wpY_backward
    obtain ⟨r, gp', ck', pl', pg', pm', f', st', nv', fr', hf', F', hX, hY⟩ := jr_run (w := -1) (p := v1) (vl := nI V) (ll := nI LL) (nl := nI M) (pc := nI (jr_cp lk N)) (oc := oc) (gp := gp) (ck := ck) (pl := pl) (pg := pg) (pm := pm) (st := st) (nv := nv) (lb := lb) (oi := oi) (tg := tg) (sm := sm) (wk := wk) (wa := wa) (wb := wb) (me := me) (po := po) (Or.inr rfl) (show N ≤ 96 by omega) (show n ≤ 32 by omega) HN HLi hF hf CT pg0 tab F0
    refine br_f (by decide) (hX _ ?_)
    exact hY _ ⟨rfl, jr_mk1 B ⟨hf', F', hp, CT, pg0, tab⟩⟩
theorem i_vc_ahead {k : Nat} {u : SX} {v : SY} (I : i_Rel k u v) (hk : k + 4 ≤ 2052) : wpX_ahead (fun r u' => wpY_ahead (fun r' v' => r' = r ∧ i_Rel (k + 4) u' v') v) u := by
  refine jr_el (Q := fun u v => wpX_ahead (fun r u' => wpY_ahead (fun r' v' => r' = r ∧ i_Rel (k + 4) u' v') v) u) ?_ ?_ I
  · intro V LL M F n N pc oc gp se pl pg pm gy st nk na nb nm nv lk la lb ho mo tl ph pt oi tg sm wk wa wb fr me po B
    have ⟨hV, hL, hM, hF, hn, hN, HN, HLi⟩ := B
    exact br_t rfl (br_t rfl ⟨rfl, jr_mk0 B⟩)
  · intro V LL M F n N f oc gp ck pl pg pm st nk na nb nm nv lk la lb ho mo tl ph pt oi tg sm wk wa wb fr me po B D
    have ⟨hV, hL, hM, hF, hn, hN, HN, HLi⟩ := B
    have ⟨hf, F0, hp, CT, pg0, tab⟩ := D
    obtain ⟨r, pl', pg', pm', nv1, hX, hY, _⟩ := jr_evt (w := 1) (rd := 1) (vl := nI V) (ll := nI LL) (nl := nI M) (pc := nI (jr_cp lk N)) (oc := oc) (gp := gp) (ck := ck) (pl := pl) (pg := pg) (pm := pm) (st := st) (nv := nv) (lb := lb) (oi := oi) (tg := tg) (sm := sm) (wk := wk) (wa := wa) (wb := wb) (me := me) (po := po) (Or.inl rfl) (show N ≤ 96 by omega) (show n ≤ 32 by omega) HN HLi hF hf CT pg0 tab F0
    exact br_f (by decide) (hX _ (br_f (by decide) (hY _ ⟨rfl, jr_mk1 B D⟩)))
theorem i_vc_behind {k : Nat} {u : SX} {v : SY} (I : i_Rel k u v) (hk : k + 4 ≤ 2052) : wpX_behind (fun r u' => wpY_behind (fun r' v' => r' = r ∧ i_Rel (k + 4) u' v') v) u := by
  refine jr_el (Q := fun u v => wpX_behind (fun r u' => wpY_behind (fun r' v' => r' = r ∧ i_Rel (k + 4) u' v') v) u) ?_ ?_ I
  · intro V LL M F n N pc oc gp se pl pg pm gy st nk na nb nm nv lk la lb ho mo tl ph pt oi tg sm wk wa wb fr me po B
    have ⟨hV, hL, hM, hF, hn, hN, HN, HLi⟩ := B
    exact br_t rfl (br_t rfl ⟨rfl, jr_mk0 B⟩)
  · intro V LL M F n N f oc gp ck pl pg pm st nk na nb nm nv lk la lb ho mo tl ph pt oi tg sm wk wa wb fr me po B D
    have ⟨hV, hL, hM, hF, hn, hN, HN, HLi⟩ := B
    have ⟨hf, F0, hp, CT, pg0, tab⟩ := D
    obtain ⟨r, pl', pg', pm', nv1, hX, hY, _⟩ := jr_evt (w := -1) (rd := 1) (vl := nI V) (ll := nI LL) (nl := nI M) (pc := nI (jr_cp lk N)) (oc := oc) (gp := gp) (ck := ck) (pl := pl) (pg := pg) (pm := pm) (st := st) (nv := nv) (lb := lb) (oi := oi) (tg := tg) (sm := sm) (wk := wk) (wa := wa) (wb := wb) (me := me) (po := po) (Or.inr rfl) (show N ≤ 96 by omega) (show n ≤ 32 by omega) HN HLi hF hf CT pg0 tab F0
    exact br_f (by decide) (hX _ (br_f (by decide) (hY _ ⟨rfl, jr_mk1 B D⟩)))
theorem i_vc_clock {k : Nat} {u : SX} {v : SY} (I : i_Rel k u v) (hk : k + 4 ≤ 2052) : wpX_clock (fun r => wpY_clock (fun r' => r' = r ∧ i_Rel (k + 4) u v) v) u := by
  refine jr_el (Q := fun u v => wpX_clock (fun r => wpY_clock (fun r' => r' = r ∧ i_Rel (k + 4) u v) v) u) ?_ ?_ I
  · intro V LL M F n N pc oc gp se pl pg pm gy st nk na nb nm nv lk la lb ho mo tl ph pt oi tg sm wk wa wb fr me po B
    have ⟨hV, hL, hM, hF, hn, hN, HN, HLi⟩ := B
    exact br_t rfl ⟨rfl, jr_mk0 B⟩
  · intro V LL M F n N f oc gp ck pl pg pm st nk na nb nm nv lk la lb ho mo tl ph pt oi tg sm wk wa wb fr me po B D
    have ⟨hV, hL, hM, hF, hn, hN, HN, HLi⟩ := B
    have ⟨hf, F0, hp, CT, pg0, tab⟩ := D
    exact br_f (by decide) ⟨rfl, jr_mk1 B D⟩
theorem i_vc_where {k : Nat} {u : SX} {v : SY} (I : i_Rel k u v) (hk : k + 4 ≤ 2052) : wpX_where (fun r => wpY_where (fun r' => r' = r ∧ i_Rel (k + 4) u v) v) u := by
  refine jr_el (Q := fun u v => wpX_where (fun r => wpY_where (fun r' => r' = r ∧ i_Rel (k + 4) u v) v) u) ?_ ?_ I
  · intro V LL M F n N pc oc gp se pl pg pm gy st nk na nb nm nv lk la lb ho mo tl ph pt oi tg sm wk wa wb fr me po B
    have ⟨hV, hL, hM, hF, hn, hN, HN, HLi⟩ := B
    exact br_t rfl (br_t rfl ⟨rfl, jr_mk0 B⟩)
  · intro V LL M F n N f oc gp ck pl pg pm st nk na nb nm nv lk la lb ho mo tl ph pt oi tg sm wk wa wb fr me po B D
    have ⟨hV, hL, hM, hF, hn, hN, HN, HLi⟩ := B
    have ⟨hf, F0, hp, CT, pg0, tab⟩ := D
    exact br_f (by decide) (br_f (by decide) ⟨rfl, jr_mk1 B D⟩)
theorem i_vc_depth {k : Nat} {u : SX} {v : SY} (I : i_Rel k u v) (hk : k + 4 ≤ 2052) : wpX_depth (fun r => wpY_depth (fun r' => r' = r ∧ i_Rel (k + 4) u v) v) u := by
  refine jr_el (Q := fun u v => wpX_depth (fun r => wpY_depth (fun r' => r' = r ∧ i_Rel (k + 4) u v) v) u) ?_ ?_ I
  · intro V LL M F n N pc oc gp se pl pg pm gy st nk na nb nm nv lk la lb ho mo tl ph pt oi tg sm wk wa wb fr me po B
    have ⟨hV, hL, hM, hF, hn, hN, HN, HLi⟩ := B
    exact br_t rfl ⟨rfl, jr_mk0 B⟩
  · intro V LL M F n N f oc gp ck pl pg pm st nk na nb nm nv lk la lb ho mo tl ph pt oi tg sm wk wa wb fr me po B D
    have ⟨hV, hL, hM, hF, hn, hN, HN, HLi⟩ := B
    have ⟨hf, F0, hp, CT, pg0, tab⟩ := D
    exact br_f (by decide) ⟨rfl, jr_mk1 B D⟩
theorem i_vc_frame {k : Nat} {u : SX} {v : SY} (I : i_Rel k u v) (hk : k + 4 ≤ 2052) (v1 : Int32) : wpX_frame (fun r => wpY_frame (fun r' => r' = r ∧ i_Rel (k + 4) u v) v v1) u v1 := by
  refine jr_el (Q := fun u v => wpX_frame (fun r => wpY_frame (fun r' => r' = r ∧ i_Rel (k + 4) u v) v v1) u v1) ?_ ?_ I
  · intro V LL M F n N pc oc gp se pl pg pm gy st nk na nb nm nv lk la lb ho mo tl ph pt oi tg sm wk wa wb fr me po B
    have ⟨hV, hL, hM, hF, hn, hN, HN, HLi⟩ := B
    by_cases c : v1 < 0
    · exact br_t c (br_t rfl ⟨rfl, jr_mk0 B⟩)
    · exact br_f c (br_f c (br_t rfl ⟨rfl, jr_mk0 B⟩))
  · intro V LL M F n N f oc gp ck pl pg pm st nk na nb nm nv lk la lb ho mo tl ph pt oi tg sm wk wa wb fr me po B D
    have ⟨hV, hL, hM, hF, hn, hN, HN, HLi⟩ := B
    have ⟨hf, F0, hp, CT, pg0, tab⟩ := D
    rcases jr_rng v1 (n := f) (by omega) with z | ⟨z, x, hx, e⟩
    · by_cases c0 : v1 < 0
      · exact br_t c0 (br_f (by decide) (br_t c0 ⟨rfl, jr_mk1 B D⟩))
      · have c1 := z.resolve_left c0
        exact br_f c0 (br_f (Int32.not_lt.mpr c1) (br_f (by decide) (br_f c0 (br_t c1 ⟨rfl, jr_mk1 B D⟩))))
    · have vi : vp_in v1 16 := by rw [e]; exact vp_in_nI (by omega) (by decide)
      exact br_f z.1 (br_t (Int32.not_le.mp z.2) ⟨vi, br_f (by decide) (br_f z.1 (br_f z.2 ⟨vi, rfl, jr_mk1 B D⟩))⟩)
end
